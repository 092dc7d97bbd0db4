section
/-! pure rows to paste: stores, nI and lN arithmetic, masks, shifts, narrowing, branches by naturals (pk_le, pk_lt, pk_eq), loops (lp1 .. lp16: the measure of the state; rp1 ..: recursion), negatives. Take what you need -/
theorem pk_us {f : Nat → Int32} {k : Nat} {x : Int32} : upd f k x k = x := if_pos rfl
theorem pk_un {f : Nat → Int32} {k j : Nat} {x : Int32} (h : j ≠ k) : upd f k x j = f j := if_neg h
theorem pk_uLs {f : Nat → Int64} {k : Nat} {x : Int64} : vp_updL f k x k = x := if_pos rfl
theorem pk_uLn {f : Nat → Int64} {k j : Nat} {x : Int64} (h : j ≠ k) : vp_updL f k x j = f j := if_neg h
theorem pk_sub {a b : Nat} (h : b ≤ a) : nI a - nI b = nI (a - b) := by
  obtain ⟨c, rfl⟩ : ∃ c, a = c + b := ⟨a - b, by omega⟩
  rw [← nI_add, Int32.add_sub_cancel, Nat.add_sub_cancel]
theorem pk_m1 (n : Nat) : nI (n + 1) + (-1) = nI n := by
  rw [← nI_1, Int32.add_assoc, show (1 : Int32) + (-1) = 0 from rfl, Int32.add_zero]
theorem pk_mul (a b : Nat) : nI a * nI b = nI (a * b) := (Int32.ofNat_mul a b).symm
theorem pk_div {a d : Nat} (ha : a < 2 ^ 31) (h0 : 0 < d) (hd : d < 2 ^ 31) : nI a / nI d = nI (a / d) := by
  apply Int32.toInt_inj.mp
  rw [lg_idiv_nonneg (by rw [nI_toInt ha]; omega) (by rw [nI_toInt hd]; omega), nI_toInt ha, nI_toInt hd, nI_toInt (Nat.lt_of_le_of_lt (Nat.div_le_self a d) ha)]
  first | rfl | exact (Int.natCast_ediv _ _).symm
theorem pk_rem {a d : Nat} (ha : a < 2 ^ 31) (h0 : 0 < d) (hd : d < 2 ^ 31) : nI a - nI a / nI d * nI d = nI (a % d) := by
  rw [pk_div ha h0 hd, pk_mul, pk_sub (Nat.div_mul_le_self a d)]
  exact congrArg nI (by have := Nat.div_add_mod' a d; omega)
theorem pk_sub_toInt {a b : Nat} (ha : a < 2 ^ 30) (hb : b < 2 ^ 30) : (nI a - nI b).toInt = (a : Int) - b := by
  rw [Int32.toInt_sub, nI_toInt (by omega), nI_toInt (by omega)]
  exact Int.bmod_eq_of_le (by omega) (by omega)
theorem pk_sneg {a b : Nat} (hb : b < 2 ^ 30) (h : a < b) : nI a - nI b < 0 := by
  rw [Int32.lt_iff_toInt_lt, pk_sub_toInt (by omega) hb, show (0 : Int32).toInt = 0 from by decide]
  omega
theorem pk_ix (x : Int32) {n : Nat} (hn : n < 2 ^ 31) : x < 0 ∨ nI n ≤ x ∨ ∃ j : Nat, j < n ∧ x = nI j := by
  by_cases h : x < 0
  · exact Or.inl h
  · obtain ⟨j, hj, rfl⟩ := nI_of h
    by_cases h2 : j < n
    · exact Or.inr (Or.inr ⟨j, h2, rfl⟩)
    · exact Or.inr (Or.inl (nI_le (by omega) hj))
theorem pk_le {x y : Int32} {A B : Prop} (a b : Nat) (f : a ≤ b → A) (g : b < a → B) (hx : x = nI a := by rfl) (hy : y = nI b := by rfl) (ha : a < 2 ^ 31 := by omega) (hb : b < 2 ^ 31 := by omega) : (x ≤ y → A) ∧ (¬ x ≤ y → B) := by
  subst hx hy
  rw [nI_leI ha hb]
  exact ⟨f, fun z => g (by omega)⟩
theorem pk_lt {x y : Int32} {A B : Prop} (a b : Nat) (f : a < b → A) (g : b ≤ a → B) (hx : x = nI a := by rfl) (hy : y = nI b := by rfl) (ha : a < 2 ^ 31 := by omega) (hb : b < 2 ^ 31 := by omega) : (x < y → A) ∧ (¬ x < y → B) := by
  subst hx hy
  rw [nI_ltI ha hb]
  exact ⟨f, fun z => g (by omega)⟩
theorem pk_eq {x y : Int32} {A B : Prop} (a b : Nat) (f : a = b → A) (g : a ≠ b → B) (hx : x = nI a := by rfl) (hy : y = nI b := by rfl) (ha : a < 2 ^ 31 := by omega) (hb : b < 2 ^ 31 := by omega) : (x = y → A) ∧ (¬ x = y → B) := by
  subst hx hy
  rw [nI_eq ha hb]
  exact ⟨f, g⟩
theorem pk_in {x : Int32} (n N : Nat) (h : n < N) (hx : x = nI n := by rfl) (hN : N < 2 ^ 31 := by omega) : vp_in x N := by
  subst hx
  exact vp_in_nI h hN
theorem pk_cl {x : Int32} (n : Nat) (hx : x = nI n := by rfl) (h : n < 2 ^ 31 := by omega) : x.toNatClampNeg = n := by
  subst hx
  exact nI_clamp h
theorem pk_tn {n : Nat} (h : n < 2 ^ 32) : (nI n).toBitVec.toNat = n := Nat.mod_eq_of_lt h
theorem pk_and (x : Int32) {m : Int32} (k : Nat) (hm : m.toBitVec.toNat = 2 ^ k - 1) : x &&& m = nI (x.toBitVec.toNat % 2 ^ k) := by
  apply Int32.toBitVec_inj.mp
  apply BitVec.eq_of_toNat_eq
  rw [Int32.toBitVec_and, BitVec.toNat_and, hm, Nat.and_two_pow_sub_one_eq_mod]
  show _ = (BitVec.ofNat 32 _).toNat
  rw [BitVec.toNat_ofNat]
  exact (Nat.mod_eq_of_lt (Nat.lt_of_le_of_lt (Nat.mod_le _ _) x.toBitVec.isLt)).symm
theorem pk_andN {n : Nat} (h : n < 2 ^ 32) {m : Int32} (k : Nat) (hm : m.toBitVec.toNat = 2 ^ k - 1) : nI n &&& m = nI (n % 2 ^ k) := by
  rw [pk_and _ k hm, pk_tn h]
theorem pk_andE (x : Int32) {m : Int32} (k : Nat) (hm : m.toBitVec.toNat = 2 ^ k - 1) : ∃ j : Nat, j < 2 ^ k ∧ x &&& m = nI j := ⟨_, Nat.mod_lt _ (Nat.two_pow_pos k), pk_and x k hm⟩
theorem pk_andIn (x : Int32) {m : Int32} (k : Nat) (hm : m.toBitVec.toNat = 2 ^ k - 1) (hk : k ≤ 30) : vp_in (x &&& m) (2 ^ k) := by
  obtain ⟨j, hj, e⟩ := pk_andE x k hm
  rw [e]
  exact vp_in_nI hj (Nat.lt_of_le_of_lt (Nat.pow_le_pow_right (by decide) hk) (by decide))
theorem pk_shl (a s : Int32) (k : Nat) (hs : (s.toBitVec.smod 32).toNat = k) : (a <<< s).toBitVec.toNat = a.toBitVec.toNat * 2 ^ k % 2 ^ 32 := by
  show (a.toBitVec <<< (s.toBitVec.smod 32).toNat).toNat = _
  rw [hs, BitVec.toNat_shiftLeft, Nat.shiftLeft_eq]
theorem pk_shlN {n : Nat} (s : Int32) (k : Nat) (hs : (s.toBitVec.smod 32).toNat = k) (h : n * 2 ^ k < 2 ^ 32) : nI n <<< s = nI (n * 2 ^ k) := by
  apply Int32.toBitVec_inj.mp
  apply BitVec.eq_of_toNat_eq
  have hn : n < 2 ^ 32 := Nat.lt_of_le_of_lt (Nat.le_mul_of_pos_right n (Nat.two_pow_pos k)) h
  rw [pk_shl _ _ k hs, pk_tn hn, pk_tn h, Nat.mod_eq_of_lt h]
theorem pk_shr (a s : Int32) (k : Nat) (hs : (s.toBitVec.smod 32).toNat = k) : (a >>> s).toInt = a.toInt >>> k := by
  show (a.toBitVec.sshiftRight (s.toBitVec.smod 32).toNat).toInt = _
  rw [hs, BitVec.toInt_sshiftRight]
  rfl
theorem pk_shrN {n : Nat} (h : n < 2 ^ 31) (s : Int32) (k : Nat) (hs : (s.toBitVec.smod 32).toNat = k) : nI n >>> s = nI (n / 2 ^ k) := by
  apply Int32.toInt_inj.mp
  have h2 : n / 2 ^ k ≤ n := Nat.div_le_self _ _
  rw [pk_shr _ _ k hs, nI_toInt h, nI_toInt (by omega), Int.shiftRight_eq_div_pow]
  rfl
theorem pk_ushr (x s : Int32) (k : Nat) (hs : ((s.toUInt32 &&& Int32.toUInt32 31).toBitVec % 32).toNat = k) : (x.toUInt32 >>> (s.toUInt32 &&& Int32.toUInt32 31)).toInt32.toBitVec.toNat = x.toBitVec.toNat / 2 ^ k := by
  have e : (x.toUInt32 >>> (s.toUInt32 &&& Int32.toUInt32 31)).toInt32.toBitVec = x.toBitVec >>> k := by
    rw [← hs]
    exact UInt32.toBitVec_shiftRight _ _
  rw [e, BitVec.toNat_ushiftRight, Nat.shiftRight_eq_div_pow]
theorem pk_ushrN {n : Nat} (hn : n < 2 ^ 32) (s : Int32) (k : Nat) (hs : ((s.toUInt32 &&& Int32.toUInt32 31).toBitVec % 32).toNat = k) : ((nI n).toUInt32 >>> (s.toUInt32 &&& Int32.toUInt32 31)).toInt32 = nI (n / 2 ^ k) := by
  apply Int32.toBitVec_inj.mp
  apply BitVec.eq_of_toNat_eq
  rw [pk_ushr _ s k hs, pk_tn hn, pk_tn (Nat.lt_of_le_of_lt (Nat.div_le_self _ _) hn)]
theorem pk_nb (z : Int32) : narrow .byte (.int z.toInt8.toInt32) = .int z.toInt8.toInt32 := congrArg Value.int (by simp)
theorem pk_ns (z : Int32) : narrow .short (.int z.toInt16.toInt32) = .int z.toInt16.toInt32 := congrArg Value.int (by simp)
theorem pk_fb (r : Int32) : fits .byte (.int r.toInt8.toInt32) = true := by
  have ⟨a, b⟩ := lg_i2b_range r
  have h1 : (-128 : Int32).toInt = -128 := by decide
  have h2 : (127 : Int32).toInt = 127 := by decide
  simp only [fits, Bool.and_eq_true, decide_eq_true_eq, Int32.le_iff_toInt_le, h1, h2]
  omega
theorem pk_fs (r : Int32) : fits .short (.int r.toInt16.toInt32) = true := by
  have ⟨a, b⟩ := lg_i2s_range r
  have h1 : (-32768 : Int32).toInt = -32768 := by decide
  have h2 : (32767 : Int32).toInt = 32767 := by decide
  simp only [fits, Bool.and_eq_true, decide_eq_true_eq, Int32.le_iff_toInt_le, h1, h2]
  omega
theorem pk_charN {q : Nat} (hq : q < 65536) : narrow .char (.int (nI q)) = .int (nI q) ∧ fits .char (.int (nI q)) = true := by
  constructor
  · have e : (nI q).toUInt32.toUInt16.toUInt32.toInt32 = nI q := by
      apply Int32.toBitVec_inj.mp
      apply BitVec.eq_of_toNat_eq
      show (nI q).toUInt32.toUInt16.toUInt32.toNat = q % 2 ^ 32
      rw [UInt16.toNat_toUInt32, UInt32.toNat_toUInt16, show (nI q).toUInt32.toNat = q % 2 ^ 32 from rfl]
      omega
    exact congrArg Value.int e
  · have a : (0 : Int32) ≤ nI q := nI_pos' (by omega)
    have b : nI q ≤ 65535 := nI_le (b := 65535) (by omega) (by decide)
    show (decide ((0 : Int32) ≤ nI q) && decide (nI q ≤ 65535)) = true
    rw [decide_eq_true a, decide_eq_true b]
    rfl
theorem pk_char (x : Int32) : (x.toUInt32 % 65536).toInt32 = nI (x.toBitVec.toNat % 65536) := by
  apply Int32.toBitVec_inj.mp
  apply BitVec.eq_of_toNat_eq
  rw [pk_tn (by omega)]
  show (x.toUInt32 % 65536).toNat = _
  rw [UInt32.toNat_mod]
  rfl
theorem pk_nc (x : Int32) : narrow .char (.int (x.toUInt32 % 65536).toInt32) = .int (x.toUInt32 % 65536).toInt32 := by
  rw [pk_char]
  exact (pk_charN (Nat.mod_lt _ (by decide))).1
theorem pk_fc (x : Int32) : fits .char (.int (x.toUInt32 % 65536).toInt32) = true := by
  rw [pk_char]
  exact (pk_charN (Nat.mod_lt _ (by decide))).2
theorem pk_vb (z : Int32) : vp_nar .byte z.toInt8.toInt32 = z.toInt8.toInt32 := by rw [vp_nar_byte]; simp
theorem pk_vs (z : Int32) : vp_nar .short z.toInt16.toInt32 = z.toInt16.toInt32 := by rw [vp_nar_short]; simp
theorem pk_vc (z : Int32) : vp_nar .char (z.toUInt32 % 65536).toInt32 = (z.toUInt32 % 65536).toInt32 := Value.int.inj (pk_nc z)
theorem pk_lT {n : Nat} (h : n < 2 ^ 63) : (lN n).toInt = (n : Int) := lg_ofNat_toInt h
theorem pk_lLT {a b : Nat} (ha : a < 2 ^ 63) (hb : b < 2 ^ 63) : lN a < lN b ↔ a < b := by
  rw [Int64.lt_iff_toInt_lt, pk_lT ha, pk_lT hb]; omega
theorem pk_lLE {a b : Nat} (ha : a < 2 ^ 63) (hb : b < 2 ^ 63) : lN a ≤ lN b ↔ a ≤ b := by
  rw [Int64.le_iff_toInt_le, pk_lT ha, pk_lT hb]; omega
theorem pk_lEQ {a b : Nat} (ha : a < 2 ^ 63) (hb : b < 2 ^ 63) : lN a = lN b ↔ a = b := by
  rw [← Int64.toInt_inj, pk_lT ha, pk_lT hb]; omega
theorem pk_lOf {x : Int64} (h : ¬ x < 0) : ∃ k : Nat, k < 2 ^ 63 ∧ x = lN k := by
  rw [Int64.lt_iff_toInt_lt] at h
  have h0 : (0 : Int64).toInt = 0 := by decide
  have hx := Int64.toInt_lt x
  refine ⟨x.toInt.toNat, by omega, Int64.toInt_inj.mp ?_⟩
  rw [pk_lT (by omega)]
  omega
theorem pk_lDiv {a b : Nat} (ha : a < 2 ^ 63) (h0 : 0 < b) (hb : b < 2 ^ 63) : lN a / lN b = lN (a / b) := by
  apply Int64.toInt_inj.mp
  rw [lg_ldiv_nonneg (by rw [pk_lT ha]; omega) (by rw [pk_lT hb]; omega), pk_lT ha, pk_lT hb, pk_lT (Nat.lt_of_le_of_lt (Nat.div_le_self a b) ha)]
  rfl
theorem pk_lRem {a b : Nat} (ha : a < 2 ^ 63) (h0 : 0 < b) (hb : b < 2 ^ 63) : lN a - lN a / lN b * lN b = lN (a % b) := by
  rw [pk_lDiv ha h0 hb, lN_mul, lN_sub (Nat.div_mul_le_self a b)]
  exact congrArg lN (by have := Nat.div_add_mod' a b; omega)
theorem pk_loop {σ : Type} (W : Nat → Nat → σ → Prop) (I : Nat → σ → Prop) (e i0 : Nat) (s : σ) (hi : i0 ≤ e) (h0 : I i0 s) (hx : ∀ n s, I e s → W (n + 1) e s)
    (hs : ∀ n i s, i < e → I i s → (∀ s', I (i + 1) s' → W n (i + 1) s') → W (n + 1) i s) : ∃ n, W n i0 s :=
  ⟨e + 1, loop_i W I e hx hs (e + 1) i0 s hi (by omega) h0⟩
theorem pk_loopD {σ : Type} (W : Nat → Nat → σ → Prop) (I : Nat → σ → Prop) (hx : ∀ n s, I 0 s → W (n + 1) 0 s)
    (hs : ∀ n i s, I (i + 1) s → (∀ s', I i s' → W n i s') → W (n + 1) (i + 1) s) : ∀ (e : Nat) (s : σ), I e s → W (e + 1) e s := by
  intro e
  induction e with
  | zero => exact fun s h => hx 0 s h
  | succ e ih => exact fun s h => hs (e + 1) e s h (fun s' h' => ih s' h')
theorem lp1 {A1 : Type} (W : Nat → A1 → Prop) (I : A1 → Prop) (μ : A1 → Nat) (hs : ∀ (n : Nat) (a1 : A1), I a1 → (∀ (b1 : A1), I b1 → μ b1 < μ a1 → W n b1) → W (n + 1) a1) (a1 : A1) (h : I a1) : ∃ n, W n a1 :=
  loop_m (σ := A1) (fun n s => W n s) (fun s => I s) (fun s => μ s) (fun n s hI hk => hs n s hI (fun b1 h9 hm => hk b1 h9 hm)) a1 h
theorem lp2 {A1 A2 : Type} (W : Nat → A1 → A2 → Prop) (I : A1 → A2 → Prop) (μ : A1 → A2 → Nat) (hs : ∀ (n : Nat) (a1 : A1) (a2 : A2), I a1 a2 → (∀ (b1 : A1) (b2 : A2), I b1 b2 → μ b1 b2 < μ a1 a2 → W n b1 b2) → W (n + 1) a1 a2) (a1 : A1) (a2 : A2) (h : I a1 a2) : ∃ n, W n a1 a2 :=
  loop_m (σ := A1 × A2) (fun n s => W n s.1 s.2) (fun s => I s.1 s.2) (fun s => μ s.1 s.2) (fun n s hI hk => hs n s.1 s.2 hI (fun b1 b2 h9 hm => hk (b1, b2) h9 hm)) (a1, a2) h
theorem lp3 {A1 A2 A3 : Type} (W : Nat → A1 → A2 → A3 → Prop) (I : A1 → A2 → A3 → Prop) (μ : A1 → A2 → A3 → Nat) (hs : ∀ (n : Nat) (a1 : A1) (a2 : A2) (a3 : A3), I a1 a2 a3 → (∀ (b1 : A1) (b2 : A2) (b3 : A3), I b1 b2 b3 → μ b1 b2 b3 < μ a1 a2 a3 → W n b1 b2 b3) → W (n + 1) a1 a2 a3) (a1 : A1) (a2 : A2) (a3 : A3) (h : I a1 a2 a3) : ∃ n, W n a1 a2 a3 :=
  loop_m (σ := A1 × A2 × A3) (fun n s => W n s.1 s.2.1 s.2.2) (fun s => I s.1 s.2.1 s.2.2) (fun s => μ s.1 s.2.1 s.2.2) (fun n s hI hk => hs n s.1 s.2.1 s.2.2 hI (fun b1 b2 b3 h9 hm => hk (b1, b2, b3) h9 hm)) (a1, a2, a3) h
theorem lp4 {A1 A2 A3 A4 : Type} (W : Nat → A1 → A2 → A3 → A4 → Prop) (I : A1 → A2 → A3 → A4 → Prop) (μ : A1 → A2 → A3 → A4 → Nat) (hs : ∀ (n : Nat) (a1 : A1) (a2 : A2) (a3 : A3) (a4 : A4), I a1 a2 a3 a4 → (∀ (b1 : A1) (b2 : A2) (b3 : A3) (b4 : A4), I b1 b2 b3 b4 → μ b1 b2 b3 b4 < μ a1 a2 a3 a4 → W n b1 b2 b3 b4) → W (n + 1) a1 a2 a3 a4) (a1 : A1) (a2 : A2) (a3 : A3) (a4 : A4) (h : I a1 a2 a3 a4) : ∃ n, W n a1 a2 a3 a4 :=
  loop_m (σ := A1 × A2 × A3 × A4) (fun n s => W n s.1 s.2.1 s.2.2.1 s.2.2.2) (fun s => I s.1 s.2.1 s.2.2.1 s.2.2.2) (fun s => μ s.1 s.2.1 s.2.2.1 s.2.2.2) (fun n s hI hk => hs n s.1 s.2.1 s.2.2.1 s.2.2.2 hI (fun b1 b2 b3 b4 h9 hm => hk (b1, b2, b3, b4) h9 hm)) (a1, a2, a3, a4) h
theorem lp5 {A1 A2 A3 A4 A5 : Type} (W : Nat → A1 → A2 → A3 → A4 → A5 → Prop) (I : A1 → A2 → A3 → A4 → A5 → Prop) (μ : A1 → A2 → A3 → A4 → A5 → Nat) (hs : ∀ (n : Nat) (a1 : A1) (a2 : A2) (a3 : A3) (a4 : A4) (a5 : A5), I a1 a2 a3 a4 a5 → (∀ (b1 : A1) (b2 : A2) (b3 : A3) (b4 : A4) (b5 : A5), I b1 b2 b3 b4 b5 → μ b1 b2 b3 b4 b5 < μ a1 a2 a3 a4 a5 → W n b1 b2 b3 b4 b5) → W (n + 1) a1 a2 a3 a4 a5) (a1 : A1) (a2 : A2) (a3 : A3) (a4 : A4) (a5 : A5) (h : I a1 a2 a3 a4 a5) : ∃ n, W n a1 a2 a3 a4 a5 :=
  loop_m (σ := A1 × A2 × A3 × A4 × A5) (fun n s => W n s.1 s.2.1 s.2.2.1 s.2.2.2.1 s.2.2.2.2) (fun s => I s.1 s.2.1 s.2.2.1 s.2.2.2.1 s.2.2.2.2) (fun s => μ s.1 s.2.1 s.2.2.1 s.2.2.2.1 s.2.2.2.2) (fun n s hI hk => hs n s.1 s.2.1 s.2.2.1 s.2.2.2.1 s.2.2.2.2 hI (fun b1 b2 b3 b4 b5 h9 hm => hk (b1, b2, b3, b4, b5) h9 hm)) (a1, a2, a3, a4, a5) h
theorem lp6 {A1 A2 A3 A4 A5 A6 : Type} (W : Nat → A1 → A2 → A3 → A4 → A5 → A6 → Prop) (I : A1 → A2 → A3 → A4 → A5 → A6 → Prop) (μ : A1 → A2 → A3 → A4 → A5 → A6 → Nat) (hs : ∀ (n : Nat) (a1 : A1) (a2 : A2) (a3 : A3) (a4 : A4) (a5 : A5) (a6 : A6), I a1 a2 a3 a4 a5 a6 → (∀ (b1 : A1) (b2 : A2) (b3 : A3) (b4 : A4) (b5 : A5) (b6 : A6), I b1 b2 b3 b4 b5 b6 → μ b1 b2 b3 b4 b5 b6 < μ a1 a2 a3 a4 a5 a6 → W n b1 b2 b3 b4 b5 b6) → W (n + 1) a1 a2 a3 a4 a5 a6) (a1 : A1) (a2 : A2) (a3 : A3) (a4 : A4) (a5 : A5) (a6 : A6) (h : I a1 a2 a3 a4 a5 a6) : ∃ n, W n a1 a2 a3 a4 a5 a6 :=
  loop_m (σ := A1 × A2 × A3 × A4 × A5 × A6) (fun n s => W n s.1 s.2.1 s.2.2.1 s.2.2.2.1 s.2.2.2.2.1 s.2.2.2.2.2) (fun s => I s.1 s.2.1 s.2.2.1 s.2.2.2.1 s.2.2.2.2.1 s.2.2.2.2.2) (fun s => μ s.1 s.2.1 s.2.2.1 s.2.2.2.1 s.2.2.2.2.1 s.2.2.2.2.2) (fun n s hI hk => hs n s.1 s.2.1 s.2.2.1 s.2.2.2.1 s.2.2.2.2.1 s.2.2.2.2.2 hI (fun b1 b2 b3 b4 b5 b6 h9 hm => hk (b1, b2, b3, b4, b5, b6) h9 hm)) (a1, a2, a3, a4, a5, a6) h
theorem lp7 {A1 A2 A3 A4 A5 A6 A7 : Type} (W : Nat → A1 → A2 → A3 → A4 → A5 → A6 → A7 → Prop) (I : A1 → A2 → A3 → A4 → A5 → A6 → A7 → Prop) (μ : A1 → A2 → A3 → A4 → A5 → A6 → A7 → Nat) (hs : ∀ (n : Nat) (a1 : A1) (a2 : A2) (a3 : A3) (a4 : A4) (a5 : A5) (a6 : A6) (a7 : A7), I a1 a2 a3 a4 a5 a6 a7 → (∀ (b1 : A1) (b2 : A2) (b3 : A3) (b4 : A4) (b5 : A5) (b6 : A6) (b7 : A7), I b1 b2 b3 b4 b5 b6 b7 → μ b1 b2 b3 b4 b5 b6 b7 < μ a1 a2 a3 a4 a5 a6 a7 → W n b1 b2 b3 b4 b5 b6 b7) → W (n + 1) a1 a2 a3 a4 a5 a6 a7) (a1 : A1) (a2 : A2) (a3 : A3) (a4 : A4) (a5 : A5) (a6 : A6) (a7 : A7) (h : I a1 a2 a3 a4 a5 a6 a7) : ∃ n, W n a1 a2 a3 a4 a5 a6 a7 :=
  loop_m (σ := A1 × A2 × A3 × A4 × A5 × A6 × A7) (fun n s => W n s.1 s.2.1 s.2.2.1 s.2.2.2.1 s.2.2.2.2.1 s.2.2.2.2.2.1 s.2.2.2.2.2.2) (fun s => I s.1 s.2.1 s.2.2.1 s.2.2.2.1 s.2.2.2.2.1 s.2.2.2.2.2.1 s.2.2.2.2.2.2) (fun s => μ s.1 s.2.1 s.2.2.1 s.2.2.2.1 s.2.2.2.2.1 s.2.2.2.2.2.1 s.2.2.2.2.2.2) (fun n s hI hk => hs n s.1 s.2.1 s.2.2.1 s.2.2.2.1 s.2.2.2.2.1 s.2.2.2.2.2.1 s.2.2.2.2.2.2 hI (fun b1 b2 b3 b4 b5 b6 b7 h9 hm => hk (b1, b2, b3, b4, b5, b6, b7) h9 hm)) (a1, a2, a3, a4, a5, a6, a7) h
theorem lp8 {A1 A2 A3 A4 A5 A6 A7 A8 : Type} (W : Nat → A1 → A2 → A3 → A4 → A5 → A6 → A7 → A8 → Prop) (I : A1 → A2 → A3 → A4 → A5 → A6 → A7 → A8 → Prop) (μ : A1 → A2 → A3 → A4 → A5 → A6 → A7 → A8 → Nat) (hs : ∀ (n : Nat) (a1 : A1) (a2 : A2) (a3 : A3) (a4 : A4) (a5 : A5) (a6 : A6) (a7 : A7) (a8 : A8), I a1 a2 a3 a4 a5 a6 a7 a8 → (∀ (b1 : A1) (b2 : A2) (b3 : A3) (b4 : A4) (b5 : A5) (b6 : A6) (b7 : A7) (b8 : A8), I b1 b2 b3 b4 b5 b6 b7 b8 → μ b1 b2 b3 b4 b5 b6 b7 b8 < μ a1 a2 a3 a4 a5 a6 a7 a8 → W n b1 b2 b3 b4 b5 b6 b7 b8) → W (n + 1) a1 a2 a3 a4 a5 a6 a7 a8) (a1 : A1) (a2 : A2) (a3 : A3) (a4 : A4) (a5 : A5) (a6 : A6) (a7 : A7) (a8 : A8) (h : I a1 a2 a3 a4 a5 a6 a7 a8) : ∃ n, W n a1 a2 a3 a4 a5 a6 a7 a8 :=
  loop_m (σ := A1 × A2 × A3 × A4 × A5 × A6 × A7 × A8) (fun n s => W n s.1 s.2.1 s.2.2.1 s.2.2.2.1 s.2.2.2.2.1 s.2.2.2.2.2.1 s.2.2.2.2.2.2.1 s.2.2.2.2.2.2.2) (fun s => I s.1 s.2.1 s.2.2.1 s.2.2.2.1 s.2.2.2.2.1 s.2.2.2.2.2.1 s.2.2.2.2.2.2.1 s.2.2.2.2.2.2.2) (fun s => μ s.1 s.2.1 s.2.2.1 s.2.2.2.1 s.2.2.2.2.1 s.2.2.2.2.2.1 s.2.2.2.2.2.2.1 s.2.2.2.2.2.2.2) (fun n s hI hk => hs n s.1 s.2.1 s.2.2.1 s.2.2.2.1 s.2.2.2.2.1 s.2.2.2.2.2.1 s.2.2.2.2.2.2.1 s.2.2.2.2.2.2.2 hI (fun b1 b2 b3 b4 b5 b6 b7 b8 h9 hm => hk (b1, b2, b3, b4, b5, b6, b7, b8) h9 hm)) (a1, a2, a3, a4, a5, a6, a7, a8) h
theorem lp9 {A1 A2 A3 A4 A5 A6 A7 A8 A9 : Type} (W : Nat → A1 → A2 → A3 → A4 → A5 → A6 → A7 → A8 → A9 → Prop) (I : A1 → A2 → A3 → A4 → A5 → A6 → A7 → A8 → A9 → Prop) (μ : A1 → A2 → A3 → A4 → A5 → A6 → A7 → A8 → A9 → Nat) (hs : ∀ (n : Nat) (a1 : A1) (a2 : A2) (a3 : A3) (a4 : A4) (a5 : A5) (a6 : A6) (a7 : A7) (a8 : A8) (a9 : A9), I a1 a2 a3 a4 a5 a6 a7 a8 a9 → (∀ (b1 : A1) (b2 : A2) (b3 : A3) (b4 : A4) (b5 : A5) (b6 : A6) (b7 : A7) (b8 : A8) (b9 : A9), I b1 b2 b3 b4 b5 b6 b7 b8 b9 → μ b1 b2 b3 b4 b5 b6 b7 b8 b9 < μ a1 a2 a3 a4 a5 a6 a7 a8 a9 → W n b1 b2 b3 b4 b5 b6 b7 b8 b9) → W (n + 1) a1 a2 a3 a4 a5 a6 a7 a8 a9) (a1 : A1) (a2 : A2) (a3 : A3) (a4 : A4) (a5 : A5) (a6 : A6) (a7 : A7) (a8 : A8) (a9 : A9) (h : I a1 a2 a3 a4 a5 a6 a7 a8 a9) : ∃ n, W n a1 a2 a3 a4 a5 a6 a7 a8 a9 :=
  loop_m (σ := A1 × A2 × A3 × A4 × A5 × A6 × A7 × A8 × A9) (fun n s => W n s.1 s.2.1 s.2.2.1 s.2.2.2.1 s.2.2.2.2.1 s.2.2.2.2.2.1 s.2.2.2.2.2.2.1 s.2.2.2.2.2.2.2.1 s.2.2.2.2.2.2.2.2) (fun s => I s.1 s.2.1 s.2.2.1 s.2.2.2.1 s.2.2.2.2.1 s.2.2.2.2.2.1 s.2.2.2.2.2.2.1 s.2.2.2.2.2.2.2.1 s.2.2.2.2.2.2.2.2) (fun s => μ s.1 s.2.1 s.2.2.1 s.2.2.2.1 s.2.2.2.2.1 s.2.2.2.2.2.1 s.2.2.2.2.2.2.1 s.2.2.2.2.2.2.2.1 s.2.2.2.2.2.2.2.2) (fun n s hI hk => hs n s.1 s.2.1 s.2.2.1 s.2.2.2.1 s.2.2.2.2.1 s.2.2.2.2.2.1 s.2.2.2.2.2.2.1 s.2.2.2.2.2.2.2.1 s.2.2.2.2.2.2.2.2 hI (fun b1 b2 b3 b4 b5 b6 b7 b8 b9 h9 hm => hk (b1, b2, b3, b4, b5, b6, b7, b8, b9) h9 hm)) (a1, a2, a3, a4, a5, a6, a7, a8, a9) h
theorem lp10 {A1 A2 A3 A4 A5 A6 A7 A8 A9 A10 : Type} (W : Nat → A1 → A2 → A3 → A4 → A5 → A6 → A7 → A8 → A9 → A10 → Prop) (I : A1 → A2 → A3 → A4 → A5 → A6 → A7 → A8 → A9 → A10 → Prop) (μ : A1 → A2 → A3 → A4 → A5 → A6 → A7 → A8 → A9 → A10 → Nat) (hs : ∀ (n : Nat) (a1 : A1) (a2 : A2) (a3 : A3) (a4 : A4) (a5 : A5) (a6 : A6) (a7 : A7) (a8 : A8) (a9 : A9) (a10 : A10), I a1 a2 a3 a4 a5 a6 a7 a8 a9 a10 → (∀ (b1 : A1) (b2 : A2) (b3 : A3) (b4 : A4) (b5 : A5) (b6 : A6) (b7 : A7) (b8 : A8) (b9 : A9) (b10 : A10), I b1 b2 b3 b4 b5 b6 b7 b8 b9 b10 → μ b1 b2 b3 b4 b5 b6 b7 b8 b9 b10 < μ a1 a2 a3 a4 a5 a6 a7 a8 a9 a10 → W n b1 b2 b3 b4 b5 b6 b7 b8 b9 b10) → W (n + 1) a1 a2 a3 a4 a5 a6 a7 a8 a9 a10) (a1 : A1) (a2 : A2) (a3 : A3) (a4 : A4) (a5 : A5) (a6 : A6) (a7 : A7) (a8 : A8) (a9 : A9) (a10 : A10) (h : I a1 a2 a3 a4 a5 a6 a7 a8 a9 a10) : ∃ n, W n a1 a2 a3 a4 a5 a6 a7 a8 a9 a10 :=
  loop_m (σ := A1 × A2 × A3 × A4 × A5 × A6 × A7 × A8 × A9 × A10) (fun n s => W n s.1 s.2.1 s.2.2.1 s.2.2.2.1 s.2.2.2.2.1 s.2.2.2.2.2.1 s.2.2.2.2.2.2.1 s.2.2.2.2.2.2.2.1 s.2.2.2.2.2.2.2.2.1 s.2.2.2.2.2.2.2.2.2) (fun s => I s.1 s.2.1 s.2.2.1 s.2.2.2.1 s.2.2.2.2.1 s.2.2.2.2.2.1 s.2.2.2.2.2.2.1 s.2.2.2.2.2.2.2.1 s.2.2.2.2.2.2.2.2.1 s.2.2.2.2.2.2.2.2.2) (fun s => μ s.1 s.2.1 s.2.2.1 s.2.2.2.1 s.2.2.2.2.1 s.2.2.2.2.2.1 s.2.2.2.2.2.2.1 s.2.2.2.2.2.2.2.1 s.2.2.2.2.2.2.2.2.1 s.2.2.2.2.2.2.2.2.2) (fun n s hI hk => hs n s.1 s.2.1 s.2.2.1 s.2.2.2.1 s.2.2.2.2.1 s.2.2.2.2.2.1 s.2.2.2.2.2.2.1 s.2.2.2.2.2.2.2.1 s.2.2.2.2.2.2.2.2.1 s.2.2.2.2.2.2.2.2.2 hI (fun b1 b2 b3 b4 b5 b6 b7 b8 b9 b10 h9 hm => hk (b1, b2, b3, b4, b5, b6, b7, b8, b9, b10) h9 hm)) (a1, a2, a3, a4, a5, a6, a7, a8, a9, a10) h
theorem lp11 {A1 A2 A3 A4 A5 A6 A7 A8 A9 A10 A11 : Type} (W : Nat → A1 → A2 → A3 → A4 → A5 → A6 → A7 → A8 → A9 → A10 → A11 → Prop) (I : A1 → A2 → A3 → A4 → A5 → A6 → A7 → A8 → A9 → A10 → A11 → Prop) (μ : A1 → A2 → A3 → A4 → A5 → A6 → A7 → A8 → A9 → A10 → A11 → Nat) (hs : ∀ (n : Nat) (a1 : A1) (a2 : A2) (a3 : A3) (a4 : A4) (a5 : A5) (a6 : A6) (a7 : A7) (a8 : A8) (a9 : A9) (a10 : A10) (a11 : A11), I a1 a2 a3 a4 a5 a6 a7 a8 a9 a10 a11 → (∀ (b1 : A1) (b2 : A2) (b3 : A3) (b4 : A4) (b5 : A5) (b6 : A6) (b7 : A7) (b8 : A8) (b9 : A9) (b10 : A10) (b11 : A11), I b1 b2 b3 b4 b5 b6 b7 b8 b9 b10 b11 → μ b1 b2 b3 b4 b5 b6 b7 b8 b9 b10 b11 < μ a1 a2 a3 a4 a5 a6 a7 a8 a9 a10 a11 → W n b1 b2 b3 b4 b5 b6 b7 b8 b9 b10 b11) → W (n + 1) a1 a2 a3 a4 a5 a6 a7 a8 a9 a10 a11) (a1 : A1) (a2 : A2) (a3 : A3) (a4 : A4) (a5 : A5) (a6 : A6) (a7 : A7) (a8 : A8) (a9 : A9) (a10 : A10) (a11 : A11) (h : I a1 a2 a3 a4 a5 a6 a7 a8 a9 a10 a11) : ∃ n, W n a1 a2 a3 a4 a5 a6 a7 a8 a9 a10 a11 :=
  loop_m (σ := A1 × A2 × A3 × A4 × A5 × A6 × A7 × A8 × A9 × A10 × A11) (fun n s => W n s.1 s.2.1 s.2.2.1 s.2.2.2.1 s.2.2.2.2.1 s.2.2.2.2.2.1 s.2.2.2.2.2.2.1 s.2.2.2.2.2.2.2.1 s.2.2.2.2.2.2.2.2.1 s.2.2.2.2.2.2.2.2.2.1 s.2.2.2.2.2.2.2.2.2.2) (fun s => I s.1 s.2.1 s.2.2.1 s.2.2.2.1 s.2.2.2.2.1 s.2.2.2.2.2.1 s.2.2.2.2.2.2.1 s.2.2.2.2.2.2.2.1 s.2.2.2.2.2.2.2.2.1 s.2.2.2.2.2.2.2.2.2.1 s.2.2.2.2.2.2.2.2.2.2) (fun s => μ s.1 s.2.1 s.2.2.1 s.2.2.2.1 s.2.2.2.2.1 s.2.2.2.2.2.1 s.2.2.2.2.2.2.1 s.2.2.2.2.2.2.2.1 s.2.2.2.2.2.2.2.2.1 s.2.2.2.2.2.2.2.2.2.1 s.2.2.2.2.2.2.2.2.2.2) (fun n s hI hk => hs n s.1 s.2.1 s.2.2.1 s.2.2.2.1 s.2.2.2.2.1 s.2.2.2.2.2.1 s.2.2.2.2.2.2.1 s.2.2.2.2.2.2.2.1 s.2.2.2.2.2.2.2.2.1 s.2.2.2.2.2.2.2.2.2.1 s.2.2.2.2.2.2.2.2.2.2 hI (fun b1 b2 b3 b4 b5 b6 b7 b8 b9 b10 b11 h9 hm => hk (b1, b2, b3, b4, b5, b6, b7, b8, b9, b10, b11) h9 hm)) (a1, a2, a3, a4, a5, a6, a7, a8, a9, a10, a11) h
theorem lp12 {A1 A2 A3 A4 A5 A6 A7 A8 A9 A10 A11 A12 : Type} (W : Nat → A1 → A2 → A3 → A4 → A5 → A6 → A7 → A8 → A9 → A10 → A11 → A12 → Prop) (I : A1 → A2 → A3 → A4 → A5 → A6 → A7 → A8 → A9 → A10 → A11 → A12 → Prop) (μ : A1 → A2 → A3 → A4 → A5 → A6 → A7 → A8 → A9 → A10 → A11 → A12 → Nat) (hs : ∀ (n : Nat) (a1 : A1) (a2 : A2) (a3 : A3) (a4 : A4) (a5 : A5) (a6 : A6) (a7 : A7) (a8 : A8) (a9 : A9) (a10 : A10) (a11 : A11) (a12 : A12), I a1 a2 a3 a4 a5 a6 a7 a8 a9 a10 a11 a12 → (∀ (b1 : A1) (b2 : A2) (b3 : A3) (b4 : A4) (b5 : A5) (b6 : A6) (b7 : A7) (b8 : A8) (b9 : A9) (b10 : A10) (b11 : A11) (b12 : A12), I b1 b2 b3 b4 b5 b6 b7 b8 b9 b10 b11 b12 → μ b1 b2 b3 b4 b5 b6 b7 b8 b9 b10 b11 b12 < μ a1 a2 a3 a4 a5 a6 a7 a8 a9 a10 a11 a12 → W n b1 b2 b3 b4 b5 b6 b7 b8 b9 b10 b11 b12) → W (n + 1) a1 a2 a3 a4 a5 a6 a7 a8 a9 a10 a11 a12) (a1 : A1) (a2 : A2) (a3 : A3) (a4 : A4) (a5 : A5) (a6 : A6) (a7 : A7) (a8 : A8) (a9 : A9) (a10 : A10) (a11 : A11) (a12 : A12) (h : I a1 a2 a3 a4 a5 a6 a7 a8 a9 a10 a11 a12) : ∃ n, W n a1 a2 a3 a4 a5 a6 a7 a8 a9 a10 a11 a12 :=
  loop_m (σ := A1 × A2 × A3 × A4 × A5 × A6 × A7 × A8 × A9 × A10 × A11 × A12) (fun n s => W n s.1 s.2.1 s.2.2.1 s.2.2.2.1 s.2.2.2.2.1 s.2.2.2.2.2.1 s.2.2.2.2.2.2.1 s.2.2.2.2.2.2.2.1 s.2.2.2.2.2.2.2.2.1 s.2.2.2.2.2.2.2.2.2.1 s.2.2.2.2.2.2.2.2.2.2.1 s.2.2.2.2.2.2.2.2.2.2.2) (fun s => I s.1 s.2.1 s.2.2.1 s.2.2.2.1 s.2.2.2.2.1 s.2.2.2.2.2.1 s.2.2.2.2.2.2.1 s.2.2.2.2.2.2.2.1 s.2.2.2.2.2.2.2.2.1 s.2.2.2.2.2.2.2.2.2.1 s.2.2.2.2.2.2.2.2.2.2.1 s.2.2.2.2.2.2.2.2.2.2.2) (fun s => μ s.1 s.2.1 s.2.2.1 s.2.2.2.1 s.2.2.2.2.1 s.2.2.2.2.2.1 s.2.2.2.2.2.2.1 s.2.2.2.2.2.2.2.1 s.2.2.2.2.2.2.2.2.1 s.2.2.2.2.2.2.2.2.2.1 s.2.2.2.2.2.2.2.2.2.2.1 s.2.2.2.2.2.2.2.2.2.2.2) (fun n s hI hk => hs n s.1 s.2.1 s.2.2.1 s.2.2.2.1 s.2.2.2.2.1 s.2.2.2.2.2.1 s.2.2.2.2.2.2.1 s.2.2.2.2.2.2.2.1 s.2.2.2.2.2.2.2.2.1 s.2.2.2.2.2.2.2.2.2.1 s.2.2.2.2.2.2.2.2.2.2.1 s.2.2.2.2.2.2.2.2.2.2.2 hI (fun b1 b2 b3 b4 b5 b6 b7 b8 b9 b10 b11 b12 h9 hm => hk (b1, b2, b3, b4, b5, b6, b7, b8, b9, b10, b11, b12) h9 hm)) (a1, a2, a3, a4, a5, a6, a7, a8, a9, a10, a11, a12) h
theorem lp13 {A1 A2 A3 A4 A5 A6 A7 A8 A9 A10 A11 A12 A13 : Type} (W : Nat → A1 → A2 → A3 → A4 → A5 → A6 → A7 → A8 → A9 → A10 → A11 → A12 → A13 → Prop) (I : A1 → A2 → A3 → A4 → A5 → A6 → A7 → A8 → A9 → A10 → A11 → A12 → A13 → Prop) (μ : A1 → A2 → A3 → A4 → A5 → A6 → A7 → A8 → A9 → A10 → A11 → A12 → A13 → Nat) (hs : ∀ (n : Nat) (a1 : A1) (a2 : A2) (a3 : A3) (a4 : A4) (a5 : A5) (a6 : A6) (a7 : A7) (a8 : A8) (a9 : A9) (a10 : A10) (a11 : A11) (a12 : A12) (a13 : A13), I a1 a2 a3 a4 a5 a6 a7 a8 a9 a10 a11 a12 a13 → (∀ (b1 : A1) (b2 : A2) (b3 : A3) (b4 : A4) (b5 : A5) (b6 : A6) (b7 : A7) (b8 : A8) (b9 : A9) (b10 : A10) (b11 : A11) (b12 : A12) (b13 : A13), I b1 b2 b3 b4 b5 b6 b7 b8 b9 b10 b11 b12 b13 → μ b1 b2 b3 b4 b5 b6 b7 b8 b9 b10 b11 b12 b13 < μ a1 a2 a3 a4 a5 a6 a7 a8 a9 a10 a11 a12 a13 → W n b1 b2 b3 b4 b5 b6 b7 b8 b9 b10 b11 b12 b13) → W (n + 1) a1 a2 a3 a4 a5 a6 a7 a8 a9 a10 a11 a12 a13) (a1 : A1) (a2 : A2) (a3 : A3) (a4 : A4) (a5 : A5) (a6 : A6) (a7 : A7) (a8 : A8) (a9 : A9) (a10 : A10) (a11 : A11) (a12 : A12) (a13 : A13) (h : I a1 a2 a3 a4 a5 a6 a7 a8 a9 a10 a11 a12 a13) : ∃ n, W n a1 a2 a3 a4 a5 a6 a7 a8 a9 a10 a11 a12 a13 :=
  loop_m (σ := A1 × A2 × A3 × A4 × A5 × A6 × A7 × A8 × A9 × A10 × A11 × A12 × A13) (fun n s => W n s.1 s.2.1 s.2.2.1 s.2.2.2.1 s.2.2.2.2.1 s.2.2.2.2.2.1 s.2.2.2.2.2.2.1 s.2.2.2.2.2.2.2.1 s.2.2.2.2.2.2.2.2.1 s.2.2.2.2.2.2.2.2.2.1 s.2.2.2.2.2.2.2.2.2.2.1 s.2.2.2.2.2.2.2.2.2.2.2.1 s.2.2.2.2.2.2.2.2.2.2.2.2) (fun s => I s.1 s.2.1 s.2.2.1 s.2.2.2.1 s.2.2.2.2.1 s.2.2.2.2.2.1 s.2.2.2.2.2.2.1 s.2.2.2.2.2.2.2.1 s.2.2.2.2.2.2.2.2.1 s.2.2.2.2.2.2.2.2.2.1 s.2.2.2.2.2.2.2.2.2.2.1 s.2.2.2.2.2.2.2.2.2.2.2.1 s.2.2.2.2.2.2.2.2.2.2.2.2) (fun s => μ s.1 s.2.1 s.2.2.1 s.2.2.2.1 s.2.2.2.2.1 s.2.2.2.2.2.1 s.2.2.2.2.2.2.1 s.2.2.2.2.2.2.2.1 s.2.2.2.2.2.2.2.2.1 s.2.2.2.2.2.2.2.2.2.1 s.2.2.2.2.2.2.2.2.2.2.1 s.2.2.2.2.2.2.2.2.2.2.2.1 s.2.2.2.2.2.2.2.2.2.2.2.2) (fun n s hI hk => hs n s.1 s.2.1 s.2.2.1 s.2.2.2.1 s.2.2.2.2.1 s.2.2.2.2.2.1 s.2.2.2.2.2.2.1 s.2.2.2.2.2.2.2.1 s.2.2.2.2.2.2.2.2.1 s.2.2.2.2.2.2.2.2.2.1 s.2.2.2.2.2.2.2.2.2.2.1 s.2.2.2.2.2.2.2.2.2.2.2.1 s.2.2.2.2.2.2.2.2.2.2.2.2 hI (fun b1 b2 b3 b4 b5 b6 b7 b8 b9 b10 b11 b12 b13 h9 hm => hk (b1, b2, b3, b4, b5, b6, b7, b8, b9, b10, b11, b12, b13) h9 hm)) (a1, a2, a3, a4, a5, a6, a7, a8, a9, a10, a11, a12, a13) h
theorem lp14 {A1 A2 A3 A4 A5 A6 A7 A8 A9 A10 A11 A12 A13 A14 : Type} (W : Nat → A1 → A2 → A3 → A4 → A5 → A6 → A7 → A8 → A9 → A10 → A11 → A12 → A13 → A14 → Prop) (I : A1 → A2 → A3 → A4 → A5 → A6 → A7 → A8 → A9 → A10 → A11 → A12 → A13 → A14 → Prop) (μ : A1 → A2 → A3 → A4 → A5 → A6 → A7 → A8 → A9 → A10 → A11 → A12 → A13 → A14 → Nat) (hs : ∀ (n : Nat) (a1 : A1) (a2 : A2) (a3 : A3) (a4 : A4) (a5 : A5) (a6 : A6) (a7 : A7) (a8 : A8) (a9 : A9) (a10 : A10) (a11 : A11) (a12 : A12) (a13 : A13) (a14 : A14), I a1 a2 a3 a4 a5 a6 a7 a8 a9 a10 a11 a12 a13 a14 → (∀ (b1 : A1) (b2 : A2) (b3 : A3) (b4 : A4) (b5 : A5) (b6 : A6) (b7 : A7) (b8 : A8) (b9 : A9) (b10 : A10) (b11 : A11) (b12 : A12) (b13 : A13) (b14 : A14), I b1 b2 b3 b4 b5 b6 b7 b8 b9 b10 b11 b12 b13 b14 → μ b1 b2 b3 b4 b5 b6 b7 b8 b9 b10 b11 b12 b13 b14 < μ a1 a2 a3 a4 a5 a6 a7 a8 a9 a10 a11 a12 a13 a14 → W n b1 b2 b3 b4 b5 b6 b7 b8 b9 b10 b11 b12 b13 b14) → W (n + 1) a1 a2 a3 a4 a5 a6 a7 a8 a9 a10 a11 a12 a13 a14) (a1 : A1) (a2 : A2) (a3 : A3) (a4 : A4) (a5 : A5) (a6 : A6) (a7 : A7) (a8 : A8) (a9 : A9) (a10 : A10) (a11 : A11) (a12 : A12) (a13 : A13) (a14 : A14) (h : I a1 a2 a3 a4 a5 a6 a7 a8 a9 a10 a11 a12 a13 a14) : ∃ n, W n a1 a2 a3 a4 a5 a6 a7 a8 a9 a10 a11 a12 a13 a14 :=
  loop_m (σ := A1 × A2 × A3 × A4 × A5 × A6 × A7 × A8 × A9 × A10 × A11 × A12 × A13 × A14) (fun n s => W n s.1 s.2.1 s.2.2.1 s.2.2.2.1 s.2.2.2.2.1 s.2.2.2.2.2.1 s.2.2.2.2.2.2.1 s.2.2.2.2.2.2.2.1 s.2.2.2.2.2.2.2.2.1 s.2.2.2.2.2.2.2.2.2.1 s.2.2.2.2.2.2.2.2.2.2.1 s.2.2.2.2.2.2.2.2.2.2.2.1 s.2.2.2.2.2.2.2.2.2.2.2.2.1 s.2.2.2.2.2.2.2.2.2.2.2.2.2) (fun s => I s.1 s.2.1 s.2.2.1 s.2.2.2.1 s.2.2.2.2.1 s.2.2.2.2.2.1 s.2.2.2.2.2.2.1 s.2.2.2.2.2.2.2.1 s.2.2.2.2.2.2.2.2.1 s.2.2.2.2.2.2.2.2.2.1 s.2.2.2.2.2.2.2.2.2.2.1 s.2.2.2.2.2.2.2.2.2.2.2.1 s.2.2.2.2.2.2.2.2.2.2.2.2.1 s.2.2.2.2.2.2.2.2.2.2.2.2.2) (fun s => μ s.1 s.2.1 s.2.2.1 s.2.2.2.1 s.2.2.2.2.1 s.2.2.2.2.2.1 s.2.2.2.2.2.2.1 s.2.2.2.2.2.2.2.1 s.2.2.2.2.2.2.2.2.1 s.2.2.2.2.2.2.2.2.2.1 s.2.2.2.2.2.2.2.2.2.2.1 s.2.2.2.2.2.2.2.2.2.2.2.1 s.2.2.2.2.2.2.2.2.2.2.2.2.1 s.2.2.2.2.2.2.2.2.2.2.2.2.2) (fun n s hI hk => hs n s.1 s.2.1 s.2.2.1 s.2.2.2.1 s.2.2.2.2.1 s.2.2.2.2.2.1 s.2.2.2.2.2.2.1 s.2.2.2.2.2.2.2.1 s.2.2.2.2.2.2.2.2.1 s.2.2.2.2.2.2.2.2.2.1 s.2.2.2.2.2.2.2.2.2.2.1 s.2.2.2.2.2.2.2.2.2.2.2.1 s.2.2.2.2.2.2.2.2.2.2.2.2.1 s.2.2.2.2.2.2.2.2.2.2.2.2.2 hI (fun b1 b2 b3 b4 b5 b6 b7 b8 b9 b10 b11 b12 b13 b14 h9 hm => hk (b1, b2, b3, b4, b5, b6, b7, b8, b9, b10, b11, b12, b13, b14) h9 hm)) (a1, a2, a3, a4, a5, a6, a7, a8, a9, a10, a11, a12, a13, a14) h
theorem lp15 {A1 A2 A3 A4 A5 A6 A7 A8 A9 A10 A11 A12 A13 A14 A15 : Type} (W : Nat → A1 → A2 → A3 → A4 → A5 → A6 → A7 → A8 → A9 → A10 → A11 → A12 → A13 → A14 → A15 → Prop) (I : A1 → A2 → A3 → A4 → A5 → A6 → A7 → A8 → A9 → A10 → A11 → A12 → A13 → A14 → A15 → Prop) (μ : A1 → A2 → A3 → A4 → A5 → A6 → A7 → A8 → A9 → A10 → A11 → A12 → A13 → A14 → A15 → Nat) (hs : ∀ (n : Nat) (a1 : A1) (a2 : A2) (a3 : A3) (a4 : A4) (a5 : A5) (a6 : A6) (a7 : A7) (a8 : A8) (a9 : A9) (a10 : A10) (a11 : A11) (a12 : A12) (a13 : A13) (a14 : A14) (a15 : A15), I a1 a2 a3 a4 a5 a6 a7 a8 a9 a10 a11 a12 a13 a14 a15 → (∀ (b1 : A1) (b2 : A2) (b3 : A3) (b4 : A4) (b5 : A5) (b6 : A6) (b7 : A7) (b8 : A8) (b9 : A9) (b10 : A10) (b11 : A11) (b12 : A12) (b13 : A13) (b14 : A14) (b15 : A15), I b1 b2 b3 b4 b5 b6 b7 b8 b9 b10 b11 b12 b13 b14 b15 → μ b1 b2 b3 b4 b5 b6 b7 b8 b9 b10 b11 b12 b13 b14 b15 < μ a1 a2 a3 a4 a5 a6 a7 a8 a9 a10 a11 a12 a13 a14 a15 → W n b1 b2 b3 b4 b5 b6 b7 b8 b9 b10 b11 b12 b13 b14 b15) → W (n + 1) a1 a2 a3 a4 a5 a6 a7 a8 a9 a10 a11 a12 a13 a14 a15) (a1 : A1) (a2 : A2) (a3 : A3) (a4 : A4) (a5 : A5) (a6 : A6) (a7 : A7) (a8 : A8) (a9 : A9) (a10 : A10) (a11 : A11) (a12 : A12) (a13 : A13) (a14 : A14) (a15 : A15) (h : I a1 a2 a3 a4 a5 a6 a7 a8 a9 a10 a11 a12 a13 a14 a15) : ∃ n, W n a1 a2 a3 a4 a5 a6 a7 a8 a9 a10 a11 a12 a13 a14 a15 :=
  loop_m (σ := A1 × A2 × A3 × A4 × A5 × A6 × A7 × A8 × A9 × A10 × A11 × A12 × A13 × A14 × A15) (fun n s => W n s.1 s.2.1 s.2.2.1 s.2.2.2.1 s.2.2.2.2.1 s.2.2.2.2.2.1 s.2.2.2.2.2.2.1 s.2.2.2.2.2.2.2.1 s.2.2.2.2.2.2.2.2.1 s.2.2.2.2.2.2.2.2.2.1 s.2.2.2.2.2.2.2.2.2.2.1 s.2.2.2.2.2.2.2.2.2.2.2.1 s.2.2.2.2.2.2.2.2.2.2.2.2.1 s.2.2.2.2.2.2.2.2.2.2.2.2.2.1 s.2.2.2.2.2.2.2.2.2.2.2.2.2.2) (fun s => I s.1 s.2.1 s.2.2.1 s.2.2.2.1 s.2.2.2.2.1 s.2.2.2.2.2.1 s.2.2.2.2.2.2.1 s.2.2.2.2.2.2.2.1 s.2.2.2.2.2.2.2.2.1 s.2.2.2.2.2.2.2.2.2.1 s.2.2.2.2.2.2.2.2.2.2.1 s.2.2.2.2.2.2.2.2.2.2.2.1 s.2.2.2.2.2.2.2.2.2.2.2.2.1 s.2.2.2.2.2.2.2.2.2.2.2.2.2.1 s.2.2.2.2.2.2.2.2.2.2.2.2.2.2) (fun s => μ s.1 s.2.1 s.2.2.1 s.2.2.2.1 s.2.2.2.2.1 s.2.2.2.2.2.1 s.2.2.2.2.2.2.1 s.2.2.2.2.2.2.2.1 s.2.2.2.2.2.2.2.2.1 s.2.2.2.2.2.2.2.2.2.1 s.2.2.2.2.2.2.2.2.2.2.1 s.2.2.2.2.2.2.2.2.2.2.2.1 s.2.2.2.2.2.2.2.2.2.2.2.2.1 s.2.2.2.2.2.2.2.2.2.2.2.2.2.1 s.2.2.2.2.2.2.2.2.2.2.2.2.2.2) (fun n s hI hk => hs n s.1 s.2.1 s.2.2.1 s.2.2.2.1 s.2.2.2.2.1 s.2.2.2.2.2.1 s.2.2.2.2.2.2.1 s.2.2.2.2.2.2.2.1 s.2.2.2.2.2.2.2.2.1 s.2.2.2.2.2.2.2.2.2.1 s.2.2.2.2.2.2.2.2.2.2.1 s.2.2.2.2.2.2.2.2.2.2.2.1 s.2.2.2.2.2.2.2.2.2.2.2.2.1 s.2.2.2.2.2.2.2.2.2.2.2.2.2.1 s.2.2.2.2.2.2.2.2.2.2.2.2.2.2 hI (fun b1 b2 b3 b4 b5 b6 b7 b8 b9 b10 b11 b12 b13 b14 b15 h9 hm => hk (b1, b2, b3, b4, b5, b6, b7, b8, b9, b10, b11, b12, b13, b14, b15) h9 hm)) (a1, a2, a3, a4, a5, a6, a7, a8, a9, a10, a11, a12, a13, a14, a15) h
theorem lp16 {A1 A2 A3 A4 A5 A6 A7 A8 A9 A10 A11 A12 A13 A14 A15 A16 : Type} (W : Nat → A1 → A2 → A3 → A4 → A5 → A6 → A7 → A8 → A9 → A10 → A11 → A12 → A13 → A14 → A15 → A16 → Prop) (I : A1 → A2 → A3 → A4 → A5 → A6 → A7 → A8 → A9 → A10 → A11 → A12 → A13 → A14 → A15 → A16 → Prop) (μ : A1 → A2 → A3 → A4 → A5 → A6 → A7 → A8 → A9 → A10 → A11 → A12 → A13 → A14 → A15 → A16 → Nat) (hs : ∀ (n : Nat) (a1 : A1) (a2 : A2) (a3 : A3) (a4 : A4) (a5 : A5) (a6 : A6) (a7 : A7) (a8 : A8) (a9 : A9) (a10 : A10) (a11 : A11) (a12 : A12) (a13 : A13) (a14 : A14) (a15 : A15) (a16 : A16), I a1 a2 a3 a4 a5 a6 a7 a8 a9 a10 a11 a12 a13 a14 a15 a16 → (∀ (b1 : A1) (b2 : A2) (b3 : A3) (b4 : A4) (b5 : A5) (b6 : A6) (b7 : A7) (b8 : A8) (b9 : A9) (b10 : A10) (b11 : A11) (b12 : A12) (b13 : A13) (b14 : A14) (b15 : A15) (b16 : A16), I b1 b2 b3 b4 b5 b6 b7 b8 b9 b10 b11 b12 b13 b14 b15 b16 → μ b1 b2 b3 b4 b5 b6 b7 b8 b9 b10 b11 b12 b13 b14 b15 b16 < μ a1 a2 a3 a4 a5 a6 a7 a8 a9 a10 a11 a12 a13 a14 a15 a16 → W n b1 b2 b3 b4 b5 b6 b7 b8 b9 b10 b11 b12 b13 b14 b15 b16) → W (n + 1) a1 a2 a3 a4 a5 a6 a7 a8 a9 a10 a11 a12 a13 a14 a15 a16) (a1 : A1) (a2 : A2) (a3 : A3) (a4 : A4) (a5 : A5) (a6 : A6) (a7 : A7) (a8 : A8) (a9 : A9) (a10 : A10) (a11 : A11) (a12 : A12) (a13 : A13) (a14 : A14) (a15 : A15) (a16 : A16) (h : I a1 a2 a3 a4 a5 a6 a7 a8 a9 a10 a11 a12 a13 a14 a15 a16) : ∃ n, W n a1 a2 a3 a4 a5 a6 a7 a8 a9 a10 a11 a12 a13 a14 a15 a16 :=
  loop_m (σ := A1 × A2 × A3 × A4 × A5 × A6 × A7 × A8 × A9 × A10 × A11 × A12 × A13 × A14 × A15 × A16) (fun n s => W n s.1 s.2.1 s.2.2.1 s.2.2.2.1 s.2.2.2.2.1 s.2.2.2.2.2.1 s.2.2.2.2.2.2.1 s.2.2.2.2.2.2.2.1 s.2.2.2.2.2.2.2.2.1 s.2.2.2.2.2.2.2.2.2.1 s.2.2.2.2.2.2.2.2.2.2.1 s.2.2.2.2.2.2.2.2.2.2.2.1 s.2.2.2.2.2.2.2.2.2.2.2.2.1 s.2.2.2.2.2.2.2.2.2.2.2.2.2.1 s.2.2.2.2.2.2.2.2.2.2.2.2.2.2.1 s.2.2.2.2.2.2.2.2.2.2.2.2.2.2.2) (fun s => I s.1 s.2.1 s.2.2.1 s.2.2.2.1 s.2.2.2.2.1 s.2.2.2.2.2.1 s.2.2.2.2.2.2.1 s.2.2.2.2.2.2.2.1 s.2.2.2.2.2.2.2.2.1 s.2.2.2.2.2.2.2.2.2.1 s.2.2.2.2.2.2.2.2.2.2.1 s.2.2.2.2.2.2.2.2.2.2.2.1 s.2.2.2.2.2.2.2.2.2.2.2.2.1 s.2.2.2.2.2.2.2.2.2.2.2.2.2.1 s.2.2.2.2.2.2.2.2.2.2.2.2.2.2.1 s.2.2.2.2.2.2.2.2.2.2.2.2.2.2.2) (fun s => μ s.1 s.2.1 s.2.2.1 s.2.2.2.1 s.2.2.2.2.1 s.2.2.2.2.2.1 s.2.2.2.2.2.2.1 s.2.2.2.2.2.2.2.1 s.2.2.2.2.2.2.2.2.1 s.2.2.2.2.2.2.2.2.2.1 s.2.2.2.2.2.2.2.2.2.2.1 s.2.2.2.2.2.2.2.2.2.2.2.1 s.2.2.2.2.2.2.2.2.2.2.2.2.1 s.2.2.2.2.2.2.2.2.2.2.2.2.2.1 s.2.2.2.2.2.2.2.2.2.2.2.2.2.2.1 s.2.2.2.2.2.2.2.2.2.2.2.2.2.2.2) (fun n s hI hk => hs n s.1 s.2.1 s.2.2.1 s.2.2.2.1 s.2.2.2.2.1 s.2.2.2.2.2.1 s.2.2.2.2.2.2.1 s.2.2.2.2.2.2.2.1 s.2.2.2.2.2.2.2.2.1 s.2.2.2.2.2.2.2.2.2.1 s.2.2.2.2.2.2.2.2.2.2.1 s.2.2.2.2.2.2.2.2.2.2.2.1 s.2.2.2.2.2.2.2.2.2.2.2.2.1 s.2.2.2.2.2.2.2.2.2.2.2.2.2.1 s.2.2.2.2.2.2.2.2.2.2.2.2.2.2.1 s.2.2.2.2.2.2.2.2.2.2.2.2.2.2.2 hI (fun b1 b2 b3 b4 b5 b6 b7 b8 b9 b10 b11 b12 b13 b14 b15 b16 h9 hm => hk (b1, b2, b3, b4, b5, b6, b7, b8, b9, b10, b11, b12, b13, b14, b15, b16) h9 hm)) (a1, a2, a3, a4, a5, a6, a7, a8, a9, a10, a11, a12, a13, a14, a15, a16) h
theorem pk_least (P : Nat → Prop) (h : ∃ k, P k) : ∃ k, P k ∧ ∀ j, j < k → ¬ P j := by
  obtain ⟨k, hk⟩ := h
  induction k using Nat.strongRecOn with
  | ind k ih =>
    by_cases e : ∃ j, j < k ∧ P j
    · obtain ⟨j, hj, pj⟩ := e
      exact ih j hj pj
    · exact ⟨k, hk, fun j hj pj => e ⟨j, hj, pj⟩⟩
theorem rp1 {ρ A1 : Type} (W : Nat → (ρ → Prop) → A1 → Prop) (ok : A1 → Prop) (μ : A1 → Nat) (val : A1 → ρ)
    (hs : ∀ (d : Nat) (post : ρ → Prop) (a1 : A1), ok a1 → post (val a1) → (∀ (post' : ρ → Prop) (b1 : A1), ok b1 → μ b1 < μ a1 → post' (val b1) → W d post' b1) → W (d + 1) post a1) :
    ∀ (d : Nat) (post : ρ → Prop) (a1 : A1), ok a1 → μ a1 < d → post (val a1) → W d post a1 := by
  intro d
  induction d with
  | zero => intro post a1 _ h; omega
  | succ d ih =>
    intro post a1 ho hm hp
    exact hs d post a1 ho hp (fun post' b1 ho' hm' hp' => ih post' b1 ho' (by omega) hp')
theorem rp2 {ρ A1 A2 : Type} (W : Nat → (ρ → Prop) → A1 → A2 → Prop) (ok : A1 → A2 → Prop) (μ : A1 → A2 → Nat) (val : A1 → A2 → ρ)
    (hs : ∀ (d : Nat) (post : ρ → Prop) (a1 : A1) (a2 : A2), ok a1 a2 → post (val a1 a2) → (∀ (post' : ρ → Prop) (b1 : A1) (b2 : A2), ok b1 b2 → μ b1 b2 < μ a1 a2 → post' (val b1 b2) → W d post' b1 b2) → W (d + 1) post a1 a2) :
    ∀ (d : Nat) (post : ρ → Prop) (a1 : A1) (a2 : A2), ok a1 a2 → μ a1 a2 < d → post (val a1 a2) → W d post a1 a2 := by
  intro d
  induction d with
  | zero => intro post a1 a2 _ h; omega
  | succ d ih =>
    intro post a1 a2 ho hm hp
    exact hs d post a1 a2 ho hp (fun post' b1 b2 ho' hm' hp' => ih post' b1 b2 ho' (by omega) hp')
theorem rp3 {ρ A1 A2 A3 : Type} (W : Nat → (ρ → Prop) → A1 → A2 → A3 → Prop) (ok : A1 → A2 → A3 → Prop) (μ : A1 → A2 → A3 → Nat) (val : A1 → A2 → A3 → ρ)
    (hs : ∀ (d : Nat) (post : ρ → Prop) (a1 : A1) (a2 : A2) (a3 : A3), ok a1 a2 a3 → post (val a1 a2 a3) → (∀ (post' : ρ → Prop) (b1 : A1) (b2 : A2) (b3 : A3), ok b1 b2 b3 → μ b1 b2 b3 < μ a1 a2 a3 → post' (val b1 b2 b3) → W d post' b1 b2 b3) → W (d + 1) post a1 a2 a3) :
    ∀ (d : Nat) (post : ρ → Prop) (a1 : A1) (a2 : A2) (a3 : A3), ok a1 a2 a3 → μ a1 a2 a3 < d → post (val a1 a2 a3) → W d post a1 a2 a3 := by
  intro d
  induction d with
  | zero => intro post a1 a2 a3 _ h; omega
  | succ d ih =>
    intro post a1 a2 a3 ho hm hp
    exact hs d post a1 a2 a3 ho hp (fun post' b1 b2 b3 ho' hm' hp' => ih post' b1 b2 b3 ho' (by omega) hp')
theorem rp4 {ρ A1 A2 A3 A4 : Type} (W : Nat → (ρ → Prop) → A1 → A2 → A3 → A4 → Prop) (ok : A1 → A2 → A3 → A4 → Prop) (μ : A1 → A2 → A3 → A4 → Nat) (val : A1 → A2 → A3 → A4 → ρ)
    (hs : ∀ (d : Nat) (post : ρ → Prop) (a1 : A1) (a2 : A2) (a3 : A3) (a4 : A4), ok a1 a2 a3 a4 → post (val a1 a2 a3 a4) → (∀ (post' : ρ → Prop) (b1 : A1) (b2 : A2) (b3 : A3) (b4 : A4), ok b1 b2 b3 b4 → μ b1 b2 b3 b4 < μ a1 a2 a3 a4 → post' (val b1 b2 b3 b4) → W d post' b1 b2 b3 b4) → W (d + 1) post a1 a2 a3 a4) :
    ∀ (d : Nat) (post : ρ → Prop) (a1 : A1) (a2 : A2) (a3 : A3) (a4 : A4), ok a1 a2 a3 a4 → μ a1 a2 a3 a4 < d → post (val a1 a2 a3 a4) → W d post a1 a2 a3 a4 := by
  intro d
  induction d with
  | zero => intro post a1 a2 a3 a4 _ h; omega
  | succ d ih =>
    intro post a1 a2 a3 a4 ho hm hp
    exact hs d post a1 a2 a3 a4 ho hp (fun post' b1 b2 b3 b4 ho' hm' hp' => ih post' b1 b2 b3 b4 ho' (by omega) hp')
theorem rp5 {ρ A1 A2 A3 A4 A5 : Type} (W : Nat → (ρ → Prop) → A1 → A2 → A3 → A4 → A5 → Prop) (ok : A1 → A2 → A3 → A4 → A5 → Prop) (μ : A1 → A2 → A3 → A4 → A5 → Nat) (val : A1 → A2 → A3 → A4 → A5 → ρ)
    (hs : ∀ (d : Nat) (post : ρ → Prop) (a1 : A1) (a2 : A2) (a3 : A3) (a4 : A4) (a5 : A5), ok a1 a2 a3 a4 a5 → post (val a1 a2 a3 a4 a5) → (∀ (post' : ρ → Prop) (b1 : A1) (b2 : A2) (b3 : A3) (b4 : A4) (b5 : A5), ok b1 b2 b3 b4 b5 → μ b1 b2 b3 b4 b5 < μ a1 a2 a3 a4 a5 → post' (val b1 b2 b3 b4 b5) → W d post' b1 b2 b3 b4 b5) → W (d + 1) post a1 a2 a3 a4 a5) :
    ∀ (d : Nat) (post : ρ → Prop) (a1 : A1) (a2 : A2) (a3 : A3) (a4 : A4) (a5 : A5), ok a1 a2 a3 a4 a5 → μ a1 a2 a3 a4 a5 < d → post (val a1 a2 a3 a4 a5) → W d post a1 a2 a3 a4 a5 := by
  intro d
  induction d with
  | zero => intro post a1 a2 a3 a4 a5 _ h; omega
  | succ d ih =>
    intro post a1 a2 a3 a4 a5 ho hm hp
    exact hs d post a1 a2 a3 a4 a5 ho hp (fun post' b1 b2 b3 b4 b5 ho' hm' hp' => ih post' b1 b2 b3 b4 b5 ho' (by omega) hp')
theorem rp6 {ρ A1 A2 A3 A4 A5 A6 : Type} (W : Nat → (ρ → Prop) → A1 → A2 → A3 → A4 → A5 → A6 → Prop) (ok : A1 → A2 → A3 → A4 → A5 → A6 → Prop) (μ : A1 → A2 → A3 → A4 → A5 → A6 → Nat) (val : A1 → A2 → A3 → A4 → A5 → A6 → ρ)
    (hs : ∀ (d : Nat) (post : ρ → Prop) (a1 : A1) (a2 : A2) (a3 : A3) (a4 : A4) (a5 : A5) (a6 : A6), ok a1 a2 a3 a4 a5 a6 → post (val a1 a2 a3 a4 a5 a6) → (∀ (post' : ρ → Prop) (b1 : A1) (b2 : A2) (b3 : A3) (b4 : A4) (b5 : A5) (b6 : A6), ok b1 b2 b3 b4 b5 b6 → μ b1 b2 b3 b4 b5 b6 < μ a1 a2 a3 a4 a5 a6 → post' (val b1 b2 b3 b4 b5 b6) → W d post' b1 b2 b3 b4 b5 b6) → W (d + 1) post a1 a2 a3 a4 a5 a6) :
    ∀ (d : Nat) (post : ρ → Prop) (a1 : A1) (a2 : A2) (a3 : A3) (a4 : A4) (a5 : A5) (a6 : A6), ok a1 a2 a3 a4 a5 a6 → μ a1 a2 a3 a4 a5 a6 < d → post (val a1 a2 a3 a4 a5 a6) → W d post a1 a2 a3 a4 a5 a6 := by
  intro d
  induction d with
  | zero => intro post a1 a2 a3 a4 a5 a6 _ h; omega
  | succ d ih =>
    intro post a1 a2 a3 a4 a5 a6 ho hm hp
    exact hs d post a1 a2 a3 a4 a5 a6 ho hp (fun post' b1 b2 b3 b4 b5 b6 ho' hm' hp' => ih post' b1 b2 b3 b4 b5 b6 ho' (by omega) hp')
theorem rec_p {σ ρ : Type} (W : Nat → (ρ → Prop) → σ → Prop) (ok : σ → Prop) (μ : σ → Nat) (val : σ → ρ)
    (hs : ∀ d s post, ok s → post (val s) → (∀ s' post', ok s' → μ s' < μ s → post' (val s') → W d post' s') → W (d + 1) post s) :
    ∀ d s post, ok s → μ s < d → post (val s) → W d post s := by
  intro d
  induction d with
  | zero => intro s post _ h; omega
  | succ d ih =>
    intro s post ho hm hp
    exact hs d s post ho hp (fun s' post' ho' hm' hp' => ih s' post' ho' (by omega) hp')
theorem rec_q {σ ρ : Type} (W : Nat → (ρ → Prop) → σ → Prop) (ok : σ → Prop) (μ : σ → Nat) (Q : σ → ρ → Prop)
    (hs : ∀ d s post, ok s → (∀ r, Q s r → post r) → (∀ s' post', ok s' → μ s' < μ s → (∀ r, Q s' r → post' r) → W d post' s') → W (d + 1) post s) :
    ∀ d s post, ok s → μ s < d → (∀ r, Q s r → post r) → W d post s := by
  intro d
  induction d with
  | zero => intro s post _ h; omega
  | succ d ih =>
    intro s post ho hm hp
    exact hs d s post ho hp (fun s' post' ho' hm' hp' => ih s' post' ho' (by omega) hp')
def bx_sum (f : Nat → Int32) : Nat → Int32
  | 0 => 0
  | n + 1 => bx_sum f n + f n
theorem ek_u {A : Prop} {B : Nat → Prop} {k N : Nat} (hk : k < N) (h : B k) : (some k = none → A) ∧ (∀ y : Nat, some k = some y → (y < N ∧ B y)) :=
  ⟨fun z => absurd z (Option.some_ne_none k), fun _ e => (by cases e; exact ⟨hk, h⟩)⟩
theorem ek_nu {A : Prop} {B : Nat → Prop} (h : A) : ((none : Option Nat) = none → A) ∧ (∀ y : Nat, (none : Option Nat) = some y → B y) :=
  ⟨fun _ => h, fun _ e => (by cases e)⟩
theorem ek_if {c d A B : Prop} (e : c ↔ d) (f : d → A) (g : ¬ d → B) : (c → A) ∧ (¬ c → B) :=
  ⟨fun z => f (e.mp z), fun z => g (fun y => z (e.mpr y))⟩
theorem ek_v {α : Sort _} {P : α → Prop} {a b : α} (e : a = b) (h : P b) : P a := e ▸ h
theorem co_some {x : Option Nat} {A : Prop} {B : Nat → Prop} (i : Nat) (h : B i) (hx : x = some i := by rfl) : (x = none → A) ∧ (∀ y : Nat, x = some y → B y) := by
  subst hx
  exact ⟨fun e => (nomatch e), fun y e => Option.some.inj e ▸ h⟩
theorem co_none {x : Option Nat} {A : Prop} {B : Nat → Prop} (h : A) (hx : x = none := by rfl) : (x = none → A) ∧ (∀ y : Nat, x = some y → B y) := by
  subst hx
  exact ⟨fun _ => h, fun y e => (nomatch e)⟩
theorem co_any {x : Option Nat} {A : Prop} {B : Nat → Prop} (hn : x = none → A) (hs : ∀ i : Nat, x = some i → B i) : (x = none → A) ∧ (∀ y : Nat, x = some y → B y) := ⟨hn, hs⟩
theorem co_2 {P : Nat → Prop} (h0 : P 0) (h1 : P 1) {i : Nat} (hi : i < 2) : P i :=
  match i, hi with
  | 0, _ => h0
  | 1, _ => h1
theorem co_3 {P : Nat → Prop} (h0 : P 0) (h1 : P 1) (h2 : P 2) {i : Nat} (hi : i < 3) : P i :=
  match i, hi with
  | 0, _ => h0
  | 1, _ => h1
  | 2, _ => h2
theorem co_4 {P : Nat → Prop} (h0 : P 0) (h1 : P 1) (h2 : P 2) (h3 : P 3) {i : Nat} (hi : i < 4) : P i :=
  match i, hi with
  | 0, _ => h0
  | 1, _ => h1
  | 2, _ => h2
  | 3, _ => h3
theorem co_dec {N : Nat} {P : Nat → Prop} [DecidablePred P] (h : (List.range N).all (fun i => decide (P i)) = true) {i : Nat} (hi : i < N) : P i := by
  have := List.all_eq_true.mp h i (List.mem_range.mpr hi)
  exact of_decide_eq_true this
theorem co_tab {α : Type} {l : List α} {d : α} {P : α → Prop} (h : ∀ a, a ∈ l → P a) {i : Nat} (hi : i < l.length) : P (l.getD i d) := by
  rw [List.getD_eq_getElem?_getD, List.getElem?_eq_getElem hi]
  exact h _ (List.getElem_mem hi)
theorem pk_mu {x : Int32} {L : Nat} (h0 : ¬ x < 0) (h : ¬ nI L ≤ x) (hL : L < 2 ^ 31) : ∃ j : Nat, j < L ∧ x = nI j ∧ x + 1 = nI (j + 1) ∧ x.toNatClampNeg = j ∧ L - (x + 1).toNatClampNeg < L - x.toNatClampNeg := by
  obtain ⟨j, hj, rfl⟩ := nI_of h0
  have hl : j < L := Nat.not_le.mp fun q => h (nI_le q hj)
  refine ⟨j, hl, rfl, nI_1 j, nI_clamp hj, ?_⟩
  rw [nI_1, nI_clamp (by omega), nI_clamp hj]
  omega
theorem op_s {α : Type} {r : Option α} {A : Prop} {B : α → Prop} {y : α} (h : r = some y) (b : B y) : (r = none → A) ∧ ∀ z, r = some z → B z :=
  ⟨fun e => (by rw [h] at e; cases e), fun z e => (by rw [h] at e; cases e; exact b)⟩
def l_holds {α : Type} (a : Nat → Option Nat) (LP : List Nat) (p : Nat → α) (c : Nat) (b : Nat → α) : Prop :=
  ∀ j, j < c → ∃ y, a j = some y ∧ y ∈ LP ∧ p y = b j
theorem l_holds_0 {α : Type} {a : Nat → Option Nat} {LP : List Nat} {p b : Nat → α} : l_holds a LP p 0 b := fun j h => absurd h (Nat.not_lt_zero j)
theorem l_in_new (LP : List Nat) (q : Nat) : q ∈ LP ++ [q] := List.mem_append.mpr (Or.inr (List.mem_singleton.mpr rfl))
def l_sum (b : Nat → Int32) : Nat → Int32
  | 0 => 0
  | k + 1 => l_sum b k + b k
theorem sb_shr0 (x : Int32) : x >>> ((0 : Int32) &&& 31) = x := by
  rw [show ((0 : Int32) &&& 31) = 0 by decide]
  simp
theorem sb_shl0 (x : Int32) : x <<< ((0 : Int32) &&& 31) = x := by
  rw [show ((0 : Int32) &&& 31) = 0 by decide]
  simp
theorem sb_cl0 : (0 : Int32).toNatClampNeg = 0 := by decide
theorem sb_m1 {p : Nat} (h : 0 < p) : nI p + (-1) = nI (p - 1) := by
  obtain ⟨q, rfl⟩ : ∃ q, p = q + 1 := ⟨p - 1, by omega⟩
  exact pk_m1 q
def sb_b (c : Nat) : Int32 := (nI c).toInt8.toInt32
theorem sb_byte : ∀ c, c < 256 → sb_b c &&& 255 = nI c ∧ ((nI c).toUInt32 % 65536).toInt32 = nI c ∧ nI c ≤ 255 := by decide +kernel
def sb_Fit (a : Nat → Int32) : Prop := ∀ j, fits .byte (.int (a j)) = true
def sb_Lat (t : Nat → Nat) (n : Nat) (a : Nat → Int32) : Prop := ∀ j, j < n → t j < 256 ∧ a j = sb_b (t j)
theorem sb_fitB (c : Nat) : fits .byte (.int (sb_b c)) = true := pk_fb _
theorem sb_fit0 : sb_Fit (fun _ => 0) := fun _ => by
  show fits .byte (.int 0) = true
  decide
theorem sb_fitU {a : Nat → Int32} {k : Nat} {x : Int32} (h : sb_Fit a) (hx : fits .byte (.int x) = true) : sb_Fit (upd a k x) := by
  intro j
  by_cases e : j = k
  · subst e
    rw [pk_us]
    exact hx
  · rw [pk_un e]
    exact h j
def sb_cat (t : Nat → Nat) (n : Nat) (s : Nat → Nat) : Nat → Nat := fun j => if j < n then t j else s (j - n)
theorem sb_cat_lo {t s : Nat → Nat} {n j : Nat} (h : j < n) : sb_cat t n s j = t j := if_pos h
theorem sb_cat_hi {t s : Nat → Nat} {n j : Nat} : sb_cat t n s (n + j) = s j := by
  show (if n + j < n then t (n + j) else s (n + j - n)) = s j
  rw [if_neg (by omega), Nat.add_sub_cancel_left]
theorem sb_latPut {t s : Nat → Nat} {n w : Nat} {a a' : Nat → Int32} (h : sb_Lat t n a) (hk : ∀ j, j < n → a' j = a j) (hs : ∀ i, i < w → s i < 256 ∧ a' (n + i) = sb_b (s i)) : sb_Lat (sb_cat t n s) (n + w) a' := by
  intro j hj
  by_cases e : j < n
  · rw [sb_cat_lo e, hk j e]
    exact h j e
  · obtain ⟨i, rfl⟩ : ∃ i, j = n + i := ⟨j - n, by omega⟩
    rw [sb_cat_hi]
    exact hs i (by omega)
theorem sb_latKeep {t : Nat → Nat} {n : Nat} {a a' : Nat → Int32} (h : sb_Lat t n a) (hk : ∀ j, j < n → a' j = a j) : sb_Lat t n a' := fun j hj => by
  rw [hk j hj]
  exact h j hj
def sb_cap (q m : Nat) : Nat := if q ≤ m then m else if 2 * m + 2 < q then q else 2 * m + 2
def sb_Room (q m mc ms : Nat) : Prop := q ≤ m ∨ (1 ≤ mc ∧ sb_cap q m ≤ ms ∧ sb_cap q m ≤ 65536)
theorem sb_cap_ge (q m : Nat) : q ≤ sb_cap q m := by
  unfold sb_cap
  split
  · omega
  · split <;> omega
theorem sb_cap_gem (q m : Nat) : m ≤ sb_cap q m := by
  unfold sb_cap
  split
  · omega
  · split <;> omega
theorem sb_cap_le {q m mc ms : Nat} (hm : m ≤ 65536) (hr : sb_Room q m mc ms) : sb_cap q m ≤ 65536 := by
  rcases hr with h | h
  · rw [sb_cap, if_pos h]
    exact hm
  · exact h.2.2
theorem sb_at {P : Int32 → Prop} {x y : Int32} (e : x = y) (h : P y) : P x := e ▸ h
def sb_dg (w : Nat) : Nat := if w < 10 then 1 else if w < 100 then 2 else if w < 1000 then 3 else if w < 10000 then 4 else if w < 100000 then 5 else if w < 1000000 then 6 else if w < 10000000 then 7 else if w < 100000000 then 8 else if w < 1000000000 then 9 else 10
def sb_dec (v : Nat) : Nat → Nat := fun i => 48 + v / 10 ^ (sb_dg v - 1 - i) % 10
theorem sb_dg_in (w : Nat) : 1 ≤ sb_dg w ∧ sb_dg w ≤ 10 := by
  unfold sb_dg
  constructor <;> (repeat' split) <;> omega
theorem sb_dg100 {w : Nat} (h : 100 ≤ w) (hw : w < 2 ^ 31) : sb_dg w = sb_dg (w / 100) + 2 := by
  rw [sb_dg, sb_dg, if_neg (show ¬ w < 10 by omega), if_neg (show ¬ w < 100 by omega)]
  by_cases h3 : w < 1000
  · rw [if_pos h3, if_pos (show w / 100 < 10 by omega)]
  rw [if_neg h3, if_neg (show ¬ w / 100 < 10 by omega)]
  by_cases h4 : w < 10000
  · rw [if_pos h4, if_pos (show w / 100 < 100 by omega)]
  rw [if_neg h4, if_neg (show ¬ w / 100 < 100 by omega)]
  by_cases h5 : w < 100000
  · rw [if_pos h5, if_pos (show w / 100 < 1000 by omega)]
  rw [if_neg h5, if_neg (show ¬ w / 100 < 1000 by omega)]
  by_cases h6 : w < 1000000
  · rw [if_pos h6, if_pos (show w / 100 < 10000 by omega)]
  rw [if_neg h6, if_neg (show ¬ w / 100 < 10000 by omega)]
  by_cases h7 : w < 10000000
  · rw [if_pos h7, if_pos (show w / 100 < 100000 by omega)]
  rw [if_neg h7, if_neg (show ¬ w / 100 < 100000 by omega)]
  by_cases h8 : w < 100000000
  · rw [if_pos h8, if_pos (show w / 100 < 1000000 by omega)]
  rw [if_neg h8, if_neg (show ¬ w / 100 < 1000000 by omega)]
  by_cases h9 : w < 1000000000
  · rw [if_pos h9, if_pos (show w / 100 < 10000000 by omega)]
  rw [if_neg h9, if_neg (show ¬ w / 100 < 10000000 by omega)]
  rw [if_pos (show w / 100 < 100000000 by omega)]
theorem sb_negT {w : Nat} (h : w < 2 ^ 31) : (-nI w).toInt = -(w : Int) := by
  rw [Int32.toInt_neg, nI_toInt h]
  exact Int.bmod_eq_of_le (by omega) (by omega)
theorem sb_nle {a b : Nat} (ha : a < 2 ^ 31) (hb : b < 2 ^ 31) : -nI a ≤ -nI b ↔ b ≤ a := by
  rw [Int32.le_iff_toInt_le, sb_negT ha, sb_negT hb]
  omega
theorem sb_nlt {a b : Nat} (ha : a < 2 ^ 31) (hb : b < 2 ^ 31) : -nI a < -nI b ↔ b < a := by
  rw [Int32.lt_iff_toInt_lt, sb_negT ha, sb_negT hb]
  omega
theorem sb_cmp {A B : Prop} {x : Int32} (v c : Nat) (f : c ≤ v → A) (g : v < c → B) (hv : v < 2 ^ 31) (hx : x = -nI c := by rfl) (hc : c < 2 ^ 31 := by omega) : (-nI v ≤ x → A) ∧ (¬ -nI v ≤ x → B) := by
  subst hx
  rw [sb_nle hv hc]
  exact ⟨f, fun z => g (by omega)⟩
theorem sb_ndiv {w : Nat} (hw : w < 2 ^ 31) : (-nI w) / 100 = -nI (w / 100) := by
  apply Int32.toInt_inj.mp
  have h100 : (100 : Int32).toInt = 100 := by decide
  rw [Int32.toInt_div, sb_negT hw, h100, sb_negT (by omega), Int.neg_tdiv, Int.tdiv_eq_ediv_of_nonneg (by omega), Int.bmod_eq_of_le (by omega) (by omega)]
  omega
theorem sb_nrem {w : Nat} (hw : w < 2 ^ 31) : (-nI (w / 100)) * 100 - (-nI w) = nI (w % 100) := by
  have h := pk_rem (a := w) (d := 100) hw (by decide) (by decide)
  rw [pk_div hw (by decide) (by decide)] at h
  rw [← h]
  show (-nI (w / 100)) * nI 100 - (-nI w) = nI w - nI (w / 100) * nI 100
  rw [Int32.neg_mul, Int32.sub_neg, Int32.add_comm, ← Int32.sub_eq_add_neg]
/-! rows on bits, shifts and unsigned numbers, to paste: each family out of a closed proof of our own, whole with what it rests on; each by itself clean at Lean in its own claim (generation 39, form 5). Take a family whole -/
/-! ===== Int32 by its bits: bt x i ===== -/
def bt (x : Int32) (i : Nat) : Bool := x.toBitVec.getLsbD i
theorem b_ext {x y : Int32} (h : ∀ i, i < 32 → bt x i = bt y i) : x = y := Int32.toBitVec_inj.mp (BitVec.eq_of_getLsbD_eq (fun i hi => h i hi))
theorem b_or (x y : Int32) (i : Nat) : bt (x ||| y) i = (bt x i || bt y i) := by unfold bt; rw [Int32.toBitVec_or, BitVec.getLsbD_or]
theorem b_and (x y : Int32) (i : Nat) : bt (x &&& y) i = (bt x i && bt y i) := by unfold bt; rw [Int32.toBitVec_and, BitVec.getLsbD_and]
theorem b_xor (x y : Int32) (i : Nat) : bt (x ^^^ y) i = (bt x i ^^ bt y i) := by unfold bt; rw [Int32.toBitVec_xor, BitVec.getLsbD_xor]
theorem b_big {x : Int32} {i : Nat} (h : 32 ≤ i) : bt x i = false := BitVec.getLsbD_of_ge _ _ h
theorem b_255 (i : Nat) : bt 255 i = decide (i < 8) := by
  rcases Nat.lt_or_ge i 32 with h | h
  · exact (by decide +kernel : ∀ i, i < 32 → bt 255 i = decide (i < 8)) i h
  · rw [b_big h, decide_eq_false (by omega)]
theorem b_65535 (i : Nat) : bt 65535 i = decide (i < 16) := by
  rcases Nat.lt_or_ge i 32 with h | h
  · exact (by decide +kernel : ∀ i, i < 32 → bt 65535 i = decide (i < 16)) i h
  · rw [b_big h, decide_eq_false (by omega)]
theorem b_m1 : ∀ i, i < 32 → bt (-1) i = true := by decide +kernel
theorem b_0 (i : Nat) : bt 0 i = false := BitVec.getLsbD_zero
theorem s_l : ∀ n, n < 32 → ((nI n &&& 31).toBitVec.smod 32).toNat = n := by decide +kernel
theorem s_u : ∀ n, n < 32 → (((nI n).toUInt32 &&& Int32.toUInt32 31).toBitVec % 32).toNat = n := by decide +kernel
theorem b_shl (n : Nat) (hn : n < 32) (x : Int32) {i : Nat} (hi : i < 32) : bt (x <<< (nI n &&& 31)) i = (decide (n ≤ i) && bt x (i - n)) := by
  unfold bt
  rw [Int32.toBitVec_shiftLeft]
  show (x.toBitVec <<< ((nI n &&& 31).toBitVec.smod 32).toNat).getLsbD i = _
  rw [s_l n hn, BitVec.getLsbD_shiftLeft]
  rcases Nat.lt_or_ge i n with h | h
  · simp [h, Nat.not_le.mpr h]
  · simp [hi, h, Nat.not_lt.mpr h]
theorem b_ushr (n : Nat) (hn : n < 32) (x : Int32) (i : Nat) : bt ((x.toUInt32 >>> ((nI n).toUInt32 &&& Int32.toUInt32 31)).toInt32) i = bt x (n + i) := by
  show (x.toUInt32 >>> ((nI n).toUInt32 &&& Int32.toUInt32 31)).toBitVec.getLsbD i = x.toUInt32.toBitVec.getLsbD (n + i)
  rw [UInt32.toBitVec_shiftRight]
  show (x.toUInt32.toBitVec >>> (((nI n).toUInt32 &&& Int32.toUInt32 31).toBitVec % 32).toNat).getLsbD i = _
  rw [s_u n hn, BitVec.getLsbD_ushiftRight]
theorem b_sshr (n : Nat) (hn : n < 32) (x : Int32) {i : Nat} (hi : i < 32) : bt (x >>> (nI n &&& 31)) i = if n + i < 32 then bt x (n + i) else bt x 31 := by
  unfold bt
  rw [Int32.toBitVec_shiftRight]
  show (x.toBitVec.sshiftRight ((nI n &&& 31).toBitVec.smod 32).toNat).getLsbD i = _
  rw [s_l n hn, BitVec.getLsbD_sshiftRight, BitVec.msb_eq_getLsbD_last]
  simp [hi]
theorem b_shl8 (x : Int32) {i : Nat} (hi : i < 32) : bt (x <<< ((8 : Int32) &&& 31)) i = (decide (8 ≤ i) && bt x (i - 8)) := b_shl 8 (by omega) x hi
theorem b_shl16 (x : Int32) {i : Nat} (hi : i < 32) : bt (x <<< ((16 : Int32) &&& 31)) i = (decide (16 ≤ i) && bt x (i - 16)) := b_shl 16 (by omega) x hi
theorem b_shl24 (x : Int32) {i : Nat} (hi : i < 32) : bt (x <<< ((24 : Int32) &&& 31)) i = (decide (24 ≤ i) && bt x (i - 24)) := b_shl 24 (by omega) x hi
theorem b_sshr8 (x : Int32) {i : Nat} (hi : i < 32) : bt (x >>> ((8 : Int32) &&& 31)) i = if 8 + i < 32 then bt x (8 + i) else bt x 31 := b_sshr 8 (by omega) x hi
/-! ===== nI under and, xor, >>>, one bit, 65535 ===== -/
theorem nx_and (a b : Nat) : nI a &&& nI b = nI (a &&& b) := by
  apply Int32.toBitVec_inj.1
  show BitVec.ofNat 32 a &&& BitVec.ofNat 32 b = BitVec.ofNat 32 (a &&& b)
  apply BitVec.eq_of_getLsbD_eq
  intro i hi
  simp [hi]
theorem nx_xor (a b : Nat) : nI a ^^^ nI b = nI (a ^^^ b) := by
  apply Int32.toBitVec_inj.1
  show BitVec.ofNat 32 a ^^^ BitVec.ofNat 32 b = BitVec.ofNat 32 (a ^^^ b)
  apply BitVec.eq_of_getLsbD_eq
  intro i hi
  simp [hi]
theorem nx_cnt : ∀ j : Fin 32, (UInt32.ofNat j.val &&& Int32.toUInt32 31).toNat % 32 = j.val := by decide +kernel
theorem nx_ush {k j : Nat} (hk : k < 65536) (hj : j < 32) : ((nI k).toUInt32 >>> ((nI j).toUInt32 &&& Int32.toUInt32 31)).toInt32 = nI (k >>> j) := by
  have hs : k >>> j ≤ k := by
    rw [Nat.shiftRight_eq_div_pow]
    exact Nat.div_le_self _ _
  have e2 : UInt32.ofNat k >>> (UInt32.ofNat j &&& Int32.toUInt32 31) = UInt32.ofNat (k >>> j) := by
    apply UInt32.toNat_inj.1
    have h1 : (UInt32.ofNat k).toNat = k := Nat.mod_eq_of_lt (by omega)
    have h2 : (UInt32.ofNat (k >>> j)).toNat = k >>> j := Nat.mod_eq_of_lt (by omega)
    rw [UInt32.toNat_shiftRight, nx_cnt ⟨j, hj⟩, h1, h2]
  show (UInt32.ofNat k >>> (UInt32.ofNat j &&& Int32.toUInt32 31)).toInt32 = _
  rw [e2]
  rfl
theorem nx_bit {k j : Nat} (hk : k < 65536) (hj : j < 16) : (((nI k).toUInt32 >>> ((nI j).toUInt32 &&& Int32.toUInt32 31)).toInt32 &&& 1) = 0 ↔ k.testBit j = false := by
  rw [nx_ush hk (by omega)]
  show nI (k >>> j) &&& nI 1 = 0 ↔ _
  rw [nx_and, Nat.and_one_is_mod, ← nI_0, nI_eq (by omega) (by omega), Nat.testBit_eq_decide_div_mod_eq, Nat.shiftRight_eq_div_pow, decide_eq_false_iff_not]
  generalize k / 2 ^ j = z
  omega
theorem nx_mod (k : Nat) : nI k &&& 65535 = nI (k % 65536) := by
  show nI k &&& nI 65535 = _
  rw [nx_and, show (65535 : Nat) = 2 ^ 16 - 1 from rfl, Nat.and_two_pow_sub_one_eq_mod]
theorem nx_m16 {k : Nat} (h : k < 65536) : nI k &&& 65535 = nI k := by rw [nx_mod, Nat.mod_eq_of_lt h]
theorem nx_mask (x : Int32) : ∃ k, k < 65536 ∧ x &&& 65535 = nI k := by
  have e : x = nI x.toBitVec.toNat := by
    apply Int32.toBitVec_inj.1
    show x.toBitVec = BitVec.ofNat 32 x.toBitVec.toNat
    simp
  refine ⟨x.toBitVec.toNat % 65536, Nat.mod_lt _ (by omega), ?_⟩
  rw [← nx_mod, ← e]
/-! ===== Int32 as a set of bits: test, set ===== -/
def nf_M (m : Int32) : Nat := 4294967296 - m.toBitVec.toNat
theorem nf_sh : ∀ l, l < 32 → ((1 : Int32) <<< (nI l &&& 31)).toBitVec = BitVec.twoPow 32 l := by decide +kernel
theorem nf_sl : ∀ l, l < 32 → (((nI l).toUInt32 &&& Int32.toUInt32 31).toBitVec % 32).toNat = l := by decide +kernel
theorem nf_tp : ∀ l, l < 32 → BitVec.twoPow 32 l ≠ 0#32 := by decide +kernel
theorem nf_bit (m : Int32) (l : Nat) (hl : l < 32) : ((m.toUInt32 >>> ((nI l).toUInt32 &&& Int32.toUInt32 31)).toInt32 &&& 1) = 0 ↔ (m &&& ((1 : Int32) <<< (nI l &&& 31))) = 0 := by
  have e : ((m.toUInt32 >>> ((nI l).toUInt32 &&& Int32.toUInt32 31)).toInt32).toBitVec = m.toBitVec >>> l := by
    show m.toBitVec >>> (((nI l).toUInt32 &&& Int32.toUInt32 31).toBitVec % 32) = m.toBitVec >>> l
    rw [BitVec.ushiftRight_eq', nf_sl l hl]
  rw [← Int32.toBitVec_inj, ← Int32.toBitVec_inj, Int32.toBitVec_and, Int32.toBitVec_and, nf_sh l hl, e, BitVec.and_twoPow]
  show (m.toBitVec >>> l &&& 1#32) = 0#32 ↔ _ = 0#32
  rw [BitVec.and_one_eq_setWidth_ofBool_getLsbD, BitVec.getLsbD_ushiftRight, Nat.add_zero]
  cases hb : m.toBitVec.getLsbD l
  · exact ⟨fun _ => by simp, fun _ => by decide⟩
  · exact ⟨fun z => absurd z (by decide), fun z => absurd ((if_pos rfl).symm.trans z) (nf_tp l hl)⟩
theorem nf_gr (m k : Int32) (h : m &&& k = 0) (hk : k ≠ 0) : nf_M (m ||| k) < nf_M m := by
  have hm := m.toBitVec.isLt
  have hm' := (m ||| k).toBitVec.isLt
  have h1 : m.toBitVec.toNat ≤ (m ||| k).toBitVec.toNat := by
    rw [Int32.toBitVec_or, BitVec.toNat_or]
    exact Nat.left_le_or
  have h2 : m.toBitVec.toNat ≠ (m ||| k).toBitVec.toNat := by
    intro e
    have e2 : m = m ||| k := Int32.toBitVec_inj.mp (BitVec.eq_of_toNat_eq e)
    apply hk
    apply Int32.toBitVec_inj.mp
    show k.toBitVec = 0#32
    apply BitVec.eq_of_getLsbD_eq
    intro i hi
    have a : m.toBitVec.getLsbD i = (m.toBitVec.getLsbD i || k.toBitVec.getLsbD i) := by rw [← BitVec.getLsbD_or, ← Int32.toBitVec_or, ← e2]
    have b : (m.toBitVec.getLsbD i && k.toBitVec.getLsbD i) = false := by
      rw [← BitVec.getLsbD_and, ← Int32.toBitVec_and, h]
      exact BitVec.getLsbD_zero
    rw [BitVec.getLsbD_zero]
    revert a b
    cases m.toBitVec.getLsbD i <;> cases k.toBitVec.getLsbD i <;> simp
  unfold nf_M
  omega
/-! ===== a byte read unsigned ===== -/
theorem bp_b (x : Int32) : x.toInt8.toInt32 &&& 255 = x &&& 255 := by
  apply Int32.toBitVec_inj.mp
  rw [Int32.toBitVec_and, Int32.toBitVec_and, Int8.toBitVec_toInt32, Int32.toBitVec_toInt8]
  apply BitVec.eq_of_getLsbD_eq
  intro i hi
  rw [BitVec.getLsbD_and, BitVec.getLsbD_and]
  have hm : ∀ i < 32, 8 ≤ i → (255 : Int32).toBitVec.getLsbD i = false := by decide
  rcases Nat.lt_or_ge i 8 with z | z
  · rw [BitVec.getLsbD_signExtend, BitVec.getLsbD_signExtend, if_pos z, if_pos hi]
    simp only [z, hi, decide_true, Bool.true_and]
  · rw [hm i hi z]; simp
/-! ===== the char cast and 65535 ===== -/
theorem em_w (v : Int32) : ∃ w : Nat, w < 65536 ∧ (v.toUInt32 % 65536).toInt32 = nI w ∧ v &&& 65535 = nI w := by
  have hr := lw_u16_r v
  have h0 : (0 : Int32).toInt = 0 := by decide
  obtain ⟨w, h1, h2⟩ := nI_of (x := lw_u16 v) (by rw [Int32.lt_iff_toInt_lt]; omega)
  have h3 : (v.toUInt32 % 65536).toInt32 = nI w := h2
  rw [h2, nI_toInt h1] at hr
  exact ⟨w, by omega, h3, by rw [← lg_i2c_mask, ← lg_i2c_nf, h3]⟩
/-! ===== Int64 as a set of bits: test, set, clear ===== -/
theorem ts_nf {x : Bool} (h : ¬ x = false) : x = true := by cases x <;> first | rfl | exact absurd rfl h
theorem ts_nt {x : Bool} (h : ¬ x = true) : x = false := by cases x <;> first | rfl | exact absurd rfl h
theorem ts_bit {w : Int64} {s : UInt64} {j : Nat} (hj : j < 64) (hs : s.toNat = j) : ((w.toUInt64 >>> s).toInt64 &&& 1) = 0 ↔ w.toBitVec.getLsbD j = false := by
  have e : (w.toUInt64 >>> s).toInt64.toBitVec = w.toBitVec >>> j := by
    apply BitVec.eq_of_toNat_eq
    show (w.toUInt64 >>> s).toNat = _
    rw [UInt64.toNat_shiftRight, hs, Nat.mod_eq_of_lt hj, BitVec.toNat_ushiftRight]
    rfl
  rw [← Int64.toBitVec_inj, Int64.toBitVec_and, e]
  show w.toBitVec >>> j &&& 1#64 = 0#64 ↔ _
  constructor
  · intro h
    have t := congrArg (fun x => x.getLsbD 0) h
    simpa using t
  · intro h
    apply BitVec.eq_of_getLsbD_eq
    intro i hi
    cases i with
    | zero => simp [h]
    | succ i => simp
theorem ts_or {w m : Int64} {j : Nat} (hj : j < 64) (hm : m.toBitVec = BitVec.twoPow 64 j) : (w ||| m) = w ↔ w.toBitVec.getLsbD j = true := by
  rw [← Int64.toBitVec_inj, Int64.toBitVec_or, hm]
  constructor
  · intro h
    have t := congrArg (fun x => x.getLsbD j) h
    simp only [BitVec.getLsbD_or, BitVec.getLsbD_twoPow] at t
    simpa [hj] using t.symm
  · intro h
    apply BitVec.eq_of_getLsbD_eq
    intro i hi
    rw [BitVec.getLsbD_or, BitVec.getLsbD_twoPow]
    by_cases e : j = i
    · subst e; rw [h, Bool.true_or]
    · simp [e]
theorem ts_and {w m : Int64} {j : Nat} (hj : j < 64) (hm : m.toBitVec = BitVec.twoPow 64 j) : (w &&& (m ^^^ (-1))) = w ↔ w.toBitVec.getLsbD j = false := by
  have ha : (-1 : Int64).toBitVec = BitVec.allOnes 64 := by decide
  rw [← Int64.toBitVec_inj, Int64.toBitVec_and, Int64.toBitVec_xor, hm, ha]
  constructor
  · intro h
    have t := congrArg (fun x => x.getLsbD j) h
    simp only [BitVec.getLsbD_and, BitVec.getLsbD_xor, BitVec.getLsbD_twoPow, BitVec.getLsbD_allOnes] at t
    simpa [hj] using t.symm
  · intro h
    apply BitVec.eq_of_getLsbD_eq
    intro i hi
    rw [BitVec.getLsbD_and, BitVec.getLsbD_xor, BitVec.getLsbD_twoPow, BitVec.getLsbD_allOnes]
    by_cases e : j = i
    · subst e; rw [h, Bool.false_and]
    · simp [e, hi]
/-! ===== lN n to 2^64: shifts, and, or, masks, one bit ===== -/
theorem wb_tb (n : Nat) : (lN n).toBitVec = BitVec.ofNat 64 n := rfl
theorem wb_inj {a b : Int64} (h : a.toBitVec = b.toBitVec) : a = b := Int64.toBitVec_inj.mp h
theorem wb_tn {n : Nat} (h : n < 2 ^ 64) : (lN n).toBitVec.toNat = n := by rw [wb_tb, BitVec.toNat_ofNat, Nat.mod_eq_of_lt h]
theorem wb_of (x : Int64) : ∃ n, n < 2 ^ 64 ∧ x = lN n := ⟨x.toBitVec.toNat, x.toBitVec.isLt, wb_inj (by rw [wb_tb]; simp)⟩
theorem wb_of32 (x : Int32) : ∃ n, n < 2 ^ 32 ∧ x = nI n := ⟨x.toBitVec.toNat, x.toBitVec.isLt, Int32.toBitVec_inj.mp (by show _ = BitVec.ofNat 32 _; simp)⟩
theorem wb_c : ∀ k, k < 64 → ((nI k).toInt64 &&& 63) = lN k := by decide +kernel
theorem wb_cu : ∀ k, k < 64 → ((nI k).toInt64.toUInt64 &&& Int64.toUInt64 63) = UInt64.ofNat k := by decide +kernel
theorem wb_sm : ∀ k, k < 64 → (BitVec.ofNat 64 k).smod 64 = BitVec.ofNat 64 k := by decide +kernel
theorem wb_pw {a b : Nat} (h : a ≤ b) : 2 ^ b = 2 ^ a * 2 ^ (b - a) := by rw [← Nat.pow_add]; congr 1; omega
theorem wb_lt2 {a b : Nat} (h : a < b) : 2 ^ a < 2 ^ b := Nat.pow_lt_pow_right (by decide) h
theorem wb_mod (n : Nat) : lN n = lN (n % 2 ^ 64) := wb_inj (by rw [wb_tb, wb_tb]; apply BitVec.eq_of_toNat_eq; rw [BitVec.toNat_ofNat, BitVec.toNat_ofNat, Nat.mod_mod])
theorem wb_shr {n k : Nat} (hn : n < 2 ^ 64) (hk : k < 64) : ((lN n).toUInt64 >>> ((nI k).toInt64.toUInt64 &&& Int64.toUInt64 63)).toInt64 = lN (n / 2 ^ k) := by
  rw [wb_cu k hk]
  apply wb_inj
  apply BitVec.eq_of_toNat_eq
  show ((lN n).toUInt64 >>> UInt64.ofNat k).toNat = (BitVec.ofNat 64 _).toNat
  have h1 : (UInt64.ofNat k).toNat = k := by
    show (BitVec.ofNat 64 k).toNat = k
    rw [BitVec.toNat_ofNat, Nat.mod_eq_of_lt (by omega)]
  have h2 : (lN n).toUInt64.toNat = n := wb_tn hn
  rw [UInt64.toNat_shiftRight, h1, h2, Nat.mod_eq_of_lt hk, Nat.shiftRight_eq_div_pow, BitVec.toNat_ofNat, Nat.mod_eq_of_lt (Nat.lt_of_le_of_lt (Nat.div_le_self _ _) hn)]
theorem wb_shl (n : Nat) {k : Nat} (hk : k < 64) : lN n <<< ((nI k).toInt64 &&& 63) = lN (n * 2 ^ k) := by
  rw [wb_c k hk]
  apply wb_inj
  rw [Int64.toBitVec_shiftLeft, wb_tb, wb_tb, wb_tb, wb_sm k hk]
  apply BitVec.eq_of_toNat_eq
  rw [BitVec.shiftLeft_eq', BitVec.toNat_shiftLeft, BitVec.toNat_ofNat, BitVec.toNat_ofNat, BitVec.toNat_ofNat, Nat.mod_eq_of_lt (show k < 2 ^ 64 by omega), Nat.shiftLeft_eq, Nat.mul_mod, Nat.mod_mod, ← Nat.mul_mod]
theorem wb_and {a b : Nat} (ha : a < 2 ^ 64) (hb : b < 2 ^ 64) : lN a &&& lN b = lN (a &&& b) := by
  apply wb_inj
  rw [Int64.toBitVec_and, wb_tb, wb_tb, wb_tb]
  apply BitVec.eq_of_toNat_eq
  rw [BitVec.toNat_and, BitVec.toNat_ofNat, BitVec.toNat_ofNat, BitVec.toNat_ofNat, Nat.mod_eq_of_lt ha, Nat.mod_eq_of_lt hb, Nat.mod_eq_of_lt (Nat.and_lt_two_pow _ hb)]
theorem wb_or {a b : Nat} (ha : a < 2 ^ 64) (hb : b < 2 ^ 64) : lN a ||| lN b = lN (a ||| b) := by
  apply wb_inj
  rw [Int64.toBitVec_or, wb_tb, wb_tb, wb_tb]
  apply BitVec.eq_of_toNat_eq
  rw [BitVec.toNat_or, BitVec.toNat_ofNat, BitVec.toNat_ofNat, BitVec.toNat_ofNat, Nat.mod_eq_of_lt ha, Nat.mod_eq_of_lt hb, Nat.mod_eq_of_lt (Nat.or_lt_two_pow ha hb)]
theorem wb_mask {n k : Nat} (hn : n < 2 ^ 64) (hk : k < 64) : lN n &&& lN (2 ^ k - 1) = lN (n % 2 ^ k) := by
  rw [wb_and hn (by have := wb_lt2 hk; omega), Nat.and_two_pow_sub_one_eq_mod]
theorem wb_a1 {n : Nat} (hn : n < 2 ^ 64) : lN n &&& 1 = lN (n % 2) := wb_mask (k := 1) hn (by decide)
theorem wb_bit {n k : Nat} (hn : n < 2 ^ 64) (hk : k < 64) : ((lN n).toUInt64 >>> ((nI k).toInt64.toUInt64 &&& Int64.toUInt64 63)).toInt64 &&& 1 = lN (n / 2 ^ k % 2) := by
  rw [wb_shr hn hk, wb_a1 (Nat.lt_of_le_of_lt (Nat.div_le_self _ _) hn)]
theorem wb_xor {q k : Nat} (hk : k < 63) (h : 2 ^ k ≤ q) (h2 : q < 2 ^ (k + 1)) : lN q ^^^ lN (2 ^ k) = lN (q - 2 ^ k) := by
  obtain ⟨r, rfl⟩ : ∃ r, q = 2 ^ k + r := ⟨q - 2 ^ k, by omega⟩
  have hr : r < 2 ^ k := by rw [Nat.pow_succ] at h2; omega
  have hx : (2 ^ k + r) ^^^ 2 ^ k = r := by
    apply Nat.eq_of_testBit_eq
    intro i
    rw [Nat.testBit_xor, Nat.testBit_two_pow]
    rcases Nat.lt_trichotomy i k with h | h | h
    · rw [Nat.testBit_two_pow_add_gt h]
      simp [show ¬ k = i by omega]
    · subst h
      rw [Nat.testBit_two_pow_add_eq]
      simp
    · have a1 : 2 ^ (k + 1) ≤ 2 ^ i := Nat.pow_le_pow_right (by decide) h
      rw [Nat.testBit_lt_two_pow (show 2 ^ k + r < 2 ^ i by omega), Nat.testBit_lt_two_pow (show r < 2 ^ i by omega)]
      simp [show ¬ k = i by omega]
  have b1 := wb_lt2 (show k + 1 < 64 by omega)
  have b2 := wb_lt2 (show k < 64 by omega)
  apply wb_inj
  rw [Int64.toBitVec_xor, wb_tb, wb_tb, wb_tb]
  apply BitVec.eq_of_toNat_eq
  rw [BitVec.toNat_xor, BitVec.toNat_ofNat, BitVec.toNat_ofNat, BitVec.toNat_ofNat, Nat.mod_eq_of_lt (by omega : 2 ^ k + r < 2 ^ 64), Nat.mod_eq_of_lt b2, hx, Nat.add_sub_cancel_left, Nat.mod_eq_of_lt (by omega)]
/-! ===== lN: masks, 'or' of parts that don't overlap is a sum ===== -/
theorem u_tn {n : Nat} (h : n < 2 ^ 64) : (UInt64.ofNat n).toNat = n := Nat.mod_eq_of_lt h
theorem g_and {a b c : Nat} (ha : a < 2 ^ 64) (hb : b < 2 ^ 64) (hc : a &&& b = c) : lN a &&& lN b = lN c := by
  subst hc
  have h : UInt64.ofNat a &&& UInt64.ofNat b = UInt64.ofNat (a &&& b) := UInt64.toNat_inj.mp (by rw [UInt64.toNat_and, u_tn ha, u_tn hb, u_tn (Nat.and_lt_two_pow a hb)])
  have h2 := congrArg UInt64.toInt64 h
  exact h2
theorem g_and1 {a : Nat} (ha : a < 2 ^ 64) : lN a &&& 1 = lN (a % 2) := g_and (b := 1) ha (by decide) (Nat.and_two_pow_sub_one_eq_mod a 1)
theorem g_mask {a s p : Nat} (hp : 2 ^ s = p) (hs : s < 64) (ha : a < 2 ^ 64) : lN a &&& lN (p - 1) = lN (a % p) := by
  subst hp
  have := Nat.pow_lt_pow_right (show 1 < 2 by decide) hs
  exact g_and ha (by omega) (Nat.and_two_pow_sub_one_eq_mod a s)
theorem g_or {k p a b : Nat} (hp : 2 ^ k = p) (ha : a < p) (h : b * p + a < 2 ^ 64) : lN (b * p) ||| lN a = lN (b * p + a) := by
  subst hp
  have h1 : b * 2 ^ k ||| a = b * 2 ^ k + a := by rw [← Nat.shiftLeft_eq, Nat.shiftLeft_add_eq_or_of_lt ha]
  have h3 : UInt64.ofNat (b * 2 ^ k) ||| UInt64.ofNat a = UInt64.ofNat (b * 2 ^ k + a) := UInt64.toNat_inj.mp (by rw [UInt64.toNat_or, u_tn (by omega), u_tn (by omega), u_tn h, h1])
  have h2 := congrArg UInt64.toInt64 h3
  exact h2
theorem g_or' {k p a b : Nat} (hp : 2 ^ k = p) (ha : a < p) (h : a + b * p < 2 ^ 64) : lN a ||| lN (b * p) = lN (a + b * p) := by
  rw [Int64.or_comm, g_or hp ha (by omega), Nat.add_comm]
theorem g_ushr {a k p : Nat} {y : UInt64} (hy : y = UInt64.ofNat k) (hk : k < 64) (hp : 2 ^ k = p) (ha : a < 2 ^ 64) : ((lN a).toUInt64 >>> y).toInt64 = lN (a / p) := by
  subst hy hp
  have h : UInt64.ofNat a >>> UInt64.ofNat k = UInt64.ofNat (a / 2 ^ k) := UInt64.toNat_inj.mp (by rw [UInt64.toNat_shiftRight, u_tn ha, u_tn (by omega), u_tn (Nat.lt_of_le_of_lt (Nat.div_le_self _ _) ha), Nat.mod_eq_of_lt hk, Nat.shiftRight_eq_div_pow])
  have h2 := congrArg UInt64.toInt64 h
  exact h2
theorem g_shl {a k p : Nat} {y : Int64} (hy : y.toBitVec.smod 64 = BitVec.ofNat 64 k) (hk : k < 64) (hp : 2 ^ k = p) (ha : a < 2 ^ 64) : lN a <<< y = lN (a * p) := by
  subst hp
  apply Int64.toBitVec_inj.mp
  rw [Int64.toBitVec_shiftLeft, hy]
  apply BitVec.eq_of_toNat_eq
  have hb : (lN a).toBitVec.toNat = a := Nat.mod_eq_of_lt ha
  have hk' : (BitVec.ofNat 64 k).toNat = k := Nat.mod_eq_of_lt (by omega)
  have h : ((lN a).toBitVec <<< BitVec.ofNat 64 k).toNat = (a * 2 ^ k) % 2 ^ 64 := by simp only [BitVec.shiftLeft_eq', BitVec.toNat_shiftLeft, hb, hk', Nat.shiftLeft_eq]
  exact h
/-! ===== lN to 2^62 under >> and >>> ===== -/
theorem pf_lI {a : Nat} (h : a < 2 ^ 63) : (lN a).toInt = (a : Int) := lg_ofNat_toInt h
theorem pf_shr {a d : Nat} {D : Int64} (hD : (D.toBitVec.smod 64).toNat = d) (h : a < 2 ^ 62) : lN a >>> D = lN (a / 2 ^ d) := by
  have hd : a / 2 ^ d ≤ a := Nat.div_le_self _ _
  apply Int64.toInt_inj.mp
  have e : (lN a >>> D).toInt = (lN a).toInt >>> d := by
    rw [← hD]
    exact BitVec.toInt_sshiftRight ..
  rw [e, Int.shiftRight_eq_div_pow, pf_lI (by omega), pf_lI (by omega)]
  rfl
theorem pf_ushr {a d : Nat} {D : UInt64} (hD : D.toNat % 64 = d) (h : a < 2 ^ 62) : ((lN a).toUInt64 >>> D).toInt64 = lN (a / 2 ^ d) := by
  have hd : a / 2 ^ d ≤ a := Nat.div_le_self _ _
  have e : (lN a).toUInt64 >>> D = UInt64.ofNat (a / 2 ^ d) := UInt64.toNat_inj.mp (by
    rw [UInt64.toNat_shiftRight, hD, Nat.shiftRight_eq_div_pow, UInt64.toNat_ofNat']
    show (UInt64.ofNat a).toNat / 2 ^ d = _
    rw [UInt64.toNat_ofNat', Nat.mod_eq_of_lt (by omega), Nat.mod_eq_of_lt (by omega)])
  rw [e]
  rfl
theorem pf_andw (x : Int64) : ∃ m, m < 2 ^ 32 ∧ x &&& 4294967295 = lN m := ⟨x.toBitVec.toNat % 2 ^ 32, Nat.mod_lt _ (by decide), Int64.toBitVec_inj.mp (BitVec.eq_of_toNat_eq (by
  show (x.toBitVec &&& 4294967295#64).toNat = (BitVec.ofNat 64 (x.toBitVec.toNat % 2 ^ 32)).toNat
  rw [BitVec.toNat_and, show (4294967295#64).toNat = 2 ^ 32 - 1 from by decide, Nat.and_two_pow_sub_one_eq_mod, BitVec.toNat_ofNat]
  omega))⟩
/-! ===== Int64 as an unsigned number: uN x ===== -/
def uN (x : Int64) : Nat := x.toUInt64.toNat
theorem uN_lt (x : Int64) : uN x < 18446744073709551616 := x.toUInt64.toNat_lt
theorem uN_inj {x y : Int64} (h : uN x = uN y) : x = y := congrArg UInt64.toInt64 (UInt64.toNat_inj.mp h)
theorem uN_add (x y : Int64) : uN (x + y) = (uN x + uN y) % 18446744073709551616 := by
  show (x.toUInt64 + y.toUInt64).toNat = _
  exact UInt64.toNat_add _ _
theorem uN_mul (x y : Int64) : uN (x * y) = (uN x * uN y) % 18446744073709551616 := by
  show (x.toUInt64 * y.toUInt64).toNat = _
  exact UInt64.toNat_mul _ _
theorem uN_shl (x : Int64) : uN (x <<< ((1 : Int32).toInt64 &&& 63)) = (2 * uN x) % 18446744073709551616 := by
  have h : (((1 : Int32).toInt64 &&& 63).toBitVec.smod 64).toNat = 1 := by decide
  show (x.toBitVec <<< (((1 : Int32).toInt64 &&& 63).toBitVec.smod 64).toNat).toNat = _
  rw [h, BitVec.toNat_shiftLeft, Nat.shiftLeft_eq, Nat.mul_comm]
  rfl
theorem uN_shr (x : Int64) (s : UInt64) : uN (x.toUInt64 >>> s).toInt64 = uN x / 2 ^ (s.toNat % 64) := by
  show (x.toUInt64 >>> s).toNat = _
  rw [UInt64.toNat_shiftRight, Nat.shiftRight_eq_div_pow]
  rfl
theorem uN_s32 (x : Int64) : uN (x.toUInt64 >>> ((32 : Int32).toInt64.toUInt64 &&& Int64.toUInt64 63)).toInt64 = uN x / 4294967296 := by
  have h : ((32 : Int32).toInt64.toUInt64 &&& Int64.toUInt64 63).toNat % 64 = 32 := by decide
  rw [uN_shr, h]
theorem uN_s63 (x : Int64) : uN (x.toUInt64 >>> ((63 : Int32).toInt64.toUInt64 &&& Int64.toUInt64 63)).toInt64 = uN x / 9223372036854775808 := by
  have h : ((63 : Int32).toInt64.toUInt64 &&& Int64.toUInt64 63).toNat % 64 = 63 := by decide
  rw [uN_shr, h]
theorem uN_lo (x : Int64) : uN (x &&& 4294967295) = uN x % 4294967296 := by
  show (x.toUInt64 &&& Int64.toUInt64 4294967295).toNat = _
  rw [UInt64.toNat_and]
  exact Nat.and_two_pow_sub_one_eq_mod _ 32
theorem uN_bit (x : Int64) : (x &&& 1) = 0 ↔ uN x % 2 = 0 := by
  have h : uN (x &&& 1) = uN x % 2 := by
    show (x.toUInt64 &&& Int64.toUInt64 1).toNat = _
    rw [UInt64.toNat_and]
    exact Nat.and_two_pow_sub_one_eq_mod _ 1
  rw [← h]
  exact ⟨fun z => by rw [z]; rfl, fun z => uN_inj (z.trans rfl)⟩
theorem uN_or {x y : Int64} (hy : uN y < 2) : uN ((x <<< ((1 : Int32).toInt64 &&& 63)) ||| y) = (2 * uN x) % 18446744073709551616 + uN y := by
  have h1 : uN ((x <<< ((1 : Int32).toInt64 &&& 63)) ||| y) = uN (x <<< ((1 : Int32).toInt64 &&& 63)) ||| uN y := UInt64.toNat_or _ _
  have h2 : (2 * uN x) % 18446744073709551616 = 2 ^ 1 * (uN x % 9223372036854775808) := by omega
  rw [h1, uN_shl, h2]
  exact (Nat.two_pow_add_eq_or_of_lt (i := 1) hy _).symm
theorem nat_xor {a : Nat} (h : a < 18446744073709551616) : a ^^^ 2 ^ 63 = (a + 9223372036854775808) % 18446744073709551616 := by
  have h1 : (a ^^^ 2 ^ 63) % 2 ^ 63 = a % 2 ^ 63 := by rw [Nat.xor_mod_two_pow, Nat.mod_self, Nat.xor_zero]
  have h2 : (a ^^^ 2 ^ 63) / 2 ^ 63 = (a / 2 ^ 63) ^^^ 1 := by rw [Nat.xor_div_two_pow, Nat.div_self (Nat.two_pow_pos 63)]
  have h3 : a / 2 ^ 63 = 0 ∨ a / 2 ^ 63 = 1 := by omega
  generalize a ^^^ 2 ^ 63 = t at h1 h2
  rcases h3 with h3 | h3
  · rw [h3] at h2
    have h2 : t / 2 ^ 63 = 1 := h2
    omega
  · rw [h3] at h2
    have h2 : t / 2 ^ 63 = 0 := h2
    omega
theorem uN_xor (x : Int64) : uN (x ^^^ (-9223372036854775808)) = (uN x + 9223372036854775808) % 18446744073709551616 := by
  rw [← nat_xor (uN_lt x)]
  exact UInt64.toNat_xor _ _
theorem uN_int (x : Int64) : x.toInt = if 2 * uN x < 18446744073709551616 then (uN x : Int) else (uN x : Int) - 18446744073709551616 := BitVec.toInt_eq_toNat_cond _
theorem uN_le (x y : Int64) : (x ^^^ (-9223372036854775808)) ≤ (y ^^^ (-9223372036854775808)) ↔ uN x ≤ uN y := by
  have hx := uN_lt x
  have hy := uN_lt y
  rw [Int64.le_iff_toInt_le, uN_int, uN_int, uN_xor, uN_xor]
  omega
theorem uN_sk (x : Int64) {k : Nat} (hk : k < 64) : uN (x.toUInt64 >>> ((nI k).toInt64.toUInt64 &&& Int64.toUInt64 63)).toInt64 = uN x / 2 ^ k := by
  have h : ((nI k).toInt64.toUInt64 &&& Int64.toUInt64 63).toNat % 64 = k := by
    rw [nI_l (by omega), UInt64.toNat_and]
    have e : (lN k).toUInt64.toNat = k % 2 ^ 64 := rfl
    have e2 : (Int64.toUInt64 63).toNat = 2 ^ 6 - 1 := by decide
    rw [e, e2, Nat.and_two_pow_sub_one_eq_mod]
    omega
  rw [uN_shr, h]
/-! ===== unsigned comparison by xor with the least ===== -/
theorem lN_bv (n : Nat) : (lN n).toBitVec = BitVec.ofNat 64 n := rfl
theorem lN_nat {n : Nat} (h : n < 2 ^ 64) : (lN n).toBitVec.toNat = n := by rw [lN_bv, BitVec.toNat_ofNat]; exact Nat.mod_eq_of_lt h
theorem lN_xor (a b : Nat) : lN a ^^^ lN b = lN (a ^^^ b) := by
  apply Int64.toBitVec_inj.mp; rw [Int64.toBitVec_xor, lN_bv, lN_bv, lN_bv]; apply BitVec.eq_of_getLsbD_eq; intro i hi; simp [BitVec.getLsbD_ofNat, Nat.testBit_xor, hi]
theorem lN_ti {m : Nat} (h : m < 2 ^ 64) : (lN m).toInt = if m < 2 ^ 63 then (m : Int) else (m : Int) - 2 ^ 64 := by
  have c := BitVec.toInt_eq_toNat_cond (lN m).toBitVec
  rw [lN_nat h] at c
  show (lN m).toBitVec.toInt = _
  rw [c]
  split <;> split <;> omega
theorem xor63 {x : Nat} (h : x < 2 ^ 63) : x ^^^ 2 ^ 63 = 2 ^ 63 + x := by
  apply Nat.eq_of_testBit_eq
  intro i
  rw [Nat.testBit_xor, Nat.testBit_two_pow]
  rcases Nat.lt_trichotomy i 63 with z | z | z
  · rw [Nat.testBit_two_pow_add_gt z, decide_eq_false (by omega)]; simp
  · subst z; rw [Nat.testBit_two_pow_add_eq]; simp
  · have hp : 2 ^ 64 ≤ 2 ^ i := Nat.pow_le_pow_right (by decide) z
    rw [Nat.testBit_lt_two_pow (show x < 2 ^ i by omega), Nat.testBit_lt_two_pow (show 2 ^ 63 + x < 2 ^ i by omega), decide_eq_false (by omega)]; rfl
theorem xorS {a : Nat} (h : a < 2 ^ 64) : (lN a ^^^ (-9223372036854775808)).toInt = (a : Int) - 2 ^ 63 := by
  rw [show (-9223372036854775808 : Int64) = lN (2 ^ 63) from by decide +kernel, lN_xor]
  rcases Nat.lt_or_ge a (2 ^ 63) with z | z
  · rw [xor63 z, lN_ti (by omega), if_neg (by omega)]; omega
  · obtain ⟨x, rfl⟩ : ∃ x, a = 2 ^ 63 + x := ⟨a - 2 ^ 63, by omega⟩
    rw [← xor63 (by omega), Nat.xor_assoc, Nat.xor_self, Nat.xor_zero, lN_ti (by omega), if_pos (by omega), xor63 (by omega)]; omega
theorem ultL {a b : Nat} (ha : a < 2 ^ 64) (hb : b < 2 ^ 64) : ((lN b ^^^ (-9223372036854775808)) ≤ (lN a ^^^ (-9223372036854775808))) ↔ b ≤ a := by
  rw [Int64.le_iff_toInt_le, xorS ha, xorS hb]; omega
/-! ===== Int64 masks of n low bits ===== -/
theorem cr_bits (W U M : BitVec 64) : ((W &&& U) &&& (U &&& (M ^^^ BitVec.allOnes 64))) = 0#64 ↔ (W &&& U) &&& M = W &&& U := by
  constructor
  · intro h
    apply BitVec.eq_of_getLsbD_eq
    intro i hi
    have e := congrArg (fun x => BitVec.getLsbD x i) h
    simp only [BitVec.getLsbD_and, BitVec.getLsbD_xor, BitVec.getLsbD_allOnes, BitVec.getLsbD_zero, hi, decide_true] at e ⊢
    revert e
    cases W.getLsbD i <;> cases U.getLsbD i <;> cases M.getLsbD i <;> decide
  · intro h
    apply BitVec.eq_of_getLsbD_eq
    intro i hi
    have e := congrArg (fun x => BitVec.getLsbD x i) h
    simp only [BitVec.getLsbD_and, BitVec.getLsbD_xor, BitVec.getLsbD_allOnes, BitVec.getLsbD_zero, hi, decide_true] at e ⊢
    revert e
    cases W.getLsbD i <;> cases U.getLsbD i <;> cases M.getLsbD i <;> decide
theorem cr_mask (w U m : Int64) (n : Nat) (hm : m.toBitVec.toNat = 2 ^ n - 1) : ((w &&& U) &&& (U &&& (m ^^^ (-1)))) = 0 ↔ (w &&& U).toBitVec.toNat < 2 ^ n := by
  have e0 : (-1 : Int64).toBitVec = BitVec.allOnes 64 := by decide
  have z0 : (0 : Int64).toBitVec = 0#64 := by decide
  rw [← Int64.toBitVec_inj, z0, Int64.toBitVec_and, Int64.toBitVec_and, Int64.toBitVec_and, Int64.toBitVec_xor, e0, cr_bits]
  generalize w.toBitVec &&& U.toBitVec = T
  rw [← BitVec.toNat_inj, BitVec.toNat_and, hm, Nat.and_two_pow_sub_one_eq_mod]
  constructor
  · intro h
    have t := Nat.mod_lt T.toNat (Nat.two_pow_pos n)
    rw [h] at t
    exact t
  · exact Nat.mod_eq_of_lt
theorem cr_shr (t : Int64) (x : UInt64) (n : Nat) (hx : x.toNat % 64 = n) : (t.toUInt64 >>> x).toInt64 = 0 ↔ t.toBitVec.toNat < 2 ^ n := by
  rw [← Int64.toBitVec_inj, ← BitVec.toNat_inj]
  show (t.toUInt64 >>> x).toNat = 0 ↔ t.toUInt64.toNat < 2 ^ n
  rw [UInt64.toNat_shiftRight, hx, Nat.shiftRight_eq_div_pow]
  constructor
  · intro h
    have d : t.toUInt64.toNat / 2 ^ n < 1 := by
      rw [h]
      decide
    have e := (Nat.div_lt_iff_lt_mul (Nat.two_pow_pos n)).mp d
    rw [Nat.one_mul] at e
    exact e
  · exact Nat.div_eq_of_lt
theorem cr_amt (s : Int64) : ∃ n, n < 64 ∧ s &&& 63 = lN n ∧ (s.toUInt64 &&& Int64.toUInt64 63).toNat % 64 = n := by
  have e : (s.toUInt64 &&& Int64.toUInt64 63).toNat = s.toUInt64.toNat % 2 ^ 6 := by
    rw [UInt64.toNat_and, show (Int64.toUInt64 63).toNat = 2 ^ 6 - 1 from by decide, Nat.and_two_pow_sub_one_eq_mod]
  refine ⟨s.toUInt64.toNat % 2 ^ 6, by omega, ?_, by omega⟩
  rw [← Int64.toBitVec_inj, ← BitVec.toNat_inj]
  show (s.toUInt64 &&& Int64.toUInt64 63).toNat = (BitVec.ofNat 64 (s.toUInt64.toNat % 2 ^ 6)).toNat
  rw [e, BitVec.toNat_ofNat]
  omega
end
section
/-! numbers, bits, the timers' arithmetic -/
def tc_y8 (x : Int32) : Prop := x &&& 255 = x
def tc_rg (x : Int32) (n : Nat) : Prop := ∃ k, k ≤ n ∧ x = nI k
def tc_bo (x : Int32) : Prop := x = 0 ∨ x = 1
def tc_bI (b : Bool) : Int32 := if b then 1 else 0
def tc_pF (p : Int32) (b : Nat → Int32) : Prop := ∀ k, k < 9 → b k = tc_bI (bt p k)
theorem tc_bI0 (b : Bool) : tc_bI b = 0 ↔ b = false := by cases b <;> decide
theorem tc_bI1 (b : Bool) : tc_bI b = 1 ↔ b = true := by cases b <;> decide
theorem tc_y8_ex {x : Int32} (h : tc_y8 x) : ∃ n, n < 256 ∧ x = nI n := by
  obtain ⟨j, hj, e⟩ := pk_andE x (m := 255) 8 (by decide)
  exact ⟨j, hj, h.symm.trans e⟩
theorem tc_y8_nI {n : Nat} (h : n < 256) : tc_y8 (nI n) := by
  unfold tc_y8
  rw [pk_andN (by omega) 8 (by decide), Nat.mod_eq_of_lt (by omega)]
theorem tc_y8_and (x : Int32) : tc_y8 (x &&& 255) := by
  obtain ⟨j, hj, e⟩ := pk_andE x (m := 255) 8 (by decide)
  rw [e]; exact tc_y8_nI hj
theorem tc_y8_bt {x : Int32} (h : tc_y8 x) {i : Nat} (hi : 8 ≤ i) : bt x i = false := by
  have e : bt (x &&& 255) i = bt x i := congrArg (fun z => bt z i) h
  rw [b_and, b_255, decide_eq_false (by omega), Bool.and_false] at e
  exact e.symm
theorem tc_y8_of {x : Int32} (h : ∀ i, 8 ≤ i → i < 32 → bt x i = false) : tc_y8 x := by
  apply b_ext
  intro i hi
  rw [b_and, b_255]
  by_cases h8 : i < 8
  · rw [decide_eq_true h8, Bool.and_true]
  · rw [decide_eq_false h8, Bool.and_false, h i (by omega) hi]
theorem tc_y8_xor {x y : Int32} (hx : tc_y8 x) (hy : tc_y8 y) : tc_y8 (x ^^^ y) :=
  tc_y8_of fun i h _ => by rw [b_xor, tc_y8_bt hx h, tc_y8_bt hy h]; rfl
theorem tc_y8_andl {x : Int32} (hx : tc_y8 x) (y : Int32) : tc_y8 (x &&& y) :=
  tc_y8_of fun i h _ => by rw [b_and, tc_y8_bt hx h]; rfl
theorem tc_y8_0 : tc_y8 0 := tc_y8_nI (n := 0) (by omega)
theorem tc_b1 : ∀ i, i < 32 → bt 1 i = decide (i = 0) := by decide +kernel
theorem tc_bit (x : Int32) {k : Nat} (hk : k < 32) : (x >>> (nI k &&& 31)) &&& 1 = tc_bI (bt x k) := by
  apply b_ext
  intro i hi
  rw [b_and, b_sshr k hk x hi, tc_b1 i hi]
  by_cases h0 : i = 0
  · subst h0
    rw [if_pos (by omega)]
    show (bt x k && true) = _
    rw [Bool.and_true]
    cases bt x k <;> decide
  · rw [decide_eq_false h0, Bool.and_false]
    cases bt x k
    · exact (b_0 i).symm
    · show false = bt 1 i
      rw [tc_b1 i hi, decide_eq_false h0]
theorem tc_uu (f : Nat → Int32) (t : Nat) (a b : Int32) : upd (upd f t a) t b = upd f t b := by
  funext j
  unfold upd
  by_cases h : j = t
  · rw [if_pos h, if_pos h]
  · rw [if_neg h, if_neg h, if_neg h]
/-! branches by values -/
theorem tc_brI {c : Prop} [Decidable c] {α : Type} {P : α → Prop} {x y : α} (h : P (if c then x else y)) : (c → P x) ∧ (¬ c → P y) :=
  ⟨fun hc => by rwa [if_pos hc] at h, fun hc => by rwa [if_neg hc] at h⟩
theorem tc_brV {c V : Prop} [Decidable c] {α : Type} {P : α → Prop} {x y : α} (hv : V) (h : P (if c then x else y)) : (c → P x) ∧ (¬ c → (V ∧ ∀ z, z = y → P z)) :=
  ⟨fun hc => by rwa [if_pos hc] at h, fun hc => ⟨hv, fun z hz => by rw [hz]; rwa [if_neg hc] at h⟩⟩
/-! the soonest -/
def tc_mn (a b : Int32) : Int32 := if a ≤ b then a else b
def tc_du (a b w s : Int32) (E O : Nat → Int32) : Int32 :=
  tc_mn (tc_mn (tc_mn (tc_mn (tc_mn (tc_mn (tc_mn b a) w) s) (E 0)) (O 0)) (E 1)) (O 1)
theorem tc_mnN {a b : Nat} (ha : a < 2 ^ 31) (hb : b < 2 ^ 31) : tc_mn (nI a) (nI b) = nI (min a b) := by
  unfold tc_mn
  by_cases h : a ≤ b
  · rw [if_pos ((nI_leI ha hb).mpr h), Nat.min_eq_left h]
  · rw [if_neg (fun z => h ((nI_leI ha hb).mp z)), Nat.min_eq_right (by omega)]
/-! the timers -/
def tm_P (k : Nat) : Nat := 2 ^ (2 * (k % 4 - 1))
def tm_up (m c : Nat) : Nat := (m + 256 - c) % 256
def tm_af (k m c n : Nat) : Nat := if k / 4 % 2 = 0 then (c + n) % 256 else if n ≤ tm_up m c then (c + n) % 256 else (n - tm_up m c - 1) % (m + 1)
def tm_tk (k m y : Nat) : Nat := if k / 4 % 2 = 1 ∧ y = m then 0 else (y + 1) % 256
def tm_fe (k m y : Nat) : Nat := if y = m then (if k / 4 % 2 = 0 then 256 else m + 1) else tm_up m y
def tm_n (k T s : Nat) : Nat := if k % 4 = 0 then 0 else T / tm_P k - s / tm_P k
def tm_e (T k m y : Nat) : Nat := if k % 4 = 0 then 2147483647 else (T / tm_P k + tm_fe k m y) * tm_P k
def tm_oc (k m y : Nat) : Prop := k / 4 % 2 = 0 ∨ 256 - y ≤ tm_up m y
def tm_o (T k m y : Nat) : Nat := if k % 4 = 0 then 2147483647 else if k / 4 % 2 = 0 ∨ 256 - y ≤ tm_up m y then (T / tm_P k + (256 - y)) * tm_P k else 2147483647
theorem tm_Pc {k : Nat} (h : k % 4 ≠ 0) : (tm_P k = 1 ∧ k % 4 = 1) ∨ (tm_P k = 4 ∧ k % 4 = 2) ∨ (tm_P k = 16 ∧ k % 4 = 3) := by
  unfold tm_P
  have : k % 4 = 1 ∨ k % 4 = 2 ∨ k % 4 = 3 := by omega
  rcases this with e | e | e <;> rw [e] <;> decide
theorem tm_af_0 {k m c : Nat} (hc : c < 256) : tm_af k m c 0 = c := by
  unfold tm_af tm_up
  repeat' split
  all_goals omega
theorem tm_af_lt {k m c n : Nat} (hm : m < 256) : tm_af k m c n < 256 := by
  unfold tm_af
  split
  · omega
  · split
    · omega
    · exact Nat.lt_of_lt_of_le (Nat.mod_lt _ (by omega)) (by omega)
theorem tm_mods (q m : Nat) : (q + 1) % (m + 1) = if q % (m + 1) = m then 0 else q % (m + 1) + 1 := by
  have hd := Nat.div_add_mod q (m + 1)
  have hl := Nat.mod_lt q (show 0 < m + 1 by omega)
  split
  · next h =>
    have e : q + 1 = (m + 1) * (q / (m + 1) + 1) := by rw [Nat.mul_add]; omega
    rw [e]; exact Nat.mul_mod_right _ _
  · next h =>
    have e : q + 1 = (q % (m + 1) + 1) + (m + 1) * (q / (m + 1)) := by omega
    rw [e, Nat.add_mul_mod_self_left, Nat.mod_eq_of_lt (by omega)]
theorem tm_af_s {k m c n : Nat} (hc : c < 256) (hm : m < 256) : tm_af k m c (n + 1) = tm_tk k m (tm_af k m c n) := by
  by_cases hk : k / 4 % 2 = 0
  · unfold tm_af tm_tk
    rw [if_pos hk, if_pos hk, if_neg (by omega)]
    omega
  · by_cases h1 : n + 1 ≤ tm_up m c
    · have a1 : tm_af k m c (n + 1) = (c + (n + 1)) % 256 := by unfold tm_af; rw [if_neg hk, if_pos h1]
      have a0 : tm_af k m c n = (c + n) % 256 := by unfold tm_af; rw [if_neg hk, if_pos (by omega)]
      rw [a1, a0]
      unfold tm_up at h1
      unfold tm_tk
      rw [if_neg (by omega)]
      omega
    · by_cases h2 : n ≤ tm_up m c
      · have e : n = tm_up m c := by omega
        have a1 : tm_af k m c (n + 1) = 0 := by
          unfold tm_af
          rw [if_neg hk, if_neg h1, e, show tm_up m c + 1 - tm_up m c - 1 = 0 by omega]
          exact Nat.zero_mod _
        have a0 : tm_af k m c n = m := by
          unfold tm_af
          rw [if_neg hk, if_pos h2, e]
          unfold tm_up; omega
        rw [a1, a0]
        unfold tm_tk
        rw [if_pos ⟨by omega, rfl⟩]
      · have e : n + 1 - tm_up m c - 1 = (n - tm_up m c - 1) + 1 := by omega
        have a1 : tm_af k m c (n + 1) = (n - tm_up m c - 1 + 1) % (m + 1) := by unfold tm_af; rw [if_neg hk, if_neg h1, e]
        have a0 : tm_af k m c n = (n - tm_up m c - 1) % (m + 1) := by unfold tm_af; rw [if_neg hk, if_neg h2]
        rw [a1, a0, tm_mods]
        have hl := Nat.mod_lt (n - tm_up m c - 1) (show 0 < m + 1 by omega)
        generalize (n - tm_up m c - 1) % (m + 1) = z at *
        unfold tm_tk
        split
        · next hz => rw [if_pos ⟨by omega, hz⟩]
        · next hz => rw [if_neg (fun w => hz w.2)]; omega
theorem tm_tk_lt {k m y : Nat} : tm_tk k m y < 256 := by unfold tm_tk; split <;> omega
theorem tm_fe1 {k m y : Nat} (hy : y < 256) (hm : m < 256) : tm_fe k m y = 1 ↔ tm_tk k m y = m := by
  unfold tm_fe tm_tk tm_up
  repeat' split
  all_goals omega
theorem tm_fe0 {k m y : Nat} (hy : y < 256) (hm : m < 256) : 0 < tm_fe k m y ∧ tm_fe k m y ≤ 256 := by
  unfold tm_fe tm_up
  repeat' split
  all_goals omega
theorem tm_fes {k m y : Nat} (hy : y < 256) (hm : m < 256) (h : tm_fe k m y ≠ 1) : tm_fe k m (tm_tk k m y) + 1 = tm_fe k m y := by
  revert h
  unfold tm_fe tm_tk tm_up
  repeat' split
  all_goals omega
theorem tm_ov1 {k m y : Nat} (hy : y < 256) (hm : m < 256) : ((k / 4 % 2 = 0 ∨ 256 - y ≤ tm_up m y) ∧ 256 - y = 1) ↔ (y = 255 ∧ ¬ (k / 4 % 2 = 1 ∧ y = m)) := by
  unfold tm_up
  omega
theorem tm_ovs {k m y : Nat} (hy : y < 256) (hm : m < 256) (h : ¬ (y = 255 ∧ ¬ (k / 4 % 2 = 1 ∧ y = m))) :
    ((k / 4 % 2 = 0 ∨ 256 - tm_tk k m y ≤ tm_up m (tm_tk k m y)) ↔ (k / 4 % 2 = 0 ∨ 256 - y ≤ tm_up m y)) ∧ ((k / 4 % 2 = 0 ∨ 256 - y ≤ tm_up m y) → 256 - tm_tk k m y + 1 = 256 - y) := by
  unfold tm_tk tm_up
  split <;> omega
theorem tm_adv0 {T k m y : Nat} (hT : T ≤ 1100000000) (hk : k % 4 ≠ 0) (hy : y < 256) (h : ¬ (T + 1) % tm_P k = 0) :
    tm_e T k m y ≠ T + 1 ∧ tm_o T k m y ≠ T + 1 ∧ tm_e (T + 1) k m y = tm_e T k m y ∧ tm_o (T + 1) k m y = tm_o T k m y ∧ (T + 1) / tm_P k = T / tm_P k := by
  unfold tm_e tm_o
  rw [if_neg hk, if_neg hk, if_neg hk, if_neg hk]
  generalize tm_fe k m y = f
  rcases tm_Pc hk with ⟨e, _⟩ | ⟨e, _⟩ | ⟨e, _⟩ <;> rw [e] at h ⊢
  · omega
  · have q : (T + 1) / 4 = T / 4 := by omega
    rw [q]
    refine ⟨by omega, ?_, rfl, rfl, rfl⟩
    split <;> omega
  · have q : (T + 1) / 16 = T / 16 := by omega
    rw [q]
    refine ⟨by omega, ?_, rfl, rfl, rfl⟩
    split <;> omega
theorem tm_adv1 {T k m y : Nat} (hT : T ≤ 1100000000) (hk : k % 4 ≠ 0) (hy : y < 256) (hm : m < 256) (h : (T + 1) % tm_P k = 0) :
    (tm_e T k m y = T + 1 ↔ tm_tk k m y = m) ∧ (tm_o T k m y = T + 1 ↔ (y = 255 ∧ ¬ (k / 4 % 2 = 1 ∧ y = m))) ∧ (T + 1) / tm_P k = T / tm_P k + 1 ∧
    (tm_e T k m y ≠ T + 1 → tm_e (T + 1) k m (tm_tk k m y) = tm_e T k m y) ∧ (tm_o T k m y ≠ T + 1 → tm_o (T + 1) k m (tm_tk k m y) = tm_o T k m y) := by
  have q : (T + 1) / tm_P k = T / tm_P k + 1 := by
    rcases tm_Pc hk with ⟨e, _⟩ | ⟨e, _⟩ | ⟨e, _⟩ <;> rw [e] at h ⊢ <;> omega
  have qe : ∀ f, ((T / tm_P k + f) * tm_P k = T + 1 ↔ f = 1) := by
    intro f
    rcases tm_Pc hk with ⟨e, _⟩ | ⟨e, _⟩ | ⟨e, _⟩ <;> rw [e] at h ⊢ <;> omega
  have he : tm_e T k m y = T + 1 ↔ tm_tk k m y = m := by
    unfold tm_e; rw [if_neg hk, qe, tm_fe1 hy hm]
  have ho : tm_o T k m y = T + 1 ↔ (y = 255 ∧ ¬ (k / 4 % 2 = 1 ∧ y = m)) := by
    rw [← tm_ov1 hy hm]
    unfold tm_o
    rw [if_neg hk]
    by_cases c : k / 4 % 2 = 0 ∨ 256 - y ≤ tm_up m y
    · rw [if_pos c, qe]; exact ⟨fun z => ⟨c, z⟩, fun z => z.2⟩
    · rw [if_neg c]; exact ⟨fun z => by omega, fun z => absurd z.1 c⟩
  refine ⟨he, ho, q, fun n => ?_, fun n => ?_⟩
  · have hf : tm_fe k m y ≠ 1 := fun z => n (he.mpr ((tm_fe1 hy hm).mp z))
    have := tm_fes hy hm hf
    unfold tm_e
    rw [if_neg hk, if_neg hk, q, ← this]
    exact congrArg (· * tm_P k) (by omega)
  · have hf := fun z => n (ho.mpr z)
    have ⟨h1, h2⟩ := tm_ovs hy hm hf
    unfold tm_o
    rw [if_neg hk, if_neg hk, q]
    by_cases c : k / 4 % 2 = 0 ∨ 256 - y ≤ tm_up m y
    · rw [if_pos c, if_pos (h1.mpr c), ← h2 c]
      exact congrArg (· * tm_P k) (by omega)
    · rw [if_neg c, if_neg (fun z => c (h1.mp z))]
theorem tm_gt {T k m y : Nat} (hT : T ≤ 1100000000) (hy : y < 256) (hm : m < 256) : T < tm_e T k m y ∧ T < tm_o T k m y ∧ tm_e T k m y < 2 ^ 31 ∧ tm_o T k m y < 2 ^ 31 := by
  have ⟨f0, f1⟩ := tm_fe0 (k := k) hy hm
  unfold tm_e tm_o
  generalize tm_fe k m y = f at *
  by_cases hk : k % 4 = 0
  · rw [if_pos hk, if_pos hk]; omega
  · rw [if_neg hk, if_neg hk]
    rcases tm_Pc hk with ⟨e, _⟩ | ⟨e, _⟩ | ⟨e, _⟩ <;> rw [e] <;> split <;> omega
/-! control bits -/
theorem tm_and3 {k : Nat} (hk : k < 256) : nI k &&& 3 = nI (k % 4) := pk_andN (by omega) 2 (by decide)
theorem tm_and4 : ∀ k, k < 256 → (nI k &&& 4 = 0 ↔ k / 4 % 2 = 0) := by decide +kernel
theorem tm_and32 : ∀ k, k < 256 → (nI k &&& 32 = 0 ↔ k / 32 % 2 = 0) := by decide +kernel
theorem tm_sc : ∀ j, j < 4 → 0 < j → 2 * (nI j - 1) = nI (2 * (j - 1)) := by decide +kernel
theorem tm_upI {m c : Nat} (hm : m < 256) (hc : c < 256) : (nI m - nI c) &&& 255 = nI (tm_up m c) := by
  rw [pk_and _ 8 (by decide)]
  refine congrArg nI ?_
  rw [Int32.toBitVec_sub, BitVec.toNat_sub, pk_tn (by omega), pk_tn (by omega)]
  unfold tm_up
  omega
/-! counts of bits -/
def tc_pp : Nat → Int32 → Nat
  | 0, _ => 0
  | i + 1, x => tc_pp i x + (if bt x i then 1 else 0)
def tc_ed (x y : Int32) : Int32 := nI (tc_pp 8 (x ^^^ y))
theorem tc_pp8 : ∀ c, c < 256 → 0 < c → tc_pp 8 (nI c &&& (nI c - 1)) + 1 = tc_pp 8 (nI c) ∧ nI c &&& (nI c - 1) = nI (c &&& (c - 1)) ∧ c &&& (c - 1) < 256 := by decide +kernel
theorem tc_pp0 : tc_pp 8 (nI 0) = 0 := by decide +kernel
def tc_pX (ov eq : Bool) (t : Nat) (p : Int32) : Int32 :=
  if eq then (if ov then p ||| ((2 : Int32) <<< ((2 * nI t) &&& 31)) else p) ||| ((1 : Int32) <<< ((2 * nI t) &&& 31)) else (if ov then p ||| ((2 : Int32) <<< ((2 * nI t) &&& 31)) else p)
def tc_pY (ov eq : Bool) (t : Nat) (b : Nat → Int32) : Nat → Int32 :=
  if eq then upd (if ov then upd b (2 * t + 1) 1 else b) (2 * t) 1 else (if ov then upd b (2 * t + 1) 1 else b)
def tc_oX (b : Bool) (t : Nat) (o : Int32) : Int32 := if b then o ^^^ ((1 : Int32) <<< (nI t &&& 31)) else o
def tc_eX (b : Bool) (t : Nat) (o e : Int32) : Int32 := if b then e + tc_ed o (o ^^^ ((1 : Int32) <<< (nI t &&& 31))) else e
theorem tc_pF_or {p q : Int32} {b : Nat → Int32} {j : Nat} (h : tc_pF p b) (hq : ∀ i, i < 9 → bt q i = decide (i = j)) : tc_pF (p ||| q) (upd b j 1) := by
  intro i hi
  rw [b_or, hq i hi]
  by_cases e : i = j
  · rw [e, pk_us, decide_eq_true rfl, Bool.or_true]; rfl
  · rw [pk_un e, decide_eq_false e, Bool.or_false]; exact h i hi
theorem tc_pF_t1 : ∀ t, t < 2 → ∀ i, i < 9 → bt ((1 : Int32) <<< ((2 * nI t) &&& 31)) i = decide (i = 2 * t) := by decide +kernel
theorem tc_pF_t2 : ∀ t, t < 2 → ∀ i, i < 9 → bt ((2 : Int32) <<< ((2 * nI t) &&& 31)) i = decide (i = 2 * t + 1) := by decide +kernel
theorem tc_pF_t {p : Int32} {b : Nat → Int32} {t : Nat} (ht : t < 2) (h : tc_pF p b) (ov eq : Bool) : tc_pF (tc_pX ov eq t p) (tc_pY ov eq t b) := by
  have h1 : tc_pF (if ov then p ||| ((2 : Int32) <<< ((2 * nI t) &&& 31)) else p) (if ov then upd b (2 * t + 1) 1 else b) := by
    cases ov
    · exact h
    · exact tc_pF_or h (tc_pF_t2 t ht)
  cases eq
  · exact h1
  · exact tc_pF_or h1 (tc_pF_t1 t ht)
theorem tc_y8_oX {o : Int32} {t : Nat} (ht : t < 2) (h : tc_y8 o) (b : Bool) : tc_y8 (tc_oX b t o) := by
  cases b
  · exact h
  · refine tc_y8_xor h ?_
    exact (by decide +kernel : ∀ t, t < 2 → ((1 : Int32) <<< (nI t &&& 31)) &&& 255 = ((1 : Int32) <<< (nI t &&& 31))) t ht
/-! the relation's facts of one timer, one left-counter, the watchdog -/
def tc_tF (T : Nat) (c s ctl cmp dE dO y : Int32) : Prop :=
  ∃ c' s' k m y' : Nat, c = nI c' ∧ s = nI s' ∧ ctl = nI k ∧ cmp = nI m ∧ y = nI y' ∧ c' < 256 ∧ s' ≤ T ∧ k < 256 ∧ m < 256 ∧
    y' = tm_af k m c' (tm_n k T s') ∧ dE = nI (tm_e T k m y') ∧ dO = nI (tm_o T k m y')
def tc_uF (T L : Nat) (d : Int32) : Prop := (L = 0 ∧ d = 2147483647) ∨ (0 < L ∧ L ≤ 2048 ∧ d = nI (T + L))
def tc_wF (T : Nat) (w s d : Int32) : Prop :=
  (w &&& 7 = 0 ∧ d = 2147483647) ∨ ∃ k Q : Nat, 0 < k ∧ k < 8 ∧ w &&& 7 = nI k ∧ s = nI Q ∧ Q < 16 * 2 ^ k ∧ d = nI (T + (16 * 2 ^ k - Q))
theorem tc_7f : (2147483647 : Int32) = nI 2147483647 := by decide +kernel
theorem tm_n_le {k T s : Nat} : tm_n k T s ≤ T := by
  unfold tm_n
  split
  · omega
  · exact Nat.le_trans (Nat.sub_le _ _) (Nat.div_le_self _ _)
theorem tm_sh {T k v : Nat} (h4 : k % 4 ≠ 0) (hv : v ≤ 256) (hT : T ≤ 1100000001) :
    ((nI T >>> (nI (2 * (k % 4 - 1)) &&& 31)) + nI v) <<< (nI (2 * (k % 4 - 1)) &&& 31) = nI ((T / tm_P k + v) * tm_P k) := by
  have hl := s_l (2 * (k % 4 - 1)) (by omega)
  rw [pk_shrN (by omega) _ _ hl, nI_add]
  refine pk_shlN _ _ hl ?_
  show (T / tm_P k + v) * tm_P k < 2 ^ 32
  rcases tm_Pc h4 with ⟨e, _⟩ | ⟨e, _⟩ | ⟨e, _⟩ <;> rw [e] <;> omega
end
section
/-! X: soonest, the timers, drive -/
section
variable {post : SX → Prop} {pz : Int32 → Prop} {T : Nat} {f_length f_inputs f_sp f_pc f_zero f_carry f_allowed f_asleep f_halted f_pending f_resets f_taken f_data f_serial f_divider f_sending f_dueSent f_received f_overrun f_sent f_converter f_result f_dueResult f_output f_watch f_dueWatch f_address f_storing f_storeAt f_storeControl f_dueStore f_mask f_edges f_due f_head f_headAt f_headFlags f_stop f_pure : Int32} {a_op a_opA a_opB a_vectors a_analogs a_r a_m a_stack a_count a_since a_control a_compare a_dueEqual a_dueOver a_line a_store a_headR : Nat → Int32}
theorem tc_soon73 {J : Int32 → Int32 → Prop} {x1 : Int32} {t : Nat} (ht : t < 2) (h : J (tc_mn x1 (a_dueOver t)) (nI (t + 1))) : wX_soonest_73 post J x1 (nI t) f_length f_inputs f_sp f_pc f_zero f_carry f_allowed f_asleep f_halted f_pending f_resets f_taken (nI T) f_data f_serial f_divider f_sending f_dueSent f_received f_overrun f_sent f_converter f_result f_dueResult f_output f_watch f_dueWatch f_address f_storing f_storeAt f_storeControl f_dueStore f_mask f_edges f_due f_head f_headAt f_headFlags f_stop f_pure a_op a_opA a_opB a_vectors a_analogs a_r a_m a_stack a_count a_since a_control a_compare a_dueEqual a_dueOver a_line a_store a_headR := by
  have e := nI_clamp (n := t) (by omega)
  unfold wX_soonest_73
  rw [e, nI_1]
  refine And.intro (vp_in_nI ht (by decide)) ?_
  by_cases c : x1 ≤ a_dueOver t
  · unfold tc_mn at h; rw [if_pos c] at h
    exact br_t c (nm_e h)
  · unfold tc_mn at h; rw [if_neg c] at h
    exact br_f c ⟨vp_in_nI ht (by decide), nm_e (nm_e h)⟩
theorem tc_soon51 {x1 : Int32} {t n : Nat} (ht : t < 2) (h : wX_soonest_51 post f_length f_inputs f_sp f_pc f_zero f_carry f_allowed f_asleep f_halted f_pending f_resets f_taken (nI T) f_data f_serial f_divider f_sending f_dueSent f_received f_overrun f_sent f_converter f_result f_dueResult f_output f_watch f_dueWatch f_address f_storing f_storeAt f_storeControl f_dueStore f_mask f_edges f_due f_head f_headAt f_headFlags f_stop f_pure a_op a_opA a_opB a_vectors a_analogs a_r a_m a_stack a_count a_since a_control a_compare a_dueEqual a_dueOver a_line a_store a_headR n (tc_mn (tc_mn x1 (a_dueEqual t)) (a_dueOver t)) (nI (t + 1))) : wX_soonest_51 post f_length f_inputs f_sp f_pc f_zero f_carry f_allowed f_asleep f_halted f_pending f_resets f_taken (nI T) f_data f_serial f_divider f_sending f_dueSent f_received f_overrun f_sent f_converter f_result f_dueResult f_output f_watch f_dueWatch f_address f_storing f_storeAt f_storeControl f_dueStore f_mask f_edges f_due f_head f_headAt f_headFlags f_stop f_pure a_op a_opA a_opB a_vectors a_analogs a_r a_m a_stack a_count a_since a_control a_compare a_dueEqual a_dueOver a_line a_store a_headR (n + 1) x1 (nI t) := by
  have e := nI_clamp (n := t) (by omega)
  refine br_f (nI_ge (b := 2) ht (by decide)) ?_
  rw [e]
  refine And.intro (vp_in_nI ht (by decide)) ?_
  by_cases c : x1 ≤ a_dueEqual t
  · have e1 : tc_mn x1 (a_dueEqual t) = x1 := if_pos c
    rw [e1] at h
    exact br_t c (tc_soon73 ht h)
  · have e1 : tc_mn x1 (a_dueEqual t) = a_dueEqual t := if_neg c
    rw [e1] at h
    exact br_f c ⟨vp_in_nI ht (by decide), nm_e (tc_soon73 ht h)⟩
theorem tc_soon (h : post (f_length, f_inputs, f_sp, f_pc, f_zero, f_carry, f_allowed, f_asleep, f_halted, f_pending, f_resets, f_taken, nI T, f_data, f_serial, f_divider, f_sending, f_dueSent, f_received, f_overrun, f_sent, f_converter, f_result, f_dueResult, f_output, f_watch, f_dueWatch, f_address, f_storing, f_storeAt, f_storeControl, f_dueStore, f_mask, f_edges, tc_du f_dueSent f_dueResult f_dueWatch f_dueStore a_dueEqual a_dueOver, f_head, f_headAt, f_headFlags, f_stop, f_pure, a_op, a_opA, a_opB, a_vectors, a_analogs, a_r, a_m, a_stack, a_count, a_since, a_control, a_compare, a_dueEqual, a_dueOver, a_line, a_store, a_headR)) : wpX_soonest post (f_length, f_inputs, f_sp, f_pc, f_zero, f_carry, f_allowed, f_asleep, f_halted, f_pending, f_resets, f_taken, nI T, f_data, f_serial, f_divider, f_sending, f_dueSent, f_received, f_overrun, f_sent, f_converter, f_result, f_dueResult, f_output, f_watch, f_dueWatch, f_address, f_storing, f_storeAt, f_storeControl, f_dueStore, f_mask, f_edges, f_due, f_head, f_headAt, f_headFlags, f_stop, f_pure, a_op, a_opA, a_opB, a_vectors, a_analogs, a_r, a_m, a_stack, a_count, a_since, a_control, a_compare, a_dueEqual, a_dueOver, a_line, a_store, a_headR) := by
  have h3 : ∀ z, z = tc_mn (tc_mn (tc_mn f_dueResult f_dueSent) f_dueWatch) f_dueStore → ∃ n, wX_soonest_51 post f_length f_inputs f_sp f_pc f_zero f_carry f_allowed f_asleep f_halted f_pending f_resets f_taken (nI T) f_data f_serial f_divider f_sending f_dueSent f_received f_overrun f_sent f_converter f_result f_dueResult f_output f_watch f_dueWatch f_address f_storing f_storeAt f_storeControl f_dueStore f_mask f_edges f_due f_head f_headAt f_headFlags f_stop f_pure a_op a_opA a_opB a_vectors a_analogs a_r a_m a_stack a_count a_since a_control a_compare a_dueEqual a_dueOver a_line a_store a_headR n z 0 := by
    intro z hz
    refine ⟨3, tc_soon51 (t := 0) (by omega) (tc_soon51 (t := 1) (by omega) ?_)⟩
    rw [hz]
    exact br_t (by decide) h
  have h2 : ∀ z, z = tc_mn (tc_mn f_dueResult f_dueSent) f_dueWatch → wX_soonest_36 post z f_length f_inputs f_sp f_pc f_zero f_carry f_allowed f_asleep f_halted f_pending f_resets f_taken (nI T) f_data f_serial f_divider f_sending f_dueSent f_received f_overrun f_sent f_converter f_result f_dueResult f_output f_watch f_dueWatch f_address f_storing f_storeAt f_storeControl f_dueStore f_mask f_edges f_due f_head f_headAt f_headFlags f_stop f_pure a_op a_opA a_opB a_vectors a_analogs a_r a_m a_stack a_count a_since a_control a_compare a_dueEqual a_dueOver a_line a_store a_headR := by
    intro z hz
    refine br_c (fun c => h3 _ ?_) (fun c => h3 _ ?_)
    · rw [← hz]; exact (if_pos c).symm
    · rw [← hz]; exact (if_neg c).symm
  have h1 : ∀ z, z = tc_mn f_dueResult f_dueSent → wX_soonest_22 post z f_length f_inputs f_sp f_pc f_zero f_carry f_allowed f_asleep f_halted f_pending f_resets f_taken (nI T) f_data f_serial f_divider f_sending f_dueSent f_received f_overrun f_sent f_converter f_result f_dueResult f_output f_watch f_dueWatch f_address f_storing f_storeAt f_storeControl f_dueStore f_mask f_edges f_due f_head f_headAt f_headFlags f_stop f_pure a_op a_opA a_opB a_vectors a_analogs a_r a_m a_stack a_count a_since a_control a_compare a_dueEqual a_dueOver a_line a_store a_headR := by
    intro z hz
    refine br_c (fun c => h2 _ ?_) (fun c => h2 _ ?_)
    · rw [← hz]; exact (if_pos c).symm
    · rw [← hz]; exact (if_neg c).symm
  exact br_c (fun c => h1 _ (if_pos c).symm) (fun c => h1 _ (if_neg c).symm)
theorem tc_scale {t k : Nat} (ht : t < 2) (hk : a_control t = nI k) (k8 : k < 256) (h : pz (if k % 4 = 0 then -1 else nI (2 * (k % 4 - 1)))) : wpX_scale pz (f_length, f_inputs, f_sp, f_pc, f_zero, f_carry, f_allowed, f_asleep, f_halted, f_pending, f_resets, f_taken, nI T, f_data, f_serial, f_divider, f_sending, f_dueSent, f_received, f_overrun, f_sent, f_converter, f_result, f_dueResult, f_output, f_watch, f_dueWatch, f_address, f_storing, f_storeAt, f_storeControl, f_dueStore, f_mask, f_edges, f_due, f_head, f_headAt, f_headFlags, f_stop, f_pure, a_op, a_opA, a_opB, a_vectors, a_analogs, a_r, a_m, a_stack, a_count, a_since, a_control, a_compare, a_dueEqual, a_dueOver, a_line, a_store, a_headR) (nI t) := by
  have e := nI_clamp (n := t) (by omega)
  refine And.intro (vp_in_nI ht (by decide)) ?_
  rw [e, hk, tm_and3 k8]
  refine nm_e ?_
  by_cases h0 : k % 4 = 0
  · rw [if_pos h0] at h; rw [h0]; exact br_t rfl h
  · rw [if_neg h0] at h
    refine br_f (nI_ne0 (by omega) (by omega)) ?_
    rw [tm_sc _ (by omega) (by omega)]; exact h
theorem tc_ticks {t k s : Nat} (ht : t < 2) (hk : a_control t = nI k) (k8 : k < 256) (hs : a_since t = nI s) (hsT : s ≤ T) (hT : T < 2 ^ 31) (h : pz (nI (tm_n k T s))) : wpX_ticks pz (f_length, f_inputs, f_sp, f_pc, f_zero, f_carry, f_allowed, f_asleep, f_halted, f_pending, f_resets, f_taken, nI T, f_data, f_serial, f_divider, f_sending, f_dueSent, f_received, f_overrun, f_sent, f_converter, f_result, f_dueResult, f_output, f_watch, f_dueWatch, f_address, f_storing, f_storeAt, f_storeControl, f_dueStore, f_mask, f_edges, f_due, f_head, f_headAt, f_headFlags, f_stop, f_pure, a_op, a_opA, a_opB, a_vectors, a_analogs, a_r, a_m, a_stack, a_count, a_since, a_control, a_compare, a_dueEqual, a_dueOver, a_line, a_store, a_headR) (nI t) := by
  have e := nI_clamp (n := t) (by omega)
  unfold wpX_ticks
  refine tc_scale ht hk k8 ?_
  unfold tm_n at h
  by_cases h0 : k % 4 = 0
  · rw [if_pos h0] at h ⊢
    exact br_f (by decide) h
  · rw [if_neg h0] at h ⊢
    refine br_t (nI_pos' (by omega)) ?_
    rw [e, hs, pk_shrN hT _ _ (s_l _ (by omega)), pk_shrN (by omega) _ _ (s_l _ (by omega)), pk_sub (Nat.div_le_div_right hsT)]
    exact ⟨vp_in_nI ht (by decide), h⟩
theorem tc_clears {t k : Nat} (ht : t < 2) (hk : a_control t = nI k) (k8 : k < 256) (h : pz (if k / 4 % 2 = 0 then 0 else 1)) : wpX_clears pz (f_length, f_inputs, f_sp, f_pc, f_zero, f_carry, f_allowed, f_asleep, f_halted, f_pending, f_resets, f_taken, nI T, f_data, f_serial, f_divider, f_sending, f_dueSent, f_received, f_overrun, f_sent, f_converter, f_result, f_dueResult, f_output, f_watch, f_dueWatch, f_address, f_storing, f_storeAt, f_storeControl, f_dueStore, f_mask, f_edges, f_due, f_head, f_headAt, f_headFlags, f_stop, f_pure, a_op, a_opA, a_opB, a_vectors, a_analogs, a_r, a_m, a_stack, a_count, a_since, a_control, a_compare, a_dueEqual, a_dueOver, a_line, a_store, a_headR) (nI t) := by
  have e := nI_clamp (n := t) (by omega)
  refine And.intro (vp_in_nI ht (by decide)) ?_
  rw [e, hk]
  by_cases c : k / 4 % 2 = 0
  · rw [if_pos c] at h; exact br_t ((tm_and4 k k8).mpr c) h
  · rw [if_neg c] at h; exact br_f (fun z => c ((tm_and4 k k8).mp z)) h
theorem tc_cAft {t k c m n : Nat} (ht : t < 2) (hk : a_control t = nI k) (k8 : k < 256) (hc : a_count t = nI c) (c8 : c < 256) (hm : a_compare t = nI m) (m8 : m < 256) (hn : n ≤ 1200000000)
    (h : pz (nI (tm_af k m c n))) : wpX_countAfter pz (f_length, f_inputs, f_sp, f_pc, f_zero, f_carry, f_allowed, f_asleep, f_halted, f_pending, f_resets, f_taken, nI T, f_data, f_serial, f_divider, f_sending, f_dueSent, f_received, f_overrun, f_sent, f_converter, f_result, f_dueResult, f_output, f_watch, f_dueWatch, f_address, f_storing, f_storeAt, f_storeControl, f_dueStore, f_mask, f_edges, f_due, f_head, f_headAt, f_headFlags, f_stop, f_pure, a_op, a_opA, a_opB, a_vectors, a_analogs, a_r, a_m, a_stack, a_count, a_since, a_control, a_compare, a_dueEqual, a_dueOver, a_line, a_store, a_headR) (nI t) (nI n) := by
  have e := nI_clamp (n := t) (by omega)
  have e1 : (nI c + nI n) &&& 255 = nI ((c + n) % 256) := by rw [nI_add, pk_andN (by omega) 8 (by decide)]
  refine And.intro (vp_in_nI ht (by decide)) ?_
  rw [e, hc]
  refine nm_e ?_
  refine tc_clears ht hk k8 ?_
  unfold tm_af at h
  by_cases h0 : k / 4 % 2 = 0
  · rw [if_pos h0] at h ⊢
    refine br_t rfl ?_
    rw [e1]; exact h
  · rw [if_neg h0] at h ⊢
    refine br_f (by decide) ?_
    rw [hm, tm_upI m8 c8, e1]
    refine ⟨vp_in_nI ht (by decide), nm_e ?_⟩
    have hu : tm_up m c < 256 := by unfold tm_up; omega
    by_cases h1 : n ≤ tm_up m c
    · rw [if_pos h1] at h
      exact br_f (nI_nlt h1 (by omega)) h
    · rw [if_neg h1] at h
      refine br_t (nI_lt (by omega) (by omega)) ⟨vp_in_nI ht (by decide), ?_⟩
      rw [nI_1, pk_sub (by omega)]
      refine ⟨nI_ne0 (by omega) (by omega), ?_⟩
      rw [show (1 : Int32) = nI 1 from rfl, pk_sub (by omega), pk_rem (by omega) (by omega) (by omega)]
      exact h
theorem tc_fix {t k c s m : Nat} (ht : t < 2) (hk : a_control t = nI k) (k8 : k < 256) (hc : a_count t = nI c) (c8 : c < 256) (hm : a_compare t = nI m) (m8 : m < 256)
    (hs : a_since t = nI s) (hsT : s ≤ T) (hT : T ≤ 1100000001)
    (h : post (f_length, f_inputs, f_sp, f_pc, f_zero, f_carry, f_allowed, f_asleep, f_halted, f_pending, f_resets, f_taken, nI T, f_data, f_serial, f_divider, f_sending, f_dueSent, f_received, f_overrun, f_sent, f_converter, f_result, f_dueResult, f_output, f_watch, f_dueWatch, f_address, f_storing, f_storeAt, f_storeControl, f_dueStore, f_mask, f_edges, f_due, f_head, f_headAt, f_headFlags, f_stop, f_pure, a_op, a_opA, a_opB, a_vectors, a_analogs, a_r, a_m, a_stack, upd a_count t (nI (tm_af k m c (tm_n k T s))), upd a_since t (nI T), a_control, a_compare, a_dueEqual, a_dueOver, a_line, a_store, a_headR)) : wpX_fix post (f_length, f_inputs, f_sp, f_pc, f_zero, f_carry, f_allowed, f_asleep, f_halted, f_pending, f_resets, f_taken, nI T, f_data, f_serial, f_divider, f_sending, f_dueSent, f_received, f_overrun, f_sent, f_converter, f_result, f_dueResult, f_output, f_watch, f_dueWatch, f_address, f_storing, f_storeAt, f_storeControl, f_dueStore, f_mask, f_edges, f_due, f_head, f_headAt, f_headFlags, f_stop, f_pure, a_op, a_opA, a_opB, a_vectors, a_analogs, a_r, a_m, a_stack, a_count, a_since, a_control, a_compare, a_dueEqual, a_dueOver, a_line, a_store, a_headR) (nI t) := by
  have e := nI_clamp (n := t) (by omega)
  have hn : tm_n k T s ≤ 1200000000 := Nat.le_trans tm_n_le (by omega)
  unfold wpX_fix
  refine tc_ticks ht hk k8 hs hsT (by omega) ?_
  refine tc_cAft ht hk k8 hc c8 hm m8 hn ?_
  rw [e]
  exact ⟨vp_in_nI ht (by decide), nm_e ⟨vp_in_nI ht (by decide), nm_e h⟩⟩
theorem tc_plan135 (h : post (f_length, f_inputs, f_sp, f_pc, f_zero, f_carry, f_allowed, f_asleep, f_halted, f_pending, f_resets, f_taken, nI T, f_data, f_serial, f_divider, f_sending, f_dueSent, f_received, f_overrun, f_sent, f_converter, f_result, f_dueResult, f_output, f_watch, f_dueWatch, f_address, f_storing, f_storeAt, f_storeControl, f_dueStore, f_mask, f_edges, tc_du f_dueSent f_dueResult f_dueWatch f_dueStore a_dueEqual a_dueOver, f_head, f_headAt, f_headFlags, f_stop, f_pure, a_op, a_opA, a_opB, a_vectors, a_analogs, a_r, a_m, a_stack, a_count, a_since, a_control, a_compare, a_dueEqual, a_dueOver, a_line, a_store, a_headR)) : wX_plan_135 post f_length f_inputs f_sp f_pc f_zero f_carry f_allowed f_asleep f_halted f_pending f_resets f_taken (nI T) f_data f_serial f_divider f_sending f_dueSent f_received f_overrun f_sent f_converter f_result f_dueResult f_output f_watch f_dueWatch f_address f_storing f_storeAt f_storeControl f_dueStore f_mask f_edges f_due f_head f_headAt f_headFlags f_stop f_pure a_op a_opA a_opB a_vectors a_analogs a_r a_m a_stack a_count a_since a_control a_compare a_dueEqual a_dueOver a_line a_store a_headR := by
  unfold wX_plan_135
  exact tc_soon h
theorem tc_plan118 {t k v : Nat} (ht : t < 2) (h4 : k % 4 ≠ 0) (hv : v ≤ 256) (hT : T ≤ 1100000001)
    (h : post (f_length, f_inputs, f_sp, f_pc, f_zero, f_carry, f_allowed, f_asleep, f_halted, f_pending, f_resets, f_taken, nI T, f_data, f_serial, f_divider, f_sending, f_dueSent, f_received, f_overrun, f_sent, f_converter, f_result, f_dueResult, f_output, f_watch, f_dueWatch, f_address, f_storing, f_storeAt, f_storeControl, f_dueStore, f_mask, f_edges, tc_du f_dueSent f_dueResult f_dueWatch f_dueStore a_dueEqual (upd a_dueOver t (nI ((T / tm_P k + v) * tm_P k))), f_head, f_headAt, f_headFlags, f_stop, f_pure, a_op, a_opA, a_opB, a_vectors, a_analogs, a_r, a_m, a_stack, a_count, a_since, a_control, a_compare, a_dueEqual, upd a_dueOver t (nI ((T / tm_P k + v) * tm_P k)), a_line, a_store, a_headR)) : wX_plan_118 post (nI t) (nI (2 * (k % 4 - 1))) (nI v) f_length f_inputs f_sp f_pc f_zero f_carry f_allowed f_asleep f_halted f_pending f_resets f_taken (nI T) f_data f_serial f_divider f_sending f_dueSent f_received f_overrun f_sent f_converter f_result f_dueResult f_output f_watch f_dueWatch f_address f_storing f_storeAt f_storeControl f_dueStore f_mask f_edges f_due f_head f_headAt f_headFlags f_stop f_pure a_op a_opA a_opB a_vectors a_analogs a_r a_m a_stack a_count a_since a_control a_compare a_dueEqual a_dueOver a_line a_store a_headR := by
  have e := nI_clamp (n := t) (by omega)
  have ev : ((nI T >>> (nI (2 * (k % 4 - 1)) &&& 31)) + nI v) <<< (nI (2 * (k % 4 - 1)) &&& 31) = nI ((T / tm_P k + v) * tm_P k) := tm_sh h4 hv hT
  unfold wX_plan_118
  rw [e, ev]
  exact ⟨vp_in_nI ht (by decide), nm_e (tc_plan135 h)⟩
theorem tc_plan75 {t k c f w : Nat} (ht : t < 2) (hk : a_control t = nI k) (k8 : k < 256) (h4 : k % 4 ≠ 0) (hc : a_count t = nI c) (c8 : c < 256) (hf : f ≤ 256) (hw : w < 256) (hT : T ≤ 1100000001)
    (h : post (f_length, f_inputs, f_sp, f_pc, f_zero, f_carry, f_allowed, f_asleep, f_halted, f_pending, f_resets, f_taken, nI T, f_data, f_serial, f_divider, f_sending, f_dueSent, f_received, f_overrun, f_sent, f_converter, f_result, f_dueResult, f_output, f_watch, f_dueWatch, f_address, f_storing, f_storeAt, f_storeControl, f_dueStore, f_mask, f_edges, tc_du f_dueSent f_dueResult f_dueWatch f_dueStore (upd a_dueEqual t (nI ((T / tm_P k + f) * tm_P k))) (if k / 4 % 2 = 0 ∨ 256 - c ≤ w then upd a_dueOver t (nI ((T / tm_P k + (256 - c)) * tm_P k)) else a_dueOver), f_head, f_headAt, f_headFlags, f_stop, f_pure, a_op, a_opA, a_opB, a_vectors, a_analogs, a_r, a_m, a_stack, a_count, a_since, a_control, a_compare, upd a_dueEqual t (nI ((T / tm_P k + f) * tm_P k)), if k / 4 % 2 = 0 ∨ 256 - c ≤ w then upd a_dueOver t (nI ((T / tm_P k + (256 - c)) * tm_P k)) else a_dueOver, a_line, a_store, a_headR)) : wX_plan_75 post (nI t) (nI (2 * (k % 4 - 1))) (nI w) (nI f) f_length f_inputs f_sp f_pc f_zero f_carry f_allowed f_asleep f_halted f_pending f_resets f_taken (nI T) f_data f_serial f_divider f_sending f_dueSent f_received f_overrun f_sent f_converter f_result f_dueResult f_output f_watch f_dueWatch f_address f_storing f_storeAt f_storeControl f_dueStore f_mask f_edges f_due f_head f_headAt f_headFlags f_stop f_pure a_op a_opA a_opB a_vectors a_analogs a_r a_m a_stack a_count a_since a_control a_compare a_dueEqual a_dueOver a_line a_store a_headR := by
  have e := nI_clamp (n := t) (by omega)
  have ev : ((nI T >>> (nI (2 * (k % 4 - 1)) &&& 31)) + nI f) <<< (nI (2 * (k % 4 - 1)) &&& 31) = nI ((T / tm_P k + f) * tm_P k) := tm_sh h4 hf hT
  have e6 : (256 : Int32) - nI c = nI (256 - c) := pk_sub (a := 256) (by omega)
  unfold wX_plan_75
  rw [e, ev, hc, e6]
  refine ⟨vp_in_nI ht (by decide), nm_e ⟨vp_in_nI ht (by decide), nm_e ?_⟩⟩
  refine tc_clears ht hk k8 ?_
  by_cases h0 : k / 4 % 2 = 0
  · rw [if_pos (Or.inl h0)] at h
    rw [if_pos h0]
    exact br_t rfl (tc_plan118 ht h4 (by omega) hT h)
  · rw [if_neg h0]
    refine br_f (by decide) ?_
    by_cases h1 : 256 - c ≤ w
    · rw [if_pos (Or.inr h1)] at h
      exact br_f (nI_nlt h1 (by omega)) (tc_plan118 ht h4 (by omega) hT h)
    · rw [if_neg (by omega)] at h
      exact br_t (nI_lt (by omega) (by omega)) (tc_plan135 h)
theorem tc_plan {t k c m : Nat} (ht : t < 2) (hk : a_control t = nI k) (k8 : k < 256) (hc : a_count t = nI c) (c8 : c < 256) (hm : a_compare t = nI m) (m8 : m < 256) (hT : T ≤ 1100000001)
    (h : post (f_length, f_inputs, f_sp, f_pc, f_zero, f_carry, f_allowed, f_asleep, f_halted, f_pending, f_resets, f_taken, nI T, f_data, f_serial, f_divider, f_sending, f_dueSent, f_received, f_overrun, f_sent, f_converter, f_result, f_dueResult, f_output, f_watch, f_dueWatch, f_address, f_storing, f_storeAt, f_storeControl, f_dueStore, f_mask, f_edges, tc_du f_dueSent f_dueResult f_dueWatch f_dueStore (upd a_dueEqual t (nI (tm_e T k m c))) (upd a_dueOver t (nI (tm_o T k m c))), f_head, f_headAt, f_headFlags, f_stop, f_pure, a_op, a_opA, a_opB, a_vectors, a_analogs, a_r, a_m, a_stack, a_count, a_since, a_control, a_compare, upd a_dueEqual t (nI (tm_e T k m c)), upd a_dueOver t (nI (tm_o T k m c)), a_line, a_store, a_headR)) : wpX_plan post (f_length, f_inputs, f_sp, f_pc, f_zero, f_carry, f_allowed, f_asleep, f_halted, f_pending, f_resets, f_taken, nI T, f_data, f_serial, f_divider, f_sending, f_dueSent, f_received, f_overrun, f_sent, f_converter, f_result, f_dueResult, f_output, f_watch, f_dueWatch, f_address, f_storing, f_storeAt, f_storeControl, f_dueStore, f_mask, f_edges, f_due, f_head, f_headAt, f_headFlags, f_stop, f_pure, a_op, a_opA, a_opB, a_vectors, a_analogs, a_r, a_m, a_stack, a_count, a_since, a_control, a_compare, a_dueEqual, a_dueOver, a_line, a_store, a_headR) (nI t) := by
  have e := nI_clamp (n := t) (by omega)
  have hu : tm_up m c < 256 := by unfold tm_up; omega
  unfold wpX_plan
  refine tc_scale ht hk k8 ?_
  rw [e]
  refine ⟨vp_in_nI ht (by decide), nm_e ⟨vp_in_nI ht (by decide), nm_e ?_⟩⟩
  by_cases h0 : k % 4 = 0
  · unfold tm_e tm_o at h
    rw [if_pos h0, if_pos h0, ← tc_7f] at h
    rw [if_pos h0]
    exact br_t (by decide) (tc_plan135 h)
  · rw [if_neg h0]
    refine br_f (nI_pos (by omega)) ?_
    rw [hm, hc, tm_upI m8 c8]
    refine ⟨vp_in_nI ht (by decide), vp_in_nI ht (by decide), nm_e ?_⟩
    have eo : (if k / 4 % 2 = 0 ∨ 256 - c ≤ tm_up m c then upd (upd a_dueOver t 2147483647) t (nI ((T / tm_P k + (256 - c)) * tm_P k)) else upd a_dueOver t 2147483647) = upd a_dueOver t (nI (tm_o T k m c)) := by
      unfold tm_o
      rw [if_neg h0, tc_uu]
      split
      · rfl
      · rw [tc_7f]
    by_cases h1 : c = m
    · have hz : tm_up m c = 0 := by unfold tm_up; omega
      refine br_t (by rw [hz]; rfl) ?_
      refine tc_clears ht hk k8 ?_
      by_cases h2 : k / 4 % 2 = 0
      · rw [if_pos h2]
        have ee : upd (upd a_dueEqual t 2147483647) t (nI ((T / tm_P k + 256) * tm_P k)) = upd a_dueEqual t (nI (tm_e T k m c)) := by
          unfold tm_e tm_fe
          rw [tc_uu, if_neg h0, if_pos h1, if_pos h2]
        refine br_t rfl ?_
        unfold wX_plan_73
        refine tc_plan75 (f := 256) ht hk k8 h0 hc c8 (by omega) hu hT ?_
        rw [eo, ee]; exact h
      · rw [if_neg h2]
        have ee : upd (upd a_dueEqual t 2147483647) t (nI ((T / tm_P k + (m + 1)) * tm_P k)) = upd a_dueEqual t (nI (tm_e T k m c)) := by
          unfold tm_e tm_fe
          rw [tc_uu, if_neg h0, if_pos h1, if_neg h2]
        refine br_f (by decide) ⟨vp_in_nI ht (by decide), ?_⟩
        rw [nI_1]
        unfold wX_plan_73
        refine tc_plan75 (f := m + 1) ht hk k8 h0 hc c8 (by omega) hu hT ?_
        rw [eo, ee]; exact h
    · have hz : 0 < tm_up m c := by unfold tm_up; omega
      have ee : upd (upd a_dueEqual t 2147483647) t (nI ((T / tm_P k + tm_up m c) * tm_P k)) = upd a_dueEqual t (nI (tm_e T k m c)) := by
        unfold tm_e tm_fe
        rw [tc_uu, if_neg h0, if_neg h1]
      refine br_f (nI_ne0 hz (by omega)) ?_
      refine tc_plan75 (f := tm_up m c) ht hk k8 h0 hc c8 (by omega) hu hT ?_
      rw [eo, ee]; exact h
theorem tc_drv7 {p : Int32} : ∀ (j c : Nat) (e : Int32), c < 256 → tc_pp 8 (nI c) = j → post (f_length, f_inputs, f_sp, f_pc, f_zero, f_carry, f_allowed, f_asleep, f_halted, f_pending, f_resets, f_taken, nI T, f_data, f_serial, f_divider, f_sending, f_dueSent, f_received, f_overrun, f_sent, f_converter, f_result, f_dueResult, p, f_watch, f_dueWatch, f_address, f_storing, f_storeAt, f_storeControl, f_dueStore, f_mask, e + nI j, f_due, f_head, f_headAt, f_headFlags, f_stop, f_pure, a_op, a_opA, a_opB, a_vectors, a_analogs, a_r, a_m, a_stack, a_count, a_since, a_control, a_compare, a_dueEqual, a_dueOver, a_line, a_store, a_headR) → wX_drive_7 post p f_length f_inputs f_sp f_pc f_zero f_carry f_allowed f_asleep f_halted f_pending f_resets f_taken (nI T) f_data f_serial f_divider f_sending f_dueSent f_received f_overrun f_sent f_converter f_result f_dueResult f_output f_watch f_dueWatch f_address f_storing f_storeAt f_storeControl f_dueStore f_mask f_due f_head f_headAt f_headFlags f_stop f_pure a_op a_opA a_opB a_vectors a_analogs a_r a_m a_stack a_count a_since a_control a_compare a_dueEqual a_dueOver a_line a_store a_headR (j + 1) (nI c) e := by
  intro j
  induction j with
  | zero =>
    intro c e hc hj h
    by_cases h0 : 0 < c
    · have := (tc_pp8 c hc h0).1
      omega
    · have h1 : c = 0 := by omega
      have h2 : e + nI 0 = e := Int32.add_zero e
      rw [h2] at h
      rw [h1]
      exact br_t rfl h
  | succ j ih =>
    intro c e hc hj h
    by_cases h0 : 0 < c
    · obtain ⟨q1, q2, q3⟩ := tc_pp8 c hc h0
      have h2 : e + nI (j + 1) = e + 1 + nI j := by rw [Int32.add_assoc, Int32.add_comm 1 (nI j), nI_1]
      rw [h2] at h
      refine br_f (nI_ne0 h0 (by omega)) (nm_e (nm_e ?_))
      rw [q2]
      exact ih _ _ q3 (by rw [← q2]; omega) h
    · have h1 : c = 0 := by omega
      rw [h1, tc_pp0] at hj
      omega
theorem tc_drive {p : Int32} (ho : tc_y8 f_output) (hp : tc_y8 p) (h : post (f_length, f_inputs, f_sp, f_pc, f_zero, f_carry, f_allowed, f_asleep, f_halted, f_pending, f_resets, f_taken, nI T, f_data, f_serial, f_divider, f_sending, f_dueSent, f_received, f_overrun, f_sent, f_converter, f_result, f_dueResult, p, f_watch, f_dueWatch, f_address, f_storing, f_storeAt, f_storeControl, f_dueStore, f_mask, f_edges + tc_ed f_output p, f_due, f_head, f_headAt, f_headFlags, f_stop, f_pure, a_op, a_opA, a_opB, a_vectors, a_analogs, a_r, a_m, a_stack, a_count, a_since, a_control, a_compare, a_dueEqual, a_dueOver, a_line, a_store, a_headR)) : wpX_drive post (f_length, f_inputs, f_sp, f_pc, f_zero, f_carry, f_allowed, f_asleep, f_halted, f_pending, f_resets, f_taken, nI T, f_data, f_serial, f_divider, f_sending, f_dueSent, f_received, f_overrun, f_sent, f_converter, f_result, f_dueResult, f_output, f_watch, f_dueWatch, f_address, f_storing, f_storeAt, f_storeControl, f_dueStore, f_mask, f_edges, f_due, f_head, f_headAt, f_headFlags, f_stop, f_pure, a_op, a_opA, a_opB, a_vectors, a_analogs, a_r, a_m, a_stack, a_count, a_since, a_control, a_compare, a_dueEqual, a_dueOver, a_line, a_store, a_headR) p := by
  obtain ⟨c, hc, e⟩ := tc_y8_ex (tc_y8_xor ho hp)
  unfold tc_ed at h
  rw [e] at h
  refine nm_r (e' := nI c) e ?_
  exact ⟨_, tc_drv7 _ c f_edges hc rfl h⟩
end
end
section
/-! X: happen, one timer -/
section
variable {post : SX → Prop} {T n : Nat} {f_length f_inputs f_sp f_pc f_zero f_carry f_allowed f_asleep f_halted f_pending f_resets f_taken f_data f_serial f_divider f_sending f_dueSent f_received f_overrun f_sent f_converter f_result f_dueResult f_output f_watch f_dueWatch f_address f_storing f_storeAt f_storeControl f_dueStore f_mask f_edges f_due f_head f_headAt f_headFlags f_stop f_pure : Int32} {a_op a_opA a_opB a_vectors a_analogs a_r a_m a_stack a_count a_since a_control a_compare a_dueEqual a_dueOver a_line a_store a_headR : Nat → Int32}
theorem tc_hap122 {t k c s m : Nat} (ht : t < 2) (hk : a_control t = nI k) (k8 : k < 256) (hc : a_count t = nI c) (c8 : c < 256) (hm : a_compare t = nI m) (m8 : m < 256)
    (hs : a_since t = nI s) (hsT : s ≤ T) (hT : T ≤ 1100000001) {y : Nat} (hy : y = tm_af k m c (tm_n k T s))
    (h : wX_happen_7 post n (nI (t + 1)) f_length f_inputs f_sp f_pc f_zero f_carry f_allowed f_asleep f_halted f_pending f_resets f_taken (nI T) f_data f_serial f_divider f_sending f_dueSent f_received f_overrun f_sent f_converter f_result f_dueResult f_output f_watch f_dueWatch f_address f_storing f_storeAt f_storeControl f_dueStore f_mask f_edges (tc_du f_dueSent f_dueResult f_dueWatch f_dueStore (upd a_dueEqual t (nI (tm_e T k m y))) (upd a_dueOver t (nI (tm_o T k m y)))) f_head f_headAt f_headFlags f_stop f_pure a_op a_opA a_opB a_vectors a_analogs a_r a_m a_stack (upd a_count t (nI y)) (upd a_since t (nI T)) a_control a_compare (upd a_dueEqual t (nI (tm_e T k m y))) (upd a_dueOver t (nI (tm_o T k m y))) a_line a_store a_headR) :
    wX_happen_122 post (wX_happen_7 post n) (nI t) f_length f_inputs f_sp f_pc f_zero f_carry f_allowed f_asleep f_halted f_pending f_resets f_taken (nI T) f_data f_serial f_divider f_sending f_dueSent f_received f_overrun f_sent f_converter f_result f_dueResult f_output f_watch f_dueWatch f_address f_storing f_storeAt f_storeControl f_dueStore f_mask f_edges f_due f_head f_headAt f_headFlags f_stop f_pure a_op a_opA a_opB a_vectors a_analogs a_r a_m a_stack a_count a_since a_control a_compare a_dueEqual a_dueOver a_line a_store a_headR := by
  have y8 : y < 256 := by rw [hy]; exact tm_af_lt m8
  unfold wX_happen_122
  refine tc_fix ht hk k8 hc c8 hm m8 hs hsT hT ?_
  rw [← hy]
  refine tc_plan (c := y) ht hk k8 pk_us y8 hm m8 hT ?_
  exact nm_r (nI_1 t) h
theorem tc_hap114 {ov eq : Bool} {t k c s m : Nat} (ht : t < 2) (hk : a_control t = nI k) (k8 : k < 256) (hc : a_count t = nI c) (c8 : c < 256) (hm : a_compare t = nI m) (m8 : m < 256)
    (hs : a_since t = nI s) (hsT : s ≤ T) (hT : T ≤ 1100000001) {y : Nat} (hy : y = tm_af k m c (tm_n k T s)) (h1 : (ov || eq) = true)
    (h : wX_happen_7 post n (nI (t + 1)) f_length f_inputs f_sp f_pc f_zero f_carry f_allowed f_asleep f_halted f_pending f_resets f_taken (nI T) f_data f_serial f_divider f_sending f_dueSent f_received f_overrun f_sent f_converter f_result f_dueResult f_output f_watch f_dueWatch f_address f_storing f_storeAt f_storeControl f_dueStore f_mask f_edges (tc_du f_dueSent f_dueResult f_dueWatch f_dueStore (upd a_dueEqual t (nI (tm_e T k m y))) (upd a_dueOver t (nI (tm_o T k m y)))) f_head f_headAt f_headFlags f_stop f_pure a_op a_opA a_opB a_vectors a_analogs a_r a_m a_stack (upd a_count t (nI y)) (upd a_since t (nI T)) a_control a_compare (upd a_dueEqual t (nI (tm_e T k m y))) (upd a_dueOver t (nI (tm_o T k m y))) a_line a_store a_headR) :
    wX_happen_114 post (wX_happen_7 post n) (nI t) (tc_bI ov) (tc_bI eq) f_length f_inputs f_sp f_pc f_zero f_carry f_allowed f_asleep f_halted f_pending f_resets f_taken (nI T) f_data f_serial f_divider f_sending f_dueSent f_received f_overrun f_sent f_converter f_result f_dueResult f_output f_watch f_dueWatch f_address f_storing f_storeAt f_storeControl f_dueStore f_mask f_edges f_due f_head f_headAt f_headFlags f_stop f_pure a_op a_opA a_opB a_vectors a_analogs a_r a_m a_stack a_count a_since a_control a_compare a_dueEqual a_dueOver a_line a_store a_headR := by
  have q : wX_happen_122 post (wX_happen_7 post n) (nI t) f_length f_inputs f_sp f_pc f_zero f_carry f_allowed f_asleep f_halted f_pending f_resets f_taken (nI T) f_data f_serial f_divider f_sending f_dueSent f_received f_overrun f_sent f_converter f_result f_dueResult f_output f_watch f_dueWatch f_address f_storing f_storeAt f_storeControl f_dueStore f_mask f_edges f_due f_head f_headAt f_headFlags f_stop f_pure a_op a_opA a_opB a_vectors a_analogs a_r a_m a_stack a_count a_since a_control a_compare a_dueEqual a_dueOver a_line a_store a_headR := tc_hap122 ht hk k8 hc c8 hm m8 hs hsT hT hy h
  cases ov
  · cases eq
    · cases h1
    · exact br_t rfl (br_f (by decide) q)
  · exact br_f (by decide) q
theorem tc_hap86 {ov eq : Bool} {t k c s m : Nat} (ht : t < 2) (hk : a_control t = nI k) (k8 : k < 256) (hc : a_count t = nI c) (c8 : c < 256) (hm : a_compare t = nI m) (m8 : m < 256)
    (hs : a_since t = nI s) (hsT : s ≤ T) (hT : T ≤ 1100000001) {y : Nat} (hy : y = tm_af k m c (tm_n k T s)) (h1 : (ov || eq) = true) (ho : tc_y8 f_output)
    (h : wX_happen_7 post n (nI (t + 1)) f_length f_inputs f_sp f_pc f_zero f_carry f_allowed f_asleep f_halted f_pending f_resets f_taken (nI T) f_data f_serial f_divider f_sending f_dueSent f_received f_overrun f_sent f_converter f_result f_dueResult (tc_oX (eq && decide (k / 32 % 2 = 1)) t f_output) f_watch f_dueWatch f_address f_storing f_storeAt f_storeControl f_dueStore f_mask (tc_eX (eq && decide (k / 32 % 2 = 1)) t f_output f_edges) (tc_du f_dueSent f_dueResult f_dueWatch f_dueStore (upd a_dueEqual t (nI (tm_e T k m y))) (upd a_dueOver t (nI (tm_o T k m y)))) f_head f_headAt f_headFlags f_stop f_pure a_op a_opA a_opB a_vectors a_analogs a_r a_m a_stack (upd a_count t (nI y)) (upd a_since t (nI T)) a_control a_compare (upd a_dueEqual t (nI (tm_e T k m y))) (upd a_dueOver t (nI (tm_o T k m y))) a_line a_store a_headR) :
    wX_happen_86 post (wX_happen_7 post n) (nI t) (tc_bI ov) (tc_bI eq) f_length f_inputs f_sp f_pc f_zero f_carry f_allowed f_asleep f_halted f_pending f_resets f_taken (nI T) f_data f_serial f_divider f_sending f_dueSent f_received f_overrun f_sent f_converter f_result f_dueResult f_output f_watch f_dueWatch f_address f_storing f_storeAt f_storeControl f_dueStore f_mask f_edges f_due f_head f_headAt f_headFlags f_stop f_pure a_op a_opA a_opB a_vectors a_analogs a_r a_m a_stack a_count a_since a_control a_compare a_dueEqual a_dueOver a_line a_store a_headR := by
  have e := nI_clamp (n := t) (by omega)
  cases eq
  · exact br_t rfl (tc_hap114 ht hk k8 hc c8 hm m8 hs hsT hT hy h1 h)
  · refine br_f (by decide) ?_
    rw [e, hk]
    refine ⟨vp_in_nI ht (by decide), ?_⟩
    by_cases c5 : k / 32 % 2 = 0
    · rw [decide_eq_false (by omega)] at h
      exact br_t ((tm_and32 k k8).mpr c5) (tc_hap114 (eq := true) ht hk k8 hc c8 hm m8 hs hsT hT hy h1 h)
    · rw [decide_eq_true (by omega)] at h
      refine br_f (fun z => c5 ((tm_and32 k k8).mp z)) ?_
      refine tc_drive ho (tc_y8_oX ht ho true) ?_
      exact tc_hap114 (eq := true) ht hk k8 hc c8 hm m8 hs hsT hT hy h1 h
theorem tc_hapE {ov eq : Bool} {t k c s m : Nat} (ht : t < 2) (hk : a_control t = nI k) (k8 : k < 256) (hc : a_count t = nI c) (c8 : c < 256) (hm : a_compare t = nI m) (m8 : m < 256)
    (hs : a_since t = nI s) (hsT : s ≤ T) (hT : T ≤ 1100000001) {y : Nat} (hy : y = tm_af k m c (tm_n k T s)) (h1 : (ov || eq) = true) (ho : tc_y8 f_output)
    (hov : a_dueOver t = nI T ↔ ov = true) (heq : a_dueEqual t = nI T ↔ eq = true)
    (h : wX_happen_7 post n (nI (t + 1)) f_length f_inputs f_sp f_pc f_zero f_carry f_allowed f_asleep f_halted (tc_pX ov eq t f_pending) f_resets f_taken (nI T) f_data f_serial f_divider f_sending f_dueSent f_received f_overrun f_sent f_converter f_result f_dueResult (tc_oX (eq && decide (k / 32 % 2 = 1)) t f_output) f_watch f_dueWatch f_address f_storing f_storeAt f_storeControl f_dueStore f_mask (tc_eX (eq && decide (k / 32 % 2 = 1)) t f_output f_edges) (tc_du f_dueSent f_dueResult f_dueWatch f_dueStore (upd a_dueEqual t (nI (tm_e T k m y))) (upd a_dueOver t (nI (tm_o T k m y)))) f_head f_headAt f_headFlags f_stop f_pure a_op a_opA a_opB a_vectors a_analogs a_r a_m a_stack (upd a_count t (nI y)) (upd a_since t (nI T)) a_control a_compare (upd a_dueEqual t (nI (tm_e T k m y))) (upd a_dueOver t (nI (tm_o T k m y))) a_line a_store a_headR) :
    wX_happen_7 post (n + 1) (nI t) f_length f_inputs f_sp f_pc f_zero f_carry f_allowed f_asleep f_halted f_pending f_resets f_taken (nI T) f_data f_serial f_divider f_sending f_dueSent f_received f_overrun f_sent f_converter f_result f_dueResult f_output f_watch f_dueWatch f_address f_storing f_storeAt f_storeControl f_dueStore f_mask f_edges f_due f_head f_headAt f_headFlags f_stop f_pure a_op a_opA a_opB a_vectors a_analogs a_r a_m a_stack a_count a_since a_control a_compare a_dueEqual a_dueOver a_line a_store a_headR := by
  have e := nI_clamp (n := t) (by omega)
  refine br_f (nI_ge (b := 2) ht (by decide)) ?_
  rw [e]
  refine ⟨vp_in_nI ht (by decide), ?_⟩
  cases ov
  · refine br_f (fun z => nomatch hov.mp z) ?_
    unfold wX_happen_30
    rw [e]
    refine ⟨vp_in_nI ht (by decide), ?_⟩
    cases eq
    · cases h1
    · refine br_t (heq.mpr rfl) ?_
      exact br_t rfl (br_f (by decide) (nm_e (tc_hap86 (ov := false) (eq := true) ht hk k8 hc c8 hm m8 hs hsT hT hy h1 ho h)))
  · refine br_t (hov.mpr rfl) ?_
    unfold wX_happen_30
    rw [e]
    refine ⟨vp_in_nI ht (by decide), ?_⟩
    cases eq
    · refine br_f (fun z => nomatch heq.mp z) ?_
      exact br_f (by decide) (nm_e (br_t rfl (tc_hap86 (ov := true) (eq := false) ht hk k8 hc c8 hm m8 hs hsT hT hy h1 ho h)))
    · refine br_t (heq.mpr rfl) ?_
      exact br_f (by decide) (nm_e (br_f (by decide) (nm_e (tc_hap86 (ov := true) (eq := true) ht hk k8 hc c8 hm m8 hs hsT hT hy h1 ho h))))
theorem tc_hapN {t : Nat} (ht : t < 2) (ho : ¬ a_dueOver t = nI T) (he : ¬ a_dueEqual t = nI T) (h : wX_happen_7 post n (nI (t + 1)) f_length f_inputs f_sp f_pc f_zero f_carry f_allowed f_asleep f_halted f_pending f_resets f_taken (nI T) f_data f_serial f_divider f_sending f_dueSent f_received f_overrun f_sent f_converter f_result f_dueResult f_output f_watch f_dueWatch f_address f_storing f_storeAt f_storeControl f_dueStore f_mask f_edges f_due f_head f_headAt f_headFlags f_stop f_pure a_op a_opA a_opB a_vectors a_analogs a_r a_m a_stack a_count a_since a_control a_compare a_dueEqual a_dueOver a_line a_store a_headR) : wX_happen_7 post (n + 1) (nI t) f_length f_inputs f_sp f_pc f_zero f_carry f_allowed f_asleep f_halted f_pending f_resets f_taken (nI T) f_data f_serial f_divider f_sending f_dueSent f_received f_overrun f_sent f_converter f_result f_dueResult f_output f_watch f_dueWatch f_address f_storing f_storeAt f_storeControl f_dueStore f_mask f_edges f_due f_head f_headAt f_headFlags f_stop f_pure a_op a_opA a_opB a_vectors a_analogs a_r a_m a_stack a_count a_since a_control a_compare a_dueEqual a_dueOver a_line a_store a_headR := by
  have e := nI_clamp (n := t) (by omega)
  refine br_f (nI_ge (b := 2) ht (by decide)) ?_
  rw [e]
  refine ⟨vp_in_nI ht (by decide), br_f ho ?_⟩
  unfold wX_happen_30
  rw [e]
  refine ⟨vp_in_nI ht (by decide), br_f he ?_⟩
  exact br_t rfl (br_t rfl (br_t rfl (br_t rfl (br_t rfl (nm_r (nI_1 t) h)))))
/-! the rest of happen -/
theorem tc_hapS0 (h0 : ¬ f_dueSent = nI T) (h : wX_happen_198 post f_length f_inputs f_sp f_pc f_zero f_carry f_allowed f_asleep f_halted f_pending f_resets f_taken (nI T) f_data f_serial f_divider f_sending f_dueSent f_received f_overrun f_sent f_converter f_result f_dueResult f_output f_watch f_dueWatch f_address f_storing f_storeAt f_storeControl f_dueStore f_mask f_edges f_due f_head f_headAt f_headFlags f_stop f_pure a_op a_opA a_opB a_vectors a_analogs a_r a_m a_stack a_count a_since a_control a_compare a_dueEqual a_dueOver a_line a_store a_headR) : wX_happen_7 post (n + 1) (nI 2) f_length f_inputs f_sp f_pc f_zero f_carry f_allowed f_asleep f_halted f_pending f_resets f_taken (nI T) f_data f_serial f_divider f_sending f_dueSent f_received f_overrun f_sent f_converter f_result f_dueResult f_output f_watch f_dueWatch f_address f_storing f_storeAt f_storeControl f_dueStore f_mask f_edges f_due f_head f_headAt f_headFlags f_stop f_pure a_op a_opA a_opB a_vectors a_analogs a_r a_m a_stack a_count a_since a_control a_compare a_dueEqual a_dueOver a_line a_store a_headR :=
  br_t (by decide) (br_f h0 h)
theorem tc_hapS1 {j : Nat} (h0 : f_dueSent = nI T) (hj : f_sent = nI j) (j31 : j < 2 ^ 31)
    (h : wX_happen_198 post f_length f_inputs f_sp f_pc f_zero f_carry f_allowed f_asleep f_halted (f_pending ||| 32) f_resets f_taken (nI T) f_data f_serial f_divider f_sending 2147483647 f_received f_overrun (f_sent + 1) f_converter f_result f_dueResult f_output f_watch f_dueWatch f_address f_storing f_storeAt f_storeControl f_dueStore f_mask f_edges f_due f_head f_headAt f_headFlags f_stop f_pure a_op a_opA a_opB a_vectors a_analogs a_r a_m a_stack a_count a_since a_control a_compare a_dueEqual a_dueOver (if j < 32 then upd a_line j f_sending else a_line) a_store a_headR) : wX_happen_7 post (n + 1) (nI 2) f_length f_inputs f_sp f_pc f_zero f_carry f_allowed f_asleep f_halted f_pending f_resets f_taken (nI T) f_data f_serial f_divider f_sending f_dueSent f_received f_overrun f_sent f_converter f_result f_dueResult f_output f_watch f_dueWatch f_address f_storing f_storeAt f_storeControl f_dueStore f_mask f_edges f_due f_head f_headAt f_headFlags f_stop f_pure a_op a_opA a_opB a_vectors a_analogs a_r a_m a_stack a_count a_since a_control a_compare a_dueEqual a_dueOver a_line a_store a_headR := by
  have e := nI_clamp j31
  refine br_t (by decide) (br_t h0 ?_)
  rw [hj, e]
  rw [hj] at h
  by_cases c : j < 32
  · rw [if_pos c] at h
    exact br_f (nI_ge (b := 32) c (by decide)) ⟨vp_in_nI c (by decide), nm_e (nm_e (nm_e h))⟩
  · rw [if_neg c] at h
    exact br_t (nI_le (a := 32) (by omega) (by omega)) (nm_e (nm_e h))
theorem tc_hapC0 (h0 : ¬ f_dueResult = nI T) (h : wX_happen_241 post f_length f_inputs f_sp f_pc f_zero f_carry f_allowed f_asleep f_halted f_pending f_resets f_taken (nI T) f_data f_serial f_divider f_sending f_dueSent f_received f_overrun f_sent f_converter f_result f_dueResult f_output f_watch f_dueWatch f_address f_storing f_storeAt f_storeControl f_dueStore f_mask f_edges f_due f_head f_headAt f_headFlags f_stop f_pure a_op a_opA a_opB a_vectors a_analogs a_r a_m a_stack a_count a_since a_control a_compare a_dueEqual a_dueOver a_line a_store a_headR) : wX_happen_198 post f_length f_inputs f_sp f_pc f_zero f_carry f_allowed f_asleep f_halted f_pending f_resets f_taken (nI T) f_data f_serial f_divider f_sending f_dueSent f_received f_overrun f_sent f_converter f_result f_dueResult f_output f_watch f_dueWatch f_address f_storing f_storeAt f_storeControl f_dueStore f_mask f_edges f_due f_head f_headAt f_headFlags f_stop f_pure a_op a_opA a_opB a_vectors a_analogs a_r a_m a_stack a_count a_since a_control a_compare a_dueEqual a_dueOver a_line a_store a_headR := br_f h0 h
theorem tc_and3i (x : Int32) : vp_in (x &&& 3) 4 := pk_andIn x 2 (by decide) (by decide)
theorem tc_hapC1 (h0 : f_dueResult = nI T) (h : wX_happen_241 post f_length f_inputs f_sp f_pc f_zero f_carry f_allowed f_asleep f_halted (f_pending ||| 64) f_resets f_taken (nI T) f_data f_serial f_divider f_sending f_dueSent f_received f_overrun f_sent f_converter (a_analogs (f_converter &&& 3).toNatClampNeg) 2147483647 f_output f_watch f_dueWatch f_address f_storing f_storeAt f_storeControl f_dueStore f_mask f_edges f_due f_head f_headAt f_headFlags f_stop f_pure a_op a_opA a_opB a_vectors a_analogs a_r a_m a_stack a_count a_since a_control a_compare a_dueEqual a_dueOver a_line a_store a_headR) : wX_happen_198 post f_length f_inputs f_sp f_pc f_zero f_carry f_allowed f_asleep f_halted f_pending f_resets f_taken (nI T) f_data f_serial f_divider f_sending f_dueSent f_received f_overrun f_sent f_converter f_result f_dueResult f_output f_watch f_dueWatch f_address f_storing f_storeAt f_storeControl f_dueStore f_mask f_edges f_due f_head f_headAt f_headFlags f_stop f_pure a_op a_opA a_opB a_vectors a_analogs a_r a_m a_stack a_count a_since a_control a_compare a_dueEqual a_dueOver a_line a_store a_headR :=
  br_t h0 (And.intro (tc_and3i _) (nm_e (nm_e h)))
theorem tc_hapB0 (h0 : ¬ f_dueStore = nI T) (h : wX_happen_284 post f_length f_inputs f_sp f_pc f_zero f_carry f_allowed f_asleep f_halted f_pending f_resets f_taken (nI T) f_data f_serial f_divider f_sending f_dueSent f_received f_overrun f_sent f_converter f_result f_dueResult f_output f_watch f_dueWatch f_address f_storing f_storeAt f_storeControl f_dueStore f_mask f_edges f_due f_head f_headAt f_headFlags f_stop f_pure a_op a_opA a_opB a_vectors a_analogs a_r a_m a_stack a_count a_since a_control a_compare a_dueEqual a_dueOver a_line a_store a_headR) : wX_happen_241 post f_length f_inputs f_sp f_pc f_zero f_carry f_allowed f_asleep f_halted f_pending f_resets f_taken (nI T) f_data f_serial f_divider f_sending f_dueSent f_received f_overrun f_sent f_converter f_result f_dueResult f_output f_watch f_dueWatch f_address f_storing f_storeAt f_storeControl f_dueStore f_mask f_edges f_due f_head f_headAt f_headFlags f_stop f_pure a_op a_opA a_opB a_vectors a_analogs a_r a_m a_stack a_count a_since a_control a_compare a_dueEqual a_dueOver a_line a_store a_headR := br_f h0 h
theorem tc_hapB1 {j : Nat} (h0 : f_dueStore = nI T) (hj : f_storeAt = nI j) (j16 : j < 16)
    (h : wX_happen_284 post f_length f_inputs f_sp f_pc f_zero f_carry f_allowed f_asleep f_halted (f_pending ||| 128) f_resets f_taken (nI T) f_data f_serial f_divider f_sending f_dueSent f_received f_overrun f_sent f_converter f_result f_dueResult f_output f_watch f_dueWatch f_address f_storing f_storeAt f_storeControl 2147483647 f_mask f_edges f_due f_head f_headAt f_headFlags f_stop f_pure a_op a_opA a_opB a_vectors a_analogs a_r a_m a_stack a_count a_since a_control a_compare a_dueEqual a_dueOver a_line (upd a_store j (vp_nar .byte f_storing.toInt8.toInt32)) a_headR) : wX_happen_241 post f_length f_inputs f_sp f_pc f_zero f_carry f_allowed f_asleep f_halted f_pending f_resets f_taken (nI T) f_data f_serial f_divider f_sending f_dueSent f_received f_overrun f_sent f_converter f_result f_dueResult f_output f_watch f_dueWatch f_address f_storing f_storeAt f_storeControl f_dueStore f_mask f_edges f_due f_head f_headAt f_headFlags f_stop f_pure a_op a_opA a_opB a_vectors a_analogs a_r a_m a_stack a_count a_since a_control a_compare a_dueEqual a_dueOver a_line a_store a_headR := by
  have e := nI_clamp (n := j) (by omega)
  refine br_t h0 ?_
  rw [hj, e]
  rw [hj] at h
  exact ⟨vp_in_nI j16 (by decide), nm_e (nm_e h)⟩
theorem tc_hap309 (h : post (f_length, f_inputs, f_sp, f_pc, f_zero, f_carry, f_allowed, f_asleep, f_halted, f_pending, f_resets, f_taken, nI T, f_data, f_serial, f_divider, f_sending, f_dueSent, f_received, f_overrun, f_sent, f_converter, f_result, f_dueResult, f_output, f_watch, f_dueWatch, f_address, f_storing, f_storeAt, f_storeControl, f_dueStore, f_mask, f_edges, tc_du f_dueSent f_dueResult f_dueWatch f_dueStore a_dueEqual a_dueOver, f_head, f_headAt, f_headFlags, f_stop, f_pure, a_op, a_opA, a_opB, a_vectors, a_analogs, a_r, a_m, a_stack, a_count, a_since, a_control, a_compare, a_dueEqual, a_dueOver, a_line, a_store, a_headR)) : wX_happen_309 post f_length f_inputs f_sp f_pc f_zero f_carry f_allowed f_asleep f_halted f_pending f_resets f_taken (nI T) f_data f_serial f_divider f_sending f_dueSent f_received f_overrun f_sent f_converter f_result f_dueResult f_output f_watch f_dueWatch f_address f_storing f_storeAt f_storeControl f_dueStore f_mask f_edges f_due f_head f_headAt f_headFlags f_stop f_pure a_op a_opA a_opB a_vectors a_analogs a_r a_m a_stack a_count a_since a_control a_compare a_dueEqual a_dueOver a_line a_store a_headR := by
  unfold wX_happen_309
  exact tc_soon h
theorem tc_hapW0 (h0 : ¬ f_dueWatch = nI T) (h : post (f_length, f_inputs, f_sp, f_pc, f_zero, f_carry, f_allowed, f_asleep, f_halted, f_pending, f_resets, f_taken, nI T, f_data, f_serial, f_divider, f_sending, f_dueSent, f_received, f_overrun, f_sent, f_converter, f_result, f_dueResult, f_output, f_watch, f_dueWatch, f_address, f_storing, f_storeAt, f_storeControl, f_dueStore, f_mask, f_edges, tc_du f_dueSent f_dueResult f_dueWatch f_dueStore a_dueEqual a_dueOver, f_head, f_headAt, f_headFlags, f_stop, f_pure, a_op, a_opA, a_opB, a_vectors, a_analogs, a_r, a_m, a_stack, a_count, a_since, a_control, a_compare, a_dueEqual, a_dueOver, a_line, a_store, a_headR)) : wX_happen_284 post f_length f_inputs f_sp f_pc f_zero f_carry f_allowed f_asleep f_halted f_pending f_resets f_taken (nI T) f_data f_serial f_divider f_sending f_dueSent f_received f_overrun f_sent f_converter f_result f_dueResult f_output f_watch f_dueWatch f_address f_storing f_storeAt f_storeControl f_dueStore f_mask f_edges f_due f_head f_headAt f_headFlags f_stop f_pure a_op a_opA a_opB a_vectors a_analogs a_r a_m a_stack a_count a_since a_control a_compare a_dueEqual a_dueOver a_line a_store a_headR :=
  br_f h0 (tc_hap309 h)
end
section
variable {post : SX → Prop} {T n : Nat} {f_length f_inputs f_sp f_pc f_zero f_carry f_allowed f_asleep f_halted f_pending f_resets f_taken f_data f_serial f_divider f_sending f_dueSent f_received f_overrun f_sent f_converter f_result f_dueResult f_output f_watch f_dueWatch f_address f_storing f_storeAt f_storeControl f_dueStore f_mask f_edges f_due f_head f_headAt f_headFlags f_stop f_pure : Int32} {a_op a_opA a_opB a_vectors a_analogs a_r a_m a_stack a_count a_since a_control a_compare a_dueEqual a_dueOver a_line a_store a_headR : Nat → Int32}
/-! X: reset -/
def tc_z2 (f : Nat → Int32) (x : Int32) : Nat → Int32 := upd (upd f 0 x) 1 x
theorem tc_Xreset (h : post (f_length, f_inputs, 0, 0, f_zero, f_carry, 0, 0, f_halted, 0, f_resets, f_taken, nI T, 0, 0, 0, f_sending, 2147483647, 0, 0, f_sent, 0, 0, 2147483647, f_output, 0, 2147483647, 0, f_storing, f_storeAt, 0, 2147483647, 0, f_edges, tc_du 2147483647 2147483647 2147483647 2147483647 (tc_z2 a_dueEqual 2147483647) (tc_z2 a_dueOver 2147483647), f_head, f_headAt, f_headFlags, f_stop, f_pure, a_op, a_opA, a_opB, a_vectors, a_analogs, a_r, a_m, a_stack, tc_z2 a_count 0, tc_z2 a_since (nI T), tc_z2 a_control 0, tc_z2 a_compare 0, tc_z2 a_dueEqual 2147483647, tc_z2 a_dueOver 2147483647, a_line, a_store, a_headR)) : wpX_reset post (f_length, f_inputs, f_sp, f_pc, f_zero, f_carry, f_allowed, f_asleep, f_halted, f_pending, f_resets, f_taken, nI T, f_data, f_serial, f_divider, f_sending, f_dueSent, f_received, f_overrun, f_sent, f_converter, f_result, f_dueResult, f_output, f_watch, f_dueWatch, f_address, f_storing, f_storeAt, f_storeControl, f_dueStore, f_mask, f_edges, f_due, f_head, f_headAt, f_headFlags, f_stop, f_pure, a_op, a_opA, a_opB, a_vectors, a_analogs, a_r, a_m, a_stack, a_count, a_since, a_control, a_compare, a_dueEqual, a_dueOver, a_line, a_store, a_headR) := by
  unfold wpX_reset
  refine ⟨3, ?_⟩
  have v0 : vp_in (0 : Int32) 2 := vp_in_nI (n := 0) (by decide) (by decide)
  have v1 : vp_in (nI 1) 2 := vp_in_nI (by decide) (by decide)
  have e1 : (0 : Int32) + 1 = nI 1 := by decide +kernel
  have e2 : nI 1 + 1 = nI 2 := by decide +kernel
  have c0 : (0 : Int32).toNatClampNeg = 0 := by decide +kernel
  have c1 : (nI 1).toNatClampNeg = 1 := by decide +kernel
  refine br_f (by decide) ?_
  rw [c0, e1]
  refine ⟨v0, nm_e ⟨v0, nm_e ⟨v0, nm_e ⟨v0, nm_e ⟨v0, nm_e ⟨v0, nm_e (nm_e ?_)⟩⟩⟩⟩⟩⟩
  refine br_f (by decide) ?_
  rw [c1, e2]
  refine ⟨v1, nm_e ⟨v1, nm_e ⟨v1, nm_e ⟨v1, nm_e ⟨v1, nm_e ⟨v1, nm_e (nm_e ?_)⟩⟩⟩⟩⟩⟩
  refine br_t (by decide) ?_
  refine tc_soon ?_
  exact h
theorem tc_hapW1 (h0 : f_dueWatch = nI T)
    (h : post (f_length, f_inputs, 0, 0, f_zero, f_carry, 0, 0, f_halted, 0, f_resets + 1, f_taken, nI T, 0, 0, 0, f_sending, 2147483647, 0, 0, f_sent, 0, 0, 2147483647, f_output, 0, 2147483647, 0, f_storing, f_storeAt, 0, 2147483647, 0, f_edges, tc_du 2147483647 2147483647 2147483647 2147483647 (tc_z2 a_dueEqual 2147483647) (tc_z2 a_dueOver 2147483647), f_head, f_headAt, f_headFlags, f_stop, f_pure, a_op, a_opA, a_opB, a_vectors, a_analogs, a_r, a_m, a_stack, tc_z2 a_count 0, tc_z2 a_since (nI T), tc_z2 a_control 0, tc_z2 a_compare 0, tc_z2 a_dueEqual 2147483647, tc_z2 a_dueOver 2147483647, a_line, a_store, a_headR)) : wX_happen_284 post f_length f_inputs f_sp f_pc f_zero f_carry f_allowed f_asleep f_halted f_pending f_resets f_taken (nI T) f_data f_serial f_divider f_sending f_dueSent f_received f_overrun f_sent f_converter f_result f_dueResult f_output f_watch f_dueWatch f_address f_storing f_storeAt f_storeControl f_dueStore f_mask f_edges f_due f_head f_headAt f_headFlags f_stop f_pure a_op a_opA a_opB a_vectors a_analogs a_r a_m a_stack a_count a_since a_control a_compare a_dueEqual a_dueOver a_line a_store a_headR := by
  refine br_t h0 (nm_e ?_)
  refine tc_Xreset ?_
  exact tc_hap309 h
end
end
section
/-! Y: show, one timer, reset, the cycle's parts -/
section
variable {post : SY → Prop} {T : Nat} {f_length f_inputs f_sp f_pc f_zero f_carry f_allowed f_asleep f_halted f_pending f_resets f_taken f_data f_serial f_divider f_sending f_dueSent f_received f_overrun f_sent f_converter f_result f_dueResult f_output f_watch f_dueWatch f_address f_storing f_storeAt f_storeControl f_dueStore f_mask f_edges f_due f_head f_headAt f_headFlags f_stop f_pure : Int32} {a_op a_opA a_opB a_vectors a_analogs a_r a_m a_stack a_count a_since a_control a_compare a_dueEqual a_dueOver a_line a_store a_headR : Nat → Int32} {g_passed g_converter g_since : Int32} {l_s l_c l_b : Nat} {b_opA b_opB b_store b_pending b_count : Nat → Int32}
theorem tc_shw {w : Int32} : ∀ (d i : Nat) (e : Int32), i + d = 8 → e = f_edges + nI (tc_pp i (f_output ^^^ w)) → post (f_length, f_inputs, f_zero, f_carry, f_allowed, f_asleep, f_halted, f_sp, f_pc, nI T, g_passed, f_taken, f_resets, f_edges + nI (tc_pp 8 (f_output ^^^ w)), f_sent, f_data, f_serial, f_divider, g_converter, f_result, w, f_watch, f_address, f_storeControl, f_mask, g_since, f_received, f_overrun, nI l_s, f_sending, nI l_c, nI l_b, f_storing, f_storeAt, a_op, b_opA, b_opB, a_vectors, a_analogs, b_store, a_r, a_m, a_stack, a_line, b_pending, b_count, a_control, a_compare) →
    wY_show_2 post w f_length f_inputs f_zero f_carry f_allowed f_asleep f_halted f_sp f_pc (nI T) g_passed f_taken f_resets f_sent f_data f_serial f_divider g_converter f_result f_output f_watch f_address f_storeControl f_mask g_since f_received f_overrun (nI l_s) f_sending (nI l_c) (nI l_b) f_storing f_storeAt a_op b_opA b_opB a_vectors a_analogs b_store a_r a_m a_stack a_line b_pending b_count a_control a_compare (d + 1) (nI i) e := by
  intro d
  induction d with
  | zero =>
    intro i e hi he h
    have h8 : i = 8 := by omega
    subst h8
    rw [he]
    exact br_t (by decide) h
  | succ d ih =>
    intro i e hi he h
    refine br_f (nI_ge (b := 8) (by omega) (by decide)) ?_
    rw [tc_bit w (by omega), tc_bit f_output (by omega), nI_1]
    by_cases c : bt f_output i = bt w i
    · refine br_t (by rw [c]) (nm_e (ih (i + 1) e (by omega) ?_ h))
      have c2 : bt (f_output ^^^ w) i = false := by rw [b_xor, c]; cases bt w i <;> rfl
      rw [he]
      show _ = f_edges + nI (tc_pp i (f_output ^^^ w) + (if bt (f_output ^^^ w) i then 1 else 0))
      rw [c2]; rfl
    · have c2 : bt (f_output ^^^ w) i = true := by
        rw [b_xor]
        revert c
        cases bt w i <;> cases bt f_output i <;> decide
      refine br_f ?_ (nm_e (nm_e (ih (i + 1) (e + 1) (by omega) ?_ h)))
      · intro z
        apply c
        revert z
        cases bt w i <;> cases bt f_output i <;> decide
      · rw [he]
        show _ = f_edges + nI (tc_pp i (f_output ^^^ w) + (if bt (f_output ^^^ w) i then 1 else 0))
        rw [c2, Int32.add_assoc, nI_1]; rfl
theorem tc_show {w : Int32} (h : post (f_length, f_inputs, f_zero, f_carry, f_allowed, f_asleep, f_halted, f_sp, f_pc, nI T, g_passed, f_taken, f_resets, f_edges + tc_ed f_output w, f_sent, f_data, f_serial, f_divider, g_converter, f_result, w, f_watch, f_address, f_storeControl, f_mask, g_since, f_received, f_overrun, nI l_s, f_sending, nI l_c, nI l_b, f_storing, f_storeAt, a_op, b_opA, b_opB, a_vectors, a_analogs, b_store, a_r, a_m, a_stack, a_line, b_pending, b_count, a_control, a_compare)) : wpY_show post (f_length, f_inputs, f_zero, f_carry, f_allowed, f_asleep, f_halted, f_sp, f_pc, nI T, g_passed, f_taken, f_resets, f_edges, f_sent, f_data, f_serial, f_divider, g_converter, f_result, f_output, f_watch, f_address, f_storeControl, f_mask, g_since, f_received, f_overrun, nI l_s, f_sending, nI l_c, nI l_b, f_storing, f_storeAt, a_op, b_opA, b_opB, a_vectors, a_analogs, b_store, a_r, a_m, a_stack, a_line, b_pending, b_count, a_control, a_compare) w := by
  unfold wpY_show
  exact ⟨9, tc_shw 8 0 f_edges rfl (Int32.add_zero _).symm h⟩
theorem tc_Yt119 {eq : Bool} {t k y m : Nat} (ht : t < 2) (hk : a_control t = nI k) (k8 : k < 256) (hy : b_count t = nI y) (y8 : y < 256) (hm : a_compare t = nI m) (m8 : m < 256)
    (heq : y = m ↔ eq = true)
    (h : post (f_length, f_inputs, f_zero, f_carry, f_allowed, f_asleep, f_halted, f_sp, f_pc, nI T, g_passed, f_taken, f_resets, tc_eX (eq && decide (k / 32 % 2 = 1)) t f_output f_edges, f_sent, f_data, f_serial, f_divider, g_converter, f_result, tc_oX (eq && decide (k / 32 % 2 = 1)) t f_output, f_watch, f_address, f_storeControl, f_mask, g_since, f_received, f_overrun, nI l_s, f_sending, nI l_c, nI l_b, f_storing, f_storeAt, a_op, b_opA, b_opB, a_vectors, a_analogs, b_store, a_r, a_m, a_stack, a_line, if eq then upd b_pending (2 * t) 1 else b_pending, b_count, a_control, a_compare)) :
    wY_timer_119 post (nI t) f_length f_inputs f_zero f_carry f_allowed f_asleep f_halted f_sp f_pc (nI T) g_passed f_taken f_resets f_edges f_sent f_data f_serial f_divider g_converter f_result f_output f_watch f_address f_storeControl f_mask g_since f_received f_overrun (nI l_s) f_sending (nI l_c) (nI l_b) f_storing f_storeAt a_op b_opA b_opB a_vectors a_analogs b_store a_r a_m a_stack a_line b_pending b_count a_control a_compare := by
  have e := nI_clamp (n := t) (by omega)
  have e2 : 2 * nI t = nI (2 * t) := pk_mul 2 t
  have e3 := nI_clamp (n := 2 * t) (by omega)
  unfold wY_timer_119
  rw [e, e2, e3, hy, hm, hk]
  refine ⟨vp_in_nI ht (by decide), vp_in_nI ht (by decide), ?_⟩
  cases eq
  · refine br_f (fun z => nomatch heq.mp ((nI_eq (by omega) (by omega)).mp z)) ?_
    exact h
  · refine br_t (by rw [heq.mpr rfl]) ⟨vp_in_nI (by omega) (by decide), nm_e ⟨vp_in_nI ht (by decide), ?_⟩⟩
    by_cases c5 : k / 32 % 2 = 0
    · rw [decide_eq_false (by omega)] at h
      exact br_t ((tm_and32 k k8).mpr c5) h
    · rw [decide_eq_true (by omega)] at h
      exact br_f (fun z => c5 ((tm_and32 k k8).mp z)) (tc_show h)
theorem tc_Yt43 {ov eq : Bool} {t k y m : Nat} (ht : t < 2) (hk : a_control t = nI k) (k8 : k < 256) (hy : b_count t = nI y) (y8 : y < 256) (hm : a_compare t = nI m) (m8 : m < 256)
    (hov : (y = 255 ∧ ¬ (k / 4 % 2 = 1 ∧ y = m)) ↔ ov = true) (heq : tm_tk k m y = m ↔ eq = true)
    (h : post (f_length, f_inputs, f_zero, f_carry, f_allowed, f_asleep, f_halted, f_sp, f_pc, nI T, g_passed, f_taken, f_resets, tc_eX (eq && decide (k / 32 % 2 = 1)) t f_output f_edges, f_sent, f_data, f_serial, f_divider, g_converter, f_result, tc_oX (eq && decide (k / 32 % 2 = 1)) t f_output, f_watch, f_address, f_storeControl, f_mask, g_since, f_received, f_overrun, nI l_s, f_sending, nI l_c, nI l_b, f_storing, f_storeAt, a_op, b_opA, b_opB, a_vectors, a_analogs, b_store, a_r, a_m, a_stack, a_line, tc_pY ov eq t b_pending, upd b_count t (nI (tm_tk k m y)), a_control, a_compare)) :
    wY_timer_43 post (nI t) f_length f_inputs f_zero f_carry f_allowed f_asleep f_halted f_sp f_pc (nI T) g_passed f_taken f_resets f_edges f_sent f_data f_serial f_divider g_converter f_result f_output f_watch f_address f_storeControl f_mask g_since f_received f_overrun (nI l_s) f_sending (nI l_c) (nI l_b) f_storing f_storeAt a_op b_opA b_opB a_vectors a_analogs b_store a_r a_m a_stack a_line b_pending b_count a_control a_compare := by
  have e := nI_clamp (n := t) (by omega)
  have e2 : 2 * nI t = nI (2 * t) := pk_mul 2 t
  have e3 := nI_clamp (n := 2 * t + 1) (by omega)
  have w9 : vp_in (nI (2 * t + 1)) 9 := vp_in_nI (by omega) (by decide)
  have vt : vp_in (nI t) 2 := vp_in_nI ht (by decide)
  have h79 : ¬ (k / 4 % 2 = 1 ∧ y = m) → wY_timer_79 post (nI t) f_length f_inputs f_zero f_carry f_allowed f_asleep f_halted f_sp f_pc (nI T) g_passed f_taken f_resets f_edges f_sent f_data f_serial f_divider g_converter f_result f_output f_watch f_address f_storeControl f_mask g_since f_received f_overrun (nI l_s) f_sending (nI l_c) (nI l_b) f_storing f_storeAt a_op b_opA b_opB a_vectors a_analogs b_store a_r a_m a_stack a_line b_pending b_count a_control a_compare := by
    intro hn
    have etk : tm_tk k m y = (y + 1) % 256 := if_neg hn
    unfold wY_timer_79
    rw [e, e2, nI_1, hy, nI_1, e3]
    refine ⟨vt, vt, nm_e ⟨vt, ?_⟩⟩
    rw [pk_us]
    by_cases h5 : y = 255
    · have hb : ov = true := hov.mp ⟨h5, hn⟩
      subst hb
      rw [etk, h5] at h heq
      refine br_t (by rw [h5]; decide +kernel) ⟨vt, nm_e ⟨w9, nm_e ?_⟩⟩
      rw [tc_uu]
      exact tc_Yt119 (y := 0) ht hk k8 pk_us (by omega) hm m8 heq h
    · have hb : ov = false := by
        cases ov
        · rfl
        · exact absurd (hov.mpr rfl).1 h5
      subst hb
      rw [etk, Nat.mod_eq_of_lt (show y + 1 < 256 by omega)] at h heq
      refine br_f (fun z => h5 (by have := (nI_eq (b := 256) (by omega) (by decide)).mp z; omega)) ?_
      exact tc_Yt119 (y := y + 1) ht hk k8 pk_us (by omega) hm m8 heq h
  unfold wY_timer_43
  rw [e, hk]
  refine ⟨vt, ?_⟩
  by_cases c4 : k / 4 % 2 = 0
  · exact br_t ((tm_and4 k k8).mpr c4) (h79 (by omega))
  · refine br_f (fun z => c4 ((tm_and4 k k8).mp z)) ⟨vt, vt, ?_⟩
    rw [hy, hm]
    by_cases hym : y = m
    · refine br_t (by rw [hym]) ⟨vt, nm_e ?_⟩
      have etk : tm_tk k m y = 0 := if_pos ⟨by omega, hym⟩
      have hb : ov = false := by
        cases ov
        · rfl
        · exact absurd ⟨by omega, hym⟩ (hov.mpr rfl).2
      subst hb
      rw [etk] at h heq
      exact tc_Yt119 (y := 0) ht hk k8 pk_us (by omega) hm m8 heq h
    · exact br_f (fun z => hym ((nI_eq (by omega) (by omega)).mp z)) (h79 (fun w => hym w.2))
theorem tc_Yt0 {t k : Nat} (ht : t < 2) (hk : a_control t = nI k) (k8 : k < 256) (hT : T < 2 ^ 31) (hn : k % 4 = 0 ∨ ¬ T % tm_P k = 0) (h : post (f_length, f_inputs, f_zero, f_carry, f_allowed, f_asleep, f_halted, f_sp, f_pc, nI T, g_passed, f_taken, f_resets, f_edges, f_sent, f_data, f_serial, f_divider, g_converter, f_result, f_output, f_watch, f_address, f_storeControl, f_mask, g_since, f_received, f_overrun, nI l_s, f_sending, nI l_c, nI l_b, f_storing, f_storeAt, a_op, b_opA, b_opB, a_vectors, a_analogs, b_store, a_r, a_m, a_stack, a_line, b_pending, b_count, a_control, a_compare)) : wpY_timer post (f_length, f_inputs, f_zero, f_carry, f_allowed, f_asleep, f_halted, f_sp, f_pc, nI T, g_passed, f_taken, f_resets, f_edges, f_sent, f_data, f_serial, f_divider, g_converter, f_result, f_output, f_watch, f_address, f_storeControl, f_mask, g_since, f_received, f_overrun, nI l_s, f_sending, nI l_c, nI l_b, f_storing, f_storeAt, a_op, b_opA, b_opB, a_vectors, a_analogs, b_store, a_r, a_m, a_stack, a_line, b_pending, b_count, a_control, a_compare) (nI t) := by
  have e := nI_clamp (n := t) (by omega)
  refine And.intro (vp_in_nI ht (by decide)) ?_
  rw [e, hk, tm_and3 k8]
  refine nm_e ?_
  by_cases h0 : k % 4 = 0
  · exact br_t (by rw [h0]; rfl) h
  · refine br_f (nI_ne0 (by omega) (by omega)) ?_
    have hn := hn.resolve_left h0
    rcases tm_Pc h0 with ⟨e1, _⟩ | ⟨e1, e4⟩ | ⟨e1, e4⟩ <;> rw [e1] at hn
    · omega
    · rw [e4]
      refine br_t rfl ⟨by decide, br_f ?_ h⟩
      rw [show (4 : Int32) = nI 4 from rfl, pk_rem hT (by decide) (by decide)]
      exact nI_ne0 (by omega) (by omega)
    · rw [e4]
      refine br_f (by decide) (br_t rfl ⟨by decide, br_f ?_ h⟩)
      rw [show (16 : Int32) = nI 16 from rfl, pk_rem hT (by decide) (by decide)]
      exact nI_ne0 (by omega) (by omega)
theorem tc_Yt1 {ov eq : Bool} {t k y m : Nat} (ht : t < 2) (hk : a_control t = nI k) (k8 : k < 256) (hT : T < 2 ^ 31) (h0 : k % 4 ≠ 0) (hn : T % tm_P k = 0)
    (hy : b_count t = nI y) (y8 : y < 256) (hm : a_compare t = nI m) (m8 : m < 256)
    (hov : (y = 255 ∧ ¬ (k / 4 % 2 = 1 ∧ y = m)) ↔ ov = true) (heq : tm_tk k m y = m ↔ eq = true)
    (h : post (f_length, f_inputs, f_zero, f_carry, f_allowed, f_asleep, f_halted, f_sp, f_pc, nI T, g_passed, f_taken, f_resets, tc_eX (eq && decide (k / 32 % 2 = 1)) t f_output f_edges, f_sent, f_data, f_serial, f_divider, g_converter, f_result, tc_oX (eq && decide (k / 32 % 2 = 1)) t f_output, f_watch, f_address, f_storeControl, f_mask, g_since, f_received, f_overrun, nI l_s, f_sending, nI l_c, nI l_b, f_storing, f_storeAt, a_op, b_opA, b_opB, a_vectors, a_analogs, b_store, a_r, a_m, a_stack, a_line, tc_pY ov eq t b_pending, upd b_count t (nI (tm_tk k m y)), a_control, a_compare)) :
    wpY_timer post (f_length, f_inputs, f_zero, f_carry, f_allowed, f_asleep, f_halted, f_sp, f_pc, nI T, g_passed, f_taken, f_resets, f_edges, f_sent, f_data, f_serial, f_divider, g_converter, f_result, f_output, f_watch, f_address, f_storeControl, f_mask, g_since, f_received, f_overrun, nI l_s, f_sending, nI l_c, nI l_b, f_storing, f_storeAt, a_op, b_opA, b_opB, a_vectors, a_analogs, b_store, a_r, a_m, a_stack, a_line, b_pending, b_count, a_control, a_compare) (nI t) := by
  have e := nI_clamp (n := t) (by omega)
  have q := tc_Yt43 ht hk k8 hy y8 hm m8 hov heq h
  refine And.intro (vp_in_nI ht (by decide)) ?_
  rw [e, hk, tm_and3 k8]
  refine nm_e ?_
  refine br_f (nI_ne0 (by omega) (by omega)) ?_
  rcases tm_Pc h0 with ⟨e1, e4⟩ | ⟨e1, e4⟩ | ⟨e1, e4⟩ <;> rw [e1] at hn <;> rw [e4]
  · exact br_f (by decide) (br_f (by decide) q)
  · refine br_t rfl ⟨by decide, br_t ?_ (br_f (by decide) q)⟩
    rw [show (4 : Int32) = nI 4 from rfl, pk_rem hT (by decide) (by decide), hn]; rfl
  · refine br_f (by decide) (br_t rfl ⟨by decide, br_t ?_ q⟩)
    rw [show (16 : Int32) = nI 16 from rfl, pk_rem hT (by decide) (by decide), hn]; rfl
end
section
variable {post : SY → Prop} {T : Nat} {f_length f_inputs f_sp f_pc f_zero f_carry f_allowed f_asleep f_halted f_pending f_resets f_taken f_data f_serial f_divider f_sending f_dueSent f_received f_overrun f_sent f_converter f_result f_dueResult f_output f_watch f_dueWatch f_address f_storing f_storeAt f_storeControl f_dueStore f_mask f_edges f_due f_head f_headAt f_headFlags f_stop f_pure : Int32} {a_op a_opA a_opB a_vectors a_analogs a_r a_m a_stack a_count a_since a_control a_compare a_dueEqual a_dueOver a_line a_store a_headR : Nat → Int32} {g_passed g_converter g_since : Int32} {l_s l_c l_b : Nat} {b_opA b_opB b_store b_pending b_count : Nat → Int32}
theorem tc_YS0 (h0 : l_s = 0) (h : wY_cycle_103 post f_length f_inputs f_zero f_carry f_allowed f_asleep f_halted f_sp f_pc (nI T) g_passed f_taken f_resets f_edges f_sent f_data f_serial f_divider g_converter f_result f_output f_watch f_address f_storeControl f_mask g_since f_received f_overrun (nI l_s) f_sending (nI l_c) (nI l_b) f_storing f_storeAt a_op b_opA b_opB a_vectors a_analogs b_store a_r a_m a_stack a_line b_pending b_count a_control a_compare) : ((nI l_s ≤ 0 → (wY_cycle_103 post f_length f_inputs f_zero f_carry f_allowed f_asleep f_halted f_sp f_pc (nI T) g_passed f_taken f_resets f_edges f_sent f_data f_serial f_divider g_converter f_result f_output f_watch f_address f_storeControl f_mask g_since f_received f_overrun (nI l_s) f_sending (nI l_c) (nI l_b) f_storing f_storeAt a_op b_opA b_opB a_vectors a_analogs b_store a_r a_m a_stack a_line b_pending b_count a_control a_compare)) ∧ (¬ nI l_s ≤ 0 → (∀ sl : Int32, sl = nI l_s - 1 → ((sl = 0 → ((32 ≤ f_sent → (wY_cycle_86 post f_length f_inputs f_zero f_carry f_allowed f_asleep f_halted f_sp f_pc (nI T) g_passed f_taken f_resets f_edges f_sent f_data f_serial f_divider g_converter f_result f_output f_watch f_address f_storeControl f_mask g_since f_received f_overrun sl f_sending (nI l_c) (nI l_b) f_storing f_storeAt a_op b_opA b_opB a_vectors a_analogs b_store a_r a_m a_stack a_line b_pending b_count a_control a_compare)) ∧ (¬ 32 ≤ f_sent → (vp_in f_sent 32 ∧ ∀ ln : Nat → Int32, ln = upd a_line f_sent.toNatClampNeg f_sending → (wY_cycle_86 post f_length f_inputs f_zero f_carry f_allowed f_asleep f_halted f_sp f_pc (nI T) g_passed f_taken f_resets f_edges f_sent f_data f_serial f_divider g_converter f_result f_output f_watch f_address f_storeControl f_mask g_since f_received f_overrun sl f_sending (nI l_c) (nI l_b) f_storing f_storeAt a_op b_opA b_opB a_vectors a_analogs b_store a_r a_m a_stack ln b_pending b_count a_control a_compare))))) ∧ (¬ sl = 0 → (wY_cycle_103 post f_length f_inputs f_zero f_carry f_allowed f_asleep f_halted f_sp f_pc (nI T) g_passed f_taken f_resets f_edges f_sent f_data f_serial f_divider g_converter f_result f_output f_watch f_address f_storeControl f_mask g_since f_received f_overrun sl f_sending (nI l_c) (nI l_b) f_storing f_storeAt a_op b_opA b_opB a_vectors a_analogs b_store a_r a_m a_stack a_line b_pending b_count a_control a_compare)))))) := by
  refine br_t (by rw [h0]; decide) h
theorem tc_YS2 (h0 : 1 < l_s) (hl : l_s ≤ 2048) (h : wY_cycle_103 post f_length f_inputs f_zero f_carry f_allowed f_asleep f_halted f_sp f_pc (nI T) g_passed f_taken f_resets f_edges f_sent f_data f_serial f_divider g_converter f_result f_output f_watch f_address f_storeControl f_mask g_since f_received f_overrun (nI (l_s - 1)) f_sending (nI l_c) (nI l_b) f_storing f_storeAt a_op b_opA b_opB a_vectors a_analogs b_store a_r a_m a_stack a_line b_pending b_count a_control a_compare) : ((nI l_s ≤ 0 → (wY_cycle_103 post f_length f_inputs f_zero f_carry f_allowed f_asleep f_halted f_sp f_pc (nI T) g_passed f_taken f_resets f_edges f_sent f_data f_serial f_divider g_converter f_result f_output f_watch f_address f_storeControl f_mask g_since f_received f_overrun (nI l_s) f_sending (nI l_c) (nI l_b) f_storing f_storeAt a_op b_opA b_opB a_vectors a_analogs b_store a_r a_m a_stack a_line b_pending b_count a_control a_compare)) ∧ (¬ nI l_s ≤ 0 → (∀ sl : Int32, sl = nI l_s - 1 → ((sl = 0 → ((32 ≤ f_sent → (wY_cycle_86 post f_length f_inputs f_zero f_carry f_allowed f_asleep f_halted f_sp f_pc (nI T) g_passed f_taken f_resets f_edges f_sent f_data f_serial f_divider g_converter f_result f_output f_watch f_address f_storeControl f_mask g_since f_received f_overrun sl f_sending (nI l_c) (nI l_b) f_storing f_storeAt a_op b_opA b_opB a_vectors a_analogs b_store a_r a_m a_stack a_line b_pending b_count a_control a_compare)) ∧ (¬ 32 ≤ f_sent → (vp_in f_sent 32 ∧ ∀ ln : Nat → Int32, ln = upd a_line f_sent.toNatClampNeg f_sending → (wY_cycle_86 post f_length f_inputs f_zero f_carry f_allowed f_asleep f_halted f_sp f_pc (nI T) g_passed f_taken f_resets f_edges f_sent f_data f_serial f_divider g_converter f_result f_output f_watch f_address f_storeControl f_mask g_since f_received f_overrun sl f_sending (nI l_c) (nI l_b) f_storing f_storeAt a_op b_opA b_opB a_vectors a_analogs b_store a_r a_m a_stack ln b_pending b_count a_control a_compare))))) ∧ (¬ sl = 0 → (wY_cycle_103 post f_length f_inputs f_zero f_carry f_allowed f_asleep f_halted f_sp f_pc (nI T) g_passed f_taken f_resets f_edges f_sent f_data f_serial f_divider g_converter f_result f_output f_watch f_address f_storeControl f_mask g_since f_received f_overrun sl f_sending (nI l_c) (nI l_b) f_storing f_storeAt a_op b_opA b_opB a_vectors a_analogs b_store a_r a_m a_stack a_line b_pending b_count a_control a_compare)))))) := by
  refine br_f (nI_nle (by omega) (by omega)) (nm_r (e' := nI (l_s - 1)) (pk_sub (b := 1) (by omega)) ?_)
  exact br_f (nI_ne0 (by omega) (by omega)) h
theorem tc_YS1 {j : Nat} (h0 : l_s = 1) (hj : f_sent = nI j) (j31 : j < 2 ^ 31)
    (h : wY_cycle_103 post f_length f_inputs f_zero f_carry f_allowed f_asleep f_halted f_sp f_pc (nI T) g_passed f_taken f_resets f_edges (f_sent + 1) f_data f_serial f_divider g_converter f_result f_output f_watch f_address f_storeControl f_mask g_since f_received f_overrun (nI 0) f_sending (nI l_c) (nI l_b) f_storing f_storeAt a_op b_opA b_opB a_vectors a_analogs b_store a_r a_m a_stack (if j < 32 then upd a_line j f_sending else a_line) (upd b_pending 5 1) b_count a_control a_compare) : ((nI l_s ≤ 0 → (wY_cycle_103 post f_length f_inputs f_zero f_carry f_allowed f_asleep f_halted f_sp f_pc (nI T) g_passed f_taken f_resets f_edges f_sent f_data f_serial f_divider g_converter f_result f_output f_watch f_address f_storeControl f_mask g_since f_received f_overrun (nI l_s) f_sending (nI l_c) (nI l_b) f_storing f_storeAt a_op b_opA b_opB a_vectors a_analogs b_store a_r a_m a_stack a_line b_pending b_count a_control a_compare)) ∧ (¬ nI l_s ≤ 0 → (∀ sl : Int32, sl = nI l_s - 1 → ((sl = 0 → ((32 ≤ f_sent → (wY_cycle_86 post f_length f_inputs f_zero f_carry f_allowed f_asleep f_halted f_sp f_pc (nI T) g_passed f_taken f_resets f_edges f_sent f_data f_serial f_divider g_converter f_result f_output f_watch f_address f_storeControl f_mask g_since f_received f_overrun sl f_sending (nI l_c) (nI l_b) f_storing f_storeAt a_op b_opA b_opB a_vectors a_analogs b_store a_r a_m a_stack a_line b_pending b_count a_control a_compare)) ∧ (¬ 32 ≤ f_sent → (vp_in f_sent 32 ∧ ∀ ln : Nat → Int32, ln = upd a_line f_sent.toNatClampNeg f_sending → (wY_cycle_86 post f_length f_inputs f_zero f_carry f_allowed f_asleep f_halted f_sp f_pc (nI T) g_passed f_taken f_resets f_edges f_sent f_data f_serial f_divider g_converter f_result f_output f_watch f_address f_storeControl f_mask g_since f_received f_overrun sl f_sending (nI l_c) (nI l_b) f_storing f_storeAt a_op b_opA b_opB a_vectors a_analogs b_store a_r a_m a_stack ln b_pending b_count a_control a_compare))))) ∧ (¬ sl = 0 → (wY_cycle_103 post f_length f_inputs f_zero f_carry f_allowed f_asleep f_halted f_sp f_pc (nI T) g_passed f_taken f_resets f_edges f_sent f_data f_serial f_divider g_converter f_result f_output f_watch f_address f_storeControl f_mask g_since f_received f_overrun sl f_sending (nI l_c) (nI l_b) f_storing f_storeAt a_op b_opA b_opB a_vectors a_analogs b_store a_r a_m a_stack a_line b_pending b_count a_control a_compare)))))) := by
  have e := nI_clamp j31
  refine br_f (by rw [h0]; decide) (nm_r (e' := nI 0) (by rw [h0]; decide +kernel) ?_)
  refine br_t rfl ?_
  rw [hj, e]
  rw [hj] at h
  by_cases c : j < 32
  · rw [if_pos c] at h
    exact br_f (nI_ge (b := 32) c (by decide)) ⟨vp_in_nI c (by decide), nm_e (nm_e (nm_e h))⟩
  · rw [if_neg c] at h
    exact br_t (nI_le (a := 32) (by omega) (by omega)) (nm_e (nm_e h))
theorem tc_YC0 (h0 : l_c = 0) (h : wY_cycle_150 post f_length f_inputs f_zero f_carry f_allowed f_asleep f_halted f_sp f_pc (nI T) g_passed f_taken f_resets f_edges f_sent f_data f_serial f_divider g_converter f_result f_output f_watch f_address f_storeControl f_mask g_since f_received f_overrun (nI l_s) f_sending (nI l_c) (nI l_b) f_storing f_storeAt a_op b_opA b_opB a_vectors a_analogs b_store a_r a_m a_stack a_line b_pending b_count a_control a_compare) : wY_cycle_103 post f_length f_inputs f_zero f_carry f_allowed f_asleep f_halted f_sp f_pc (nI T) g_passed f_taken f_resets f_edges f_sent f_data f_serial f_divider g_converter f_result f_output f_watch f_address f_storeControl f_mask g_since f_received f_overrun (nI l_s) f_sending (nI l_c) (nI l_b) f_storing f_storeAt a_op b_opA b_opB a_vectors a_analogs b_store a_r a_m a_stack a_line b_pending b_count a_control a_compare := br_t (by rw [h0]; decide) h
theorem tc_YC2 (h0 : 1 < l_c) (hl : l_c ≤ 2048) (h : wY_cycle_150 post f_length f_inputs f_zero f_carry f_allowed f_asleep f_halted f_sp f_pc (nI T) g_passed f_taken f_resets f_edges f_sent f_data f_serial f_divider g_converter f_result f_output f_watch f_address f_storeControl f_mask g_since f_received f_overrun (nI l_s) f_sending (nI (l_c - 1)) (nI l_b) f_storing f_storeAt a_op b_opA b_opB a_vectors a_analogs b_store a_r a_m a_stack a_line b_pending b_count a_control a_compare) : wY_cycle_103 post f_length f_inputs f_zero f_carry f_allowed f_asleep f_halted f_sp f_pc (nI T) g_passed f_taken f_resets f_edges f_sent f_data f_serial f_divider g_converter f_result f_output f_watch f_address f_storeControl f_mask g_since f_received f_overrun (nI l_s) f_sending (nI l_c) (nI l_b) f_storing f_storeAt a_op b_opA b_opB a_vectors a_analogs b_store a_r a_m a_stack a_line b_pending b_count a_control a_compare := by
  refine br_f (nI_nle (by omega) (by omega)) (nm_r (e' := nI (l_c - 1)) (pk_sub (b := 1) (by omega)) ?_)
  exact br_f (nI_ne0 (by omega) (by omega)) h
theorem tc_YC1 (h0 : l_c = 1) (h : wY_cycle_150 post f_length f_inputs f_zero f_carry f_allowed f_asleep f_halted f_sp f_pc (nI T) g_passed f_taken f_resets f_edges f_sent f_data f_serial f_divider g_converter (a_analogs (g_converter &&& 3).toNatClampNeg) f_output f_watch f_address f_storeControl f_mask g_since f_received f_overrun (nI l_s) f_sending (nI 0) (nI l_b) f_storing f_storeAt a_op b_opA b_opB a_vectors a_analogs b_store a_r a_m a_stack a_line (upd b_pending 6 1) b_count a_control a_compare) : wY_cycle_103 post f_length f_inputs f_zero f_carry f_allowed f_asleep f_halted f_sp f_pc (nI T) g_passed f_taken f_resets f_edges f_sent f_data f_serial f_divider g_converter f_result f_output f_watch f_address f_storeControl f_mask g_since f_received f_overrun (nI l_s) f_sending (nI l_c) (nI l_b) f_storing f_storeAt a_op b_opA b_opB a_vectors a_analogs b_store a_r a_m a_stack a_line b_pending b_count a_control a_compare := by
  refine br_f (by rw [h0]; decide) (nm_r (e' := nI 0) (by rw [h0]; decide +kernel) ?_)
  exact br_t rfl ⟨pk_andIn _ 2 (by decide) (by decide), nm_e (nm_e h)⟩
theorem tc_YB0 (h0 : l_b = 0) (h : wY_cycle_195 post f_length f_inputs f_zero f_carry f_allowed f_asleep f_halted f_sp f_pc (nI T) g_passed f_taken f_resets f_edges f_sent f_data f_serial f_divider g_converter f_result f_output f_watch f_address f_storeControl f_mask g_since f_received f_overrun (nI l_s) f_sending (nI l_c) (nI l_b) f_storing f_storeAt a_op b_opA b_opB a_vectors a_analogs b_store a_r a_m a_stack a_line b_pending b_count a_control a_compare) : wY_cycle_150 post f_length f_inputs f_zero f_carry f_allowed f_asleep f_halted f_sp f_pc (nI T) g_passed f_taken f_resets f_edges f_sent f_data f_serial f_divider g_converter f_result f_output f_watch f_address f_storeControl f_mask g_since f_received f_overrun (nI l_s) f_sending (nI l_c) (nI l_b) f_storing f_storeAt a_op b_opA b_opB a_vectors a_analogs b_store a_r a_m a_stack a_line b_pending b_count a_control a_compare := br_t (by rw [h0]; decide) h
theorem tc_YB2 (h0 : 1 < l_b) (hl : l_b ≤ 2048) (h : wY_cycle_195 post f_length f_inputs f_zero f_carry f_allowed f_asleep f_halted f_sp f_pc (nI T) g_passed f_taken f_resets f_edges f_sent f_data f_serial f_divider g_converter f_result f_output f_watch f_address f_storeControl f_mask g_since f_received f_overrun (nI l_s) f_sending (nI l_c) (nI (l_b - 1)) f_storing f_storeAt a_op b_opA b_opB a_vectors a_analogs b_store a_r a_m a_stack a_line b_pending b_count a_control a_compare) : wY_cycle_150 post f_length f_inputs f_zero f_carry f_allowed f_asleep f_halted f_sp f_pc (nI T) g_passed f_taken f_resets f_edges f_sent f_data f_serial f_divider g_converter f_result f_output f_watch f_address f_storeControl f_mask g_since f_received f_overrun (nI l_s) f_sending (nI l_c) (nI l_b) f_storing f_storeAt a_op b_opA b_opB a_vectors a_analogs b_store a_r a_m a_stack a_line b_pending b_count a_control a_compare := by
  refine br_f (nI_nle (by omega) (by omega)) (nm_r (e' := nI (l_b - 1)) (pk_sub (b := 1) (by omega)) ?_)
  exact br_f (nI_ne0 (by omega) (by omega)) h
theorem tc_YB1 {j : Nat} (h0 : l_b = 1) (hj : f_storeAt = nI j) (j16 : j < 16)
    (h : wY_cycle_195 post f_length f_inputs f_zero f_carry f_allowed f_asleep f_halted f_sp f_pc (nI T) g_passed f_taken f_resets f_edges f_sent f_data f_serial f_divider g_converter f_result f_output f_watch f_address f_storeControl f_mask g_since f_received f_overrun (nI l_s) f_sending (nI l_c) (nI 0) f_storing f_storeAt a_op b_opA b_opB a_vectors a_analogs (upd b_store j f_storing) a_r a_m a_stack a_line (upd b_pending 7 1) b_count a_control a_compare) : wY_cycle_150 post f_length f_inputs f_zero f_carry f_allowed f_asleep f_halted f_sp f_pc (nI T) g_passed f_taken f_resets f_edges f_sent f_data f_serial f_divider g_converter f_result f_output f_watch f_address f_storeControl f_mask g_since f_received f_overrun (nI l_s) f_sending (nI l_c) (nI l_b) f_storing f_storeAt a_op b_opA b_opB a_vectors a_analogs b_store a_r a_m a_stack a_line b_pending b_count a_control a_compare := by
  have e := nI_clamp (n := j) (by omega)
  refine br_f (by rw [h0]; decide) (nm_r (e' := nI 0) (by rw [h0]; decide +kernel) ?_)
  refine br_t rfl ?_
  rw [hj, e]
  rw [hj] at h
  exact ⟨vp_in_nI j16 (by decide), nm_e (nm_e h)⟩
/-! Y: reset, the watchdog -/
def tc_clr : Nat → (Nat → Int32) → (Nat → Int32)
  | 0, f => f
  | i + 1, f => upd (tc_clr i f) i 0
theorem tc_clr_in {f : Nat → Int32} : ∀ {n i : Nat}, i < n → tc_clr n f i = 0 := by
  intro n
  induction n with
  | zero => intro i h; omega
  | succ n ih =>
    intro i h
    show upd (tc_clr n f) n 0 i = 0
    by_cases e : i = n
    · rw [e, pk_us]
    · rw [pk_un e]; exact ih (by omega)
theorem tc_clr_out {f : Nat → Int32} : ∀ {n i : Nat}, n ≤ i → tc_clr n f i = f i := by
  intro n
  induction n with
  | zero => intro i h; rfl
  | succ n ih =>
    intro i h
    show upd (tc_clr n f) n 0 i = _
    rw [pk_un (by omega)]; exact ih (by omega)
theorem tc_Yr22 : ∀ (d i : Nat), i + d = 9 → (∃ n, wY_reset_43 post f_length f_inputs f_zero f_carry f_allowed f_asleep f_halted f_sp f_pc (nI T) g_passed f_taken f_resets f_edges f_sent f_data f_serial f_divider g_converter f_result f_output f_watch f_address f_storeControl f_mask g_since f_received f_overrun (nI l_s) f_sending (nI l_c) (nI l_b) f_storing f_storeAt n 0 a_op b_opA b_opB a_vectors a_analogs b_store a_r a_m a_stack a_line (tc_clr 9 b_pending) b_count a_control a_compare) →
    wY_reset_22 post f_length f_inputs f_zero f_carry f_allowed f_asleep f_halted f_sp f_pc (nI T) g_passed f_taken f_resets f_edges f_sent f_data f_serial f_divider g_converter f_result f_output f_watch f_address f_storeControl f_mask g_since f_received f_overrun (nI l_s) f_sending (nI l_c) (nI l_b) f_storing f_storeAt (d + 1) (nI i) a_op b_opA b_opB a_vectors a_analogs b_store a_r a_m a_stack a_line (tc_clr i b_pending) b_count a_control a_compare := by
  intro d
  induction d with
  | zero =>
    intro i hi h
    have h9 : i = 9 := by omega
    subst h9
    exact br_t (by decide) h
  | succ d ih =>
    intro i hi h
    have e := nI_clamp (n := i) (by omega)
    refine br_f (nI_ge (b := 9) (by omega) (by decide)) ?_
    rw [e, nI_1]
    exact ⟨vp_in_nI (by omega) (by decide), nm_e (nm_e (ih (i + 1) (by omega) h))⟩
theorem tc_Yr43 (h : post (f_length, f_inputs, f_zero, f_carry, f_allowed, f_asleep, f_halted, f_sp, f_pc, nI T, g_passed, f_taken, f_resets, f_edges, f_sent, 0, 0, 0, 0, 0, f_output, 0, 0, 0, 0, 0, 0, 0, nI 0, f_sending, nI 0, nI 0, f_storing, f_storeAt, a_op, b_opA, b_opB, a_vectors, a_analogs, b_store, a_r, a_m, a_stack, a_line, b_pending, tc_z2 b_count 0, tc_z2 a_control 0, tc_z2 a_compare 0)) :
    wY_reset_43 post f_length f_inputs f_zero f_carry f_allowed f_asleep f_halted f_sp f_pc (nI T) g_passed f_taken f_resets f_edges f_sent f_data f_serial f_divider g_converter f_result f_output f_watch f_address f_storeControl f_mask g_since f_received f_overrun (nI l_s) f_sending (nI l_c) (nI l_b) f_storing f_storeAt 3 0 a_op b_opA b_opB a_vectors a_analogs b_store a_r a_m a_stack a_line b_pending b_count a_control a_compare := by
  have v0 : vp_in (0 : Int32) 2 := vp_in_nI (n := 0) (by decide) (by decide)
  have v1 : vp_in (nI 1) 2 := vp_in_nI (by decide) (by decide)
  have e1 : (0 : Int32) + 1 = nI 1 := by decide +kernel
  have e2 : nI 1 + 1 = nI 2 := by decide +kernel
  have c0 : (0 : Int32).toNatClampNeg = 0 := by decide +kernel
  have c1 : (nI 1).toNatClampNeg = 1 := by decide +kernel
  refine br_f (by decide) ?_
  rw [c0, e1]
  refine ⟨v0, nm_e ⟨v0, nm_e ⟨v0, nm_e (nm_e ?_)⟩⟩⟩
  refine br_f (by decide) ?_
  rw [c1, e2]
  refine ⟨v1, nm_e ⟨v1, nm_e ⟨v1, nm_e (nm_e ?_)⟩⟩⟩
  exact br_t (by decide) h
theorem tc_Yreset (h : post (f_length, f_inputs, f_zero, f_carry, 0, 0, f_halted, 0, 0, nI T, g_passed, f_taken, f_resets, f_edges, f_sent, 0, 0, 0, 0, 0, f_output, 0, 0, 0, 0, 0, 0, 0, nI 0, f_sending, nI 0, nI 0, f_storing, f_storeAt, a_op, b_opA, b_opB, a_vectors, a_analogs, b_store, a_r, a_m, a_stack, a_line, tc_clr 9 b_pending, tc_z2 b_count 0, tc_z2 a_control 0, tc_z2 a_compare 0)) : wpY_reset post (f_length, f_inputs, f_zero, f_carry, f_allowed, f_asleep, f_halted, f_sp, f_pc, nI T, g_passed, f_taken, f_resets, f_edges, f_sent, f_data, f_serial, f_divider, g_converter, f_result, f_output, f_watch, f_address, f_storeControl, f_mask, g_since, f_received, f_overrun, nI l_s, f_sending, nI l_c, nI l_b, f_storing, f_storeAt, a_op, b_opA, b_opB, a_vectors, a_analogs, b_store, a_r, a_m, a_stack, a_line, b_pending, b_count, a_control, a_compare) := by
  unfold wpY_reset
  exact ⟨10, tc_Yr22 (f_allowed := 0) (f_asleep := 0) (f_sp := 0) (f_pc := 0) 9 0 rfl ⟨3, tc_Yr43 h⟩⟩
theorem tc_YW0 (h0 : f_watch &&& 7 = 0) (h : post (f_length, f_inputs, f_zero, f_carry, f_allowed, f_asleep, f_halted, f_sp, f_pc, nI T, g_passed, f_taken, f_resets, f_edges, f_sent, f_data, f_serial, f_divider, g_converter, f_result, f_output, f_watch, f_address, f_storeControl, f_mask, g_since, f_received, f_overrun, nI l_s, f_sending, nI l_c, nI l_b, f_storing, f_storeAt, a_op, b_opA, b_opB, a_vectors, a_analogs, b_store, a_r, a_m, a_stack, a_line, b_pending, b_count, a_control, a_compare)) : wY_cycle_195 post f_length f_inputs f_zero f_carry f_allowed f_asleep f_halted f_sp f_pc (nI T) g_passed f_taken f_resets f_edges f_sent f_data f_serial f_divider g_converter f_result f_output f_watch f_address f_storeControl f_mask g_since f_received f_overrun (nI l_s) f_sending (nI l_c) (nI l_b) f_storing f_storeAt a_op b_opA b_opB a_vectors a_analogs b_store a_r a_m a_stack a_line b_pending b_count a_control a_compare := by
  refine br_t ?_ h
  rw [h0]; decide
theorem tc_16k : ∀ k, k < 8 → (16 : Int32) <<< (nI k &&& 31) = nI (16 * 2 ^ k) := by decide +kernel
theorem tc_YW2 {k q : Nat} (k0 : 0 < k) (k8 : k < 8) (h0 : f_watch &&& 7 = nI k) (hs : g_since = nI q) (hq : q < 16 * 2 ^ k) (h : post (f_length, f_inputs, f_zero, f_carry, f_allowed, f_asleep, f_halted, f_sp, f_pc, nI T, g_passed, f_taken, f_resets, f_edges, f_sent, f_data, f_serial, f_divider, g_converter, f_result, f_output, f_watch, f_address, f_storeControl, f_mask, g_since, f_received, f_overrun, nI l_s, f_sending, nI l_c, nI l_b, f_storing, f_storeAt, a_op, b_opA, b_opB, a_vectors, a_analogs, b_store, a_r, a_m, a_stack, a_line, b_pending, b_count, a_control, a_compare)) : wY_cycle_195 post f_length f_inputs f_zero f_carry f_allowed f_asleep f_halted f_sp f_pc (nI T) g_passed f_taken f_resets f_edges f_sent f_data f_serial f_divider g_converter f_result f_output f_watch f_address f_storeControl f_mask g_since f_received f_overrun (nI l_s) f_sending (nI l_c) (nI l_b) f_storing f_storeAt a_op b_opA b_opB a_vectors a_analogs b_store a_r a_m a_stack a_line b_pending b_count a_control a_compare := by
  have k7 : 2 ^ k ≤ 2 ^ 7 := Nat.pow_le_pow_right (by omega) (by omega)
  unfold wY_cycle_195
  rw [h0, tc_16k k k8, hs]
  refine br_f (nI_nle (by omega) (by omega)) (br_f ?_ ?_)
  · intro z
    have := (nI_eq (by omega) (by omega)).mp z
    omega
  · rw [hs] at h; exact h
theorem tc_YW1 {k : Nat} (k0 : 0 < k) (k8 : k < 8) (h0 : f_watch &&& 7 = nI k) (hs : g_since = nI (16 * 2 ^ k))
    (h : post (f_length, f_inputs, f_zero, f_carry, 0, 0, f_halted, 0, 0, nI T, g_passed, f_taken, f_resets + 1, f_edges, f_sent, 0, 0, 0, 0, 0, f_output, 0, 0, 0, 0, 0, 0, 0, nI 0, f_sending, nI 0, nI 0, f_storing, f_storeAt, a_op, b_opA, b_opB, a_vectors, a_analogs, b_store, a_r, a_m, a_stack, a_line, tc_clr 9 b_pending, tc_z2 b_count 0, tc_z2 a_control 0, tc_z2 a_compare 0)) : wY_cycle_195 post f_length f_inputs f_zero f_carry f_allowed f_asleep f_halted f_sp f_pc (nI T) g_passed f_taken f_resets f_edges f_sent f_data f_serial f_divider g_converter f_result f_output f_watch f_address f_storeControl f_mask g_since f_received f_overrun (nI l_s) f_sending (nI l_c) (nI l_b) f_storing f_storeAt a_op b_opA b_opB a_vectors a_analogs b_store a_r a_m a_stack a_line b_pending b_count a_control a_compare := by
  unfold wY_cycle_195
  rw [h0, tc_16k k k8]
  refine br_f (nI_nle (by omega) (by omega)) (br_t hs ?_)
  refine tc_Yreset ?_
  exact nm_e h
end
end
section
/-! the relation; one cycle against one tick -/
def tc_RR (T : Nat) (u : SX) (v : SY) : Prop := match u with
  | (f_length, f_inputs, f_sp, f_pc, f_zero, f_carry, f_allowed, f_asleep, f_halted, f_pending, f_resets, f_taken, f_now, f_data, f_serial, f_divider, f_sending, f_dueSent, f_received, f_overrun, f_sent, f_converter, f_result, f_dueResult, f_output, f_watch, f_dueWatch, f_address, f_storing, f_storeAt, f_storeControl, f_dueStore, f_mask, f_edges, f_due, f_head, f_headAt, f_headFlags, f_stop, f_pure, a_op, a_opA, a_opB, a_vectors, a_analogs, a_r, a_m, a_stack, a_count, a_since, a_control, a_compare, a_dueEqual, a_dueOver, a_line, a_store, a_headR) => ∃ (g_passed g_converter g_since : Int32) (l_s l_c l_b : Nat) (b_opA b_opB b_store b_pending b_count : Nat → Int32), f_now = nI T ∧ v = (f_length, f_inputs, f_zero, f_carry, f_allowed, f_asleep, f_halted, f_sp, f_pc, nI T, g_passed, f_taken, f_resets, f_edges, f_sent, f_data, f_serial, f_divider, g_converter, f_result, f_output, f_watch, f_address, f_storeControl, f_mask, g_since, f_received, f_overrun, nI l_s, f_sending, nI l_c, nI l_b, f_storing, f_storeAt, a_op, b_opA, b_opB, a_vectors, a_analogs, b_store, a_r, a_m, a_stack, a_line, b_pending, b_count, a_control, a_compare) ∧ (tc_rg f_length 48) ∧ (∀ i, tc_rg (a_op i) 26) ∧ (∀ i, a_opA i = b_opA i &&& 7) ∧ (∀ i, a_opB i = b_opB i &&& 255) ∧ (∀ i, tc_y8 (a_analogs i)) ∧ (∀ i, tc_y8 (a_m i)) ∧ (∀ i, b_store i = a_store i &&& 255) ∧ (∀ i, tc_y8 (a_r i)) ∧ (∀ i, 8 ≤ i → a_r i = 0) ∧ (tc_bo f_zero) ∧ (tc_bo f_carry) ∧ (tc_bo f_allowed) ∧ (tc_bo f_asleep) ∧ (tc_bo f_halted) ∧ (tc_bo f_received) ∧ (tc_bo f_overrun) ∧ (tc_bo f_pure) ∧ (tc_rg f_sp 16) ∧ (T ≤ 1100000000) ∧ (tc_rg f_sent T) ∧ (tc_y8 f_inputs) ∧ (tc_y8 f_data) ∧ (tc_y8 f_divider) ∧ (tc_y8 f_result) ∧ (tc_y8 f_output) ∧ (tc_y8 f_watch) ∧ (tc_y8 f_mask) ∧ (tc_y8 f_sending) ∧ (tc_y8 f_storing) ∧ (tc_rg f_address 15) ∧ (tc_rg f_storeAt 15) ∧ (f_serial &&& 24 = f_serial) ∧ (f_storeControl &&& 8 = f_storeControl) ∧ (f_converter = g_converter &&& 251) ∧ (tc_y8 g_converter) ∧ (tc_pF f_pending b_pending) ∧ (tc_tF T (a_count 0) (a_since 0) (a_control 0) (a_compare 0) (a_dueEqual 0) (a_dueOver 0) (b_count 0)) ∧ (tc_tF T (a_count 1) (a_since 1) (a_control 1) (a_compare 1) (a_dueEqual 1) (a_dueOver 1) (b_count 1)) ∧ (tc_uF T l_s f_dueSent) ∧ (tc_uF T l_c f_dueResult) ∧ (tc_uF T l_b f_dueStore) ∧ (tc_wF T f_watch g_since f_dueWatch) ∧ (f_due = tc_du f_dueSent f_dueResult f_dueWatch f_dueStore a_dueEqual a_dueOver)
def tc_xst (u : SX) : Int32 := match u with
  | (f_length, f_inputs, f_sp, f_pc, f_zero, f_carry, f_allowed, f_asleep, f_halted, f_pending, f_resets, f_taken, f_now, f_data, f_serial, f_divider, f_sending, f_dueSent, f_received, f_overrun, f_sent, f_converter, f_result, f_dueResult, f_output, f_watch, f_dueWatch, f_address, f_storing, f_storeAt, f_storeControl, f_dueStore, f_mask, f_edges, f_due, f_head, f_headAt, f_headFlags, f_stop, f_pure, a_op, a_opA, a_opB, a_vectors, a_analogs, a_r, a_m, a_stack, a_count, a_since, a_control, a_compare, a_dueEqual, a_dueOver, a_line, a_store, a_headR) => f_stop
def tc_xpu (u : SX) : Int32 := match u with
  | (f_length, f_inputs, f_sp, f_pc, f_zero, f_carry, f_allowed, f_asleep, f_halted, f_pending, f_resets, f_taken, f_now, f_data, f_serial, f_divider, f_sending, f_dueSent, f_received, f_overrun, f_sent, f_converter, f_result, f_dueResult, f_output, f_watch, f_dueWatch, f_address, f_storing, f_storeAt, f_storeControl, f_dueStore, f_mask, f_edges, f_due, f_head, f_headAt, f_headFlags, f_stop, f_pure, a_op, a_opA, a_opB, a_vectors, a_analogs, a_r, a_m, a_stack, a_count, a_since, a_control, a_compare, a_dueEqual, a_dueOver, a_line, a_store, a_headR) => f_pure
def tc_xdu (u : SX) : Int32 := match u with
  | (f_length, f_inputs, f_sp, f_pc, f_zero, f_carry, f_allowed, f_asleep, f_halted, f_pending, f_resets, f_taken, f_now, f_data, f_serial, f_divider, f_sending, f_dueSent, f_received, f_overrun, f_sent, f_converter, f_result, f_dueResult, f_output, f_watch, f_dueWatch, f_address, f_storing, f_storeAt, f_storeControl, f_dueStore, f_mask, f_edges, f_due, f_head, f_headAt, f_headFlags, f_stop, f_pure, a_op, a_opA, a_opB, a_vectors, a_analogs, a_r, a_m, a_stack, a_count, a_since, a_control, a_compare, a_dueEqual, a_dueOver, a_line, a_store, a_headR) => f_due
def tc_sh (x : Nat) (u : SX) : SX := match u with
  | (f_length, f_inputs, f_sp, f_pc, f_zero, f_carry, f_allowed, f_asleep, f_halted, f_pending, f_resets, f_taken, f_now, f_data, f_serial, f_divider, f_sending, f_dueSent, f_received, f_overrun, f_sent, f_converter, f_result, f_dueResult, f_output, f_watch, f_dueWatch, f_address, f_storing, f_storeAt, f_storeControl, f_dueStore, f_mask, f_edges, f_due, f_head, f_headAt, f_headFlags, f_stop, f_pure, a_op, a_opA, a_opB, a_vectors, a_analogs, a_r, a_m, a_stack, a_count, a_since, a_control, a_compare, a_dueEqual, a_dueOver, a_line, a_store, a_headR) => (f_length, f_inputs, f_sp, f_pc, f_zero, f_carry, f_allowed, f_asleep, f_halted, f_pending, f_resets, f_taken, nI x, f_data, f_serial, f_divider, f_sending, f_dueSent, f_received, f_overrun, f_sent, f_converter, f_result, f_dueResult, f_output, f_watch, f_dueWatch, f_address, f_storing, f_storeAt, f_storeControl, f_dueStore, f_mask, f_edges, f_due, f_head, f_headAt, f_headFlags, f_stop, f_pure, a_op, a_opA, a_opB, a_vectors, a_analogs, a_r, a_m, a_stack, a_count, a_since, a_control, a_compare, a_dueEqual, a_dueOver, a_line, a_store, a_headR)
def tc_yps (v : SY) : Int32 := match v with
  | (f_length, f_inputs, f_zero, f_carry, f_allowed, f_asleep, f_halted, f_sp, f_pc, f_now, g_passed, f_taken, f_resets, f_edges, f_sent, f_data, f_serial, f_divider, g_converter, f_result, f_output, f_watch, f_address, f_storeControl, f_mask, g_since, f_received, f_overrun, l_s, f_sending, l_c, l_b, f_storing, f_storeAt, a_op, b_opA, b_opB, a_vectors, a_analogs, b_store, a_r, a_m, a_stack, a_line, b_pending, b_count, a_control, a_compare) => g_passed
def tc_xW (post : SX → Prop) (e : Int32) (n : Nat) (u : SX) : Prop := match u with
  | (f_length, f_inputs, f_sp, f_pc, f_zero, f_carry, f_allowed, f_asleep, f_halted, f_pending, f_resets, f_taken, f_now, f_data, f_serial, f_divider, f_sending, f_dueSent, f_received, f_overrun, f_sent, f_converter, f_result, f_dueResult, f_output, f_watch, f_dueWatch, f_address, f_storing, f_storeAt, f_storeControl, f_dueStore, f_mask, f_edges, f_due, f_head, f_headAt, f_headFlags, f_stop, f_pure, a_op, a_opA, a_opB, a_vectors, a_analogs, a_r, a_m, a_stack, a_count, a_since, a_control, a_compare, a_dueEqual, a_dueOver, a_line, a_store, a_headR) => wX_pass_7 post e n f_length f_inputs f_sp f_pc f_zero f_carry f_allowed f_asleep f_halted f_pending f_resets f_taken f_now f_data f_serial f_divider f_sending f_dueSent f_received f_overrun f_sent f_converter f_result f_dueResult f_output f_watch f_dueWatch f_address f_storing f_storeAt f_storeControl f_dueStore f_mask f_edges f_due f_head f_headAt f_headFlags f_stop f_pure a_op a_opA a_opB a_vectors a_analogs a_r a_m a_stack a_count a_since a_control a_compare a_dueEqual a_dueOver a_line a_store a_headR
def tc_YC (v v' : SY) : Prop := ∀ post : SY → Prop, post v' → wpY_cycle post v
/-! pure: the left-counters, the watchdog, the timers over one cycle -/
def tc_wG (T : Nat) (w s d : Int32) : Prop :=
  (w &&& 7 = 0 ∧ d = 2147483647) ∨ ∃ k Q : Nat, 0 < k ∧ k < 8 ∧ w &&& 7 = nI k ∧ s = nI Q ∧ 0 < Q ∧ Q ≤ 16 * 2 ^ k ∧ d = nI (T + (16 * 2 ^ k - Q))
theorem tc_wFG {T : Nat} {w s d : Int32} (h : tc_wF T w s d) : tc_wG (T + 1) w (s + 1) d := by
  rcases h with h | ⟨k, Q, a, b, c, e, f, g⟩
  · exact Or.inl h
  · refine Or.inr ⟨k, Q + 1, a, b, c, by rw [e, nI_1], by omega, by omega, ?_⟩
    rw [g]; exact congrArg nI (by omega)
theorem tc_wGc {T : Nat} {w s d : Int32} (hT : T ≤ 1100000001) (h : tc_wG T w s d) :
    (d = nI T ∧ ∃ k, 0 < k ∧ k < 8 ∧ w &&& 7 = nI k ∧ s = nI (16 * 2 ^ k)) ∨
    (¬ d = nI T ∧ tc_wF T w s d ∧ (w &&& 7 = 0 ∨ ∃ k Q, 0 < k ∧ k < 8 ∧ w &&& 7 = nI k ∧ s = nI Q ∧ Q < 16 * 2 ^ k)) := by
  rcases h with h | ⟨k, Q, a, b, c, e, f, g, z⟩
  · refine Or.inr ⟨?_, Or.inl h, Or.inl h.1⟩
    rw [h.2, tc_7f]
    intro q
    have := (nI_eq (by decide) (by omega)).mp q
    omega
  · have k7 : 2 ^ k ≤ 2 ^ 7 := Nat.pow_le_pow_right (by omega) (by omega)
    by_cases q : Q = 16 * 2 ^ k
    · refine Or.inl ⟨?_, k, a, b, c, by rw [e, q]⟩
      rw [z, q]; exact congrArg nI (by omega)
    · refine Or.inr ⟨?_, Or.inr ⟨k, Q, a, b, c, e, by omega, z⟩, Or.inr ⟨k, Q, a, b, c, e, by omega⟩⟩
      rw [z]
      intro y
      have := (nI_eq (by omega) (by omega)).mp y
      omega
theorem tc_uFc {T L : Nat} {d : Int32} (hT : T + 1 ≤ 1100000001) (h : tc_uF T L d) :
    (d = nI (T + 1) ∧ L = 1) ∨ (¬ d = nI (T + 1) ∧ L = 0 ∧ tc_uF (T + 1) 0 d) ∨ (¬ d = nI (T + 1) ∧ 1 < L ∧ L ≤ 2048 ∧ tc_uF (T + 1) (L - 1) d) := by
  rcases h with ⟨h, e⟩ | ⟨a, b, e⟩
  · refine Or.inr (Or.inl ⟨?_, h, Or.inl ⟨rfl, e⟩⟩)
    rw [e, tc_7f]
    intro q
    have := (nI_eq (by decide) (by omega)).mp q
    omega
  · by_cases q : L = 1
    · exact Or.inl ⟨by rw [e, q], q⟩
    · refine Or.inr (Or.inr ⟨?_, by omega, b, Or.inr ⟨by omega, by omega, ?_⟩⟩)
      · rw [e]
        intro z
        have := (nI_eq (by omega) (by omega)).mp z
        omega
      · rw [e]; exact congrArg nI (by omega)
theorem tm_ns0 {k T s : Nat} (h : k % 4 = 0 ∨ (T + 1) / tm_P k = T / tm_P k) : tm_n k (T + 1) s = tm_n k T s := by
  unfold tm_n
  by_cases h0 : k % 4 = 0
  · rw [if_pos h0, if_pos h0]
  · rw [if_neg h0, if_neg h0, h.resolve_left h0]
theorem tm_ns1 {k T s : Nat} (h0 : k % 4 ≠ 0) (hs : s ≤ T) (h : (T + 1) / tm_P k = T / tm_P k + 1) : tm_n k (T + 1) s = tm_n k T s + 1 := by
  unfold tm_n
  rw [if_neg h0, if_neg h0, h]
  have := Nat.div_le_div_right (c := tm_P k) hs
  omega
theorem tm_eI {T a : Nat} (hT : T ≤ 1100000000) (ha : a < 2 ^ 31) : nI a = nI (T + 1) ↔ a = T + 1 := nI_eq ha (by omega)
section
variable {T : Nat} {f_length f_inputs f_sp f_pc f_zero f_carry f_allowed f_asleep f_halted f_pending f_resets f_taken f_data f_serial f_divider f_sending f_dueSent f_received f_overrun f_sent f_converter f_result f_dueResult f_output f_watch f_dueWatch f_address f_storing f_storeAt f_storeControl f_dueStore f_mask f_edges f_due f_head f_headAt f_headFlags f_stop f_pure : Int32} {a_op a_opA a_opB a_vectors a_analogs a_r a_m a_stack a_count a_since a_control a_compare a_dueEqual a_dueOver a_line a_store a_headR : Nat → Int32} {g_passed g_converter g_since : Int32} {l_s l_c l_b : Nat} {b_opA b_opB b_store b_pending b_count : Nat → Int32}
/-- a timer that has no event in this cycle -/
theorem tc_stN {t : Nat} (ht : t < 2) (hT : T ≤ 1100000000) (hF : tc_tF T (a_count t) (a_since t) (a_control t) (a_compare t) (a_dueEqual t) (a_dueOver t) (b_count t))
    (ho : ¬ a_dueOver t = nI (T + 1)) (he : ¬ a_dueEqual t = nI (T + 1)) :
    ∃ bc : Nat → Int32, tc_tF (T + 1) (a_count t) (a_since t) (a_control t) (a_compare t) (a_dueEqual t) (a_dueOver t) (bc t) ∧ (∀ j, j ≠ t → bc j = b_count j) ∧
      ∀ post : SY → Prop, post (f_length, f_inputs, f_zero, f_carry, f_allowed, f_asleep, f_halted, f_sp, f_pc, nI (T + 1), g_passed, f_taken, f_resets, f_edges, f_sent, f_data, f_serial, f_divider, g_converter, f_result, f_output, f_watch, f_address, f_storeControl, f_mask, g_since, f_received, f_overrun, nI l_s, f_sending, nI l_c, nI l_b, f_storing, f_storeAt, a_op, b_opA, b_opB, a_vectors, a_analogs, b_store, a_r, a_m, a_stack, a_line, b_pending, bc, a_control, a_compare) → wpY_timer post (f_length, f_inputs, f_zero, f_carry, f_allowed, f_asleep, f_halted, f_sp, f_pc, nI (T + 1), g_passed, f_taken, f_resets, f_edges, f_sent, f_data, f_serial, f_divider, g_converter, f_result, f_output, f_watch, f_address, f_storeControl, f_mask, g_since, f_received, f_overrun, nI l_s, f_sending, nI l_c, nI l_b, f_storing, f_storeAt, a_op, b_opA, b_opB, a_vectors, a_analogs, b_store, a_r, a_m, a_stack, a_line, b_pending, b_count, a_control, a_compare) (nI t) := by
  obtain ⟨c, s, k, m, y, hc, hs, hk, hm, hy, c8, hsT, k8, m8, ey, eE, eO⟩ := hF
  have y8 : y < 256 := by rw [ey]; exact tm_af_lt m8
  have g := tm_gt (k := k) hT y8 m8
  by_cases q : k % 4 = 0 ∨ ¬ (T + 1) % tm_P k = 0
  · refine ⟨b_count, ⟨c, s, k, m, y, hc, hs, hk, hm, hy, c8, by omega, k8, m8, ?_, ?_, ?_⟩, fun j _ => rfl, fun post h => tc_Yt0 ht hk k8 (by omega) q h⟩
    · rw [ey, tm_ns0]
      by_cases h0 : k % 4 = 0
      · exact Or.inl h0
      · exact Or.inr (tm_adv0 (m := m) hT h0 y8 (q.resolve_left h0)).2.2.2.2
    · rw [eE]
      refine congrArg nI ?_
      by_cases h0 : k % 4 = 0
      · unfold tm_e; rw [if_pos h0, if_pos h0]
      · exact (tm_adv0 (m := m) hT h0 y8 (q.resolve_left h0)).2.2.1.symm
    · rw [eO]
      refine congrArg nI ?_
      by_cases h0 : k % 4 = 0
      · unfold tm_o; rw [if_pos h0, if_pos h0]
      · exact (tm_adv0 (m := m) hT h0 y8 (q.resolve_left h0)).2.2.2.1.symm
  · have h0 : k % 4 ≠ 0 := fun z => q (Or.inl z)
    have h1 : (T + 1) % tm_P k = 0 := Classical.byContradiction fun z => q (Or.inr z)
    obtain ⟨a1, a2, a3, a4, a5⟩ := tm_adv1 hT h0 y8 m8 h1
    have n1 : tm_e T k m y ≠ T + 1 := fun z => he (by rw [eE, z])
    have n2 : tm_o T k m y ≠ T + 1 := fun z => ho (by rw [eO, z])
    refine ⟨upd b_count t (nI (tm_tk k m y)), ⟨c, s, k, m, tm_tk k m y, hc, hs, hk, hm, pk_us, c8, by omega, k8, m8, ?_, ?_, ?_⟩, fun j hj => pk_un hj, fun post h => ?_⟩
    · rw [ey, tm_ns1 h0 hsT a3, tm_af_s c8 m8]
    · rw [eE, a4 n1]
    · rw [eO, a5 n2]
    · exact tc_Yt1 (ov := false) (eq := false) ht hk k8 (by omega) h0 h1 hy y8 hm m8 ⟨fun z => absurd (a2.mpr z) n2, fun z => nomatch z⟩ ⟨fun z => absurd (a1.mpr z) n1, fun z => nomatch z⟩ h
/-- a timer that has an event in this cycle -/
theorem tc_stE {t : Nat} (ht : t < 2) (hT : T ≤ 1100000000) (hF : tc_tF T (a_count t) (a_since t) (a_control t) (a_compare t) (a_dueEqual t) (a_dueOver t) (b_count t))
    (hou : tc_y8 f_output) (hv : a_dueOver t = nI (T + 1) ∨ a_dueEqual t = nI (T + 1)) :
    ∃ (ov eq b : Bool) (y e o : Nat), tc_tF (T + 1) (nI y) (nI (T + 1)) (a_control t) (a_compare t) (nI e) (nI o) (nI y) ∧
      (∀ (post : SX → Prop) (n : Nat), wX_happen_7 post n (nI (t + 1)) f_length f_inputs f_sp f_pc f_zero f_carry f_allowed f_asleep f_halted (tc_pX ov eq t f_pending) f_resets f_taken (nI (T + 1)) f_data f_serial f_divider f_sending f_dueSent f_received f_overrun f_sent f_converter f_result f_dueResult (tc_oX b t f_output) f_watch f_dueWatch f_address f_storing f_storeAt f_storeControl f_dueStore f_mask (tc_eX b t f_output f_edges) (tc_du f_dueSent f_dueResult f_dueWatch f_dueStore (upd a_dueEqual t (nI e)) (upd a_dueOver t (nI o))) f_head f_headAt f_headFlags f_stop f_pure a_op a_opA a_opB a_vectors a_analogs a_r a_m a_stack (upd a_count t (nI y)) (upd a_since t (nI (T + 1))) a_control a_compare (upd a_dueEqual t (nI e)) (upd a_dueOver t (nI o)) a_line a_store a_headR → wX_happen_7 post (n + 1) (nI t) f_length f_inputs f_sp f_pc f_zero f_carry f_allowed f_asleep f_halted f_pending f_resets f_taken (nI (T + 1)) f_data f_serial f_divider f_sending f_dueSent f_received f_overrun f_sent f_converter f_result f_dueResult f_output f_watch f_dueWatch f_address f_storing f_storeAt f_storeControl f_dueStore f_mask f_edges f_due f_head f_headAt f_headFlags f_stop f_pure a_op a_opA a_opB a_vectors a_analogs a_r a_m a_stack a_count a_since a_control a_compare a_dueEqual a_dueOver a_line a_store a_headR) ∧
      ∀ post : SY → Prop, post (f_length, f_inputs, f_zero, f_carry, f_allowed, f_asleep, f_halted, f_sp, f_pc, nI (T + 1), g_passed, f_taken, f_resets, tc_eX b t f_output f_edges, f_sent, f_data, f_serial, f_divider, g_converter, f_result, tc_oX b t f_output, f_watch, f_address, f_storeControl, f_mask, g_since, f_received, f_overrun, nI l_s, f_sending, nI l_c, nI l_b, f_storing, f_storeAt, a_op, b_opA, b_opB, a_vectors, a_analogs, b_store, a_r, a_m, a_stack, a_line, tc_pY ov eq t b_pending, upd b_count t (nI y), a_control, a_compare) → wpY_timer post (f_length, f_inputs, f_zero, f_carry, f_allowed, f_asleep, f_halted, f_sp, f_pc, nI (T + 1), g_passed, f_taken, f_resets, f_edges, f_sent, f_data, f_serial, f_divider, g_converter, f_result, f_output, f_watch, f_address, f_storeControl, f_mask, g_since, f_received, f_overrun, nI l_s, f_sending, nI l_c, nI l_b, f_storing, f_storeAt, a_op, b_opA, b_opB, a_vectors, a_analogs, b_store, a_r, a_m, a_stack, a_line, b_pending, b_count, a_control, a_compare) (nI t) := by
  obtain ⟨c, s, k, m, y, hc, hs, hk, hm, hy, c8, hsT, k8, m8, ey, eE, eO⟩ := hF
  have y8 : y < 256 := by rw [ey]; exact tm_af_lt m8
  have g := tm_gt (k := k) hT y8 m8
  rw [eE, eO, tm_eI hT g.2.2.1, tm_eI hT g.2.2.2] at hv
  have h0 : k % 4 ≠ 0 := by
    intro z
    unfold tm_e tm_o at hv
    rw [if_pos z, if_pos z] at hv
    omega
  have h1 : (T + 1) % tm_P k = 0 := by
    refine Classical.byContradiction fun z => ?_
    have := tm_adv0 (m := m) hT h0 y8 z
    rcases hv with w | w
    · exact this.2.1 w
    · exact this.1 w
  obtain ⟨a1, a2, a3, a4, a5⟩ := tm_adv1 hT h0 y8 m8 h1
  have ey' : tm_tk k m y = tm_af k m c (tm_n k (T + 1) s) := by rw [ey, tm_ns1 h0 hsT a3, tm_af_s c8 m8]
  refine ⟨decide (tm_o T k m y = T + 1), decide (tm_e T k m y = T + 1), decide (tm_e T k m y = T + 1) && decide (k / 32 % 2 = 1), tm_tk k m y, tm_e (T + 1) k m (tm_tk k m y), tm_o (T + 1) k m (tm_tk k m y), ?_, fun post n h => ?_, fun post h => ?_⟩
  · refine ⟨tm_tk k m y, T + 1, k, m, tm_tk k m y, rfl, rfl, hk, hm, rfl, tm_tk_lt, Nat.le_refl _, k8, m8, ?_, rfl, rfl⟩
    have : tm_n k (T + 1) (T + 1) = 0 := by unfold tm_n; split <;> omega
    rw [this, tm_af_0 tm_tk_lt]
  · refine tc_hapE (t := t) (T := T + 1) (ov := decide (tm_o T k m y = T + 1)) (eq := decide (tm_e T k m y = T + 1)) ht hk k8 hc c8 hm m8 hs (by omega) (by omega) ey' ?_ hou ?_ ?_ h
    · rcases hv with w | w
      · rw [decide_eq_true w]; rfl
      · rw [decide_eq_true w, Bool.or_true]
    · rw [eO, tm_eI hT g.2.2.2, decide_eq_true_iff]
    · rw [eE, tm_eI hT g.2.2.1, decide_eq_true_iff]
  · exact tc_Yt1 (t := t) (T := T + 1) (ov := decide (tm_o T k m y = T + 1)) (eq := decide (tm_e T k m y = T + 1)) ht hk k8 (by omega) h0 h1 hy y8 hm m8 (by rw [decide_eq_true_iff, a2]) (by rw [decide_eq_true_iff, a1]) h
/-- a timer over one cycle, whatever comes -/
theorem tc_stT {t : Nat} (ht : t < 2) (hT : T ≤ 1100000000) (hF : tc_tF T (a_count t) (a_since t) (a_control t) (a_compare t) (a_dueEqual t) (a_dueOver t) (b_count t))
    (hou : tc_y8 f_output) (hpe : tc_pF f_pending b_pending) :
    ∃ (pe ou ed du : Int32) (cn si dE dO bp bc : Nat → Int32), tc_tF (T + 1) (cn t) (si t) (a_control t) (a_compare t) (dE t) (dO t) (bc t) ∧ tc_y8 ou ∧ tc_pF pe bp ∧
      (∀ j, j ≠ t → cn j = a_count j ∧ si j = a_since j ∧ dE j = a_dueEqual j ∧ dO j = a_dueOver j ∧ bc j = b_count j) ∧
      (∀ (post : SX → Prop) (n : Nat), wX_happen_7 post n (nI (t + 1)) f_length f_inputs f_sp f_pc f_zero f_carry f_allowed f_asleep f_halted pe f_resets f_taken (nI (T + 1)) f_data f_serial f_divider f_sending f_dueSent f_received f_overrun f_sent f_converter f_result f_dueResult ou f_watch f_dueWatch f_address f_storing f_storeAt f_storeControl f_dueStore f_mask ed du f_head f_headAt f_headFlags f_stop f_pure a_op a_opA a_opB a_vectors a_analogs a_r a_m a_stack cn si a_control a_compare dE dO a_line a_store a_headR → wX_happen_7 post (n + 1) (nI t) f_length f_inputs f_sp f_pc f_zero f_carry f_allowed f_asleep f_halted f_pending f_resets f_taken (nI (T + 1)) f_data f_serial f_divider f_sending f_dueSent f_received f_overrun f_sent f_converter f_result f_dueResult f_output f_watch f_dueWatch f_address f_storing f_storeAt f_storeControl f_dueStore f_mask f_edges f_due f_head f_headAt f_headFlags f_stop f_pure a_op a_opA a_opB a_vectors a_analogs a_r a_m a_stack a_count a_since a_control a_compare a_dueEqual a_dueOver a_line a_store a_headR) ∧
      ∀ post : SY → Prop, post (f_length, f_inputs, f_zero, f_carry, f_allowed, f_asleep, f_halted, f_sp, f_pc, nI (T + 1), g_passed, f_taken, f_resets, ed, f_sent, f_data, f_serial, f_divider, g_converter, f_result, ou, f_watch, f_address, f_storeControl, f_mask, g_since, f_received, f_overrun, nI l_s, f_sending, nI l_c, nI l_b, f_storing, f_storeAt, a_op, b_opA, b_opB, a_vectors, a_analogs, b_store, a_r, a_m, a_stack, a_line, bp, bc, a_control, a_compare) → wpY_timer post (f_length, f_inputs, f_zero, f_carry, f_allowed, f_asleep, f_halted, f_sp, f_pc, nI (T + 1), g_passed, f_taken, f_resets, f_edges, f_sent, f_data, f_serial, f_divider, g_converter, f_result, f_output, f_watch, f_address, f_storeControl, f_mask, g_since, f_received, f_overrun, nI l_s, f_sending, nI l_c, nI l_b, f_storing, f_storeAt, a_op, b_opA, b_opB, a_vectors, a_analogs, b_store, a_r, a_m, a_stack, a_line, b_pending, b_count, a_control, a_compare) (nI t) := by
  by_cases hv : a_dueOver t = nI (T + 1) ∨ a_dueEqual t = nI (T + 1)
  · obtain ⟨ov, eq, b, y, e, o, q1, q2, q3⟩ := tc_stE (f_length := f_length) (f_inputs := f_inputs) (f_sp := f_sp) (f_pc := f_pc) (f_zero := f_zero) (f_carry := f_carry) (f_allowed := f_allowed) (f_asleep := f_asleep) (f_halted := f_halted) (f_pending := f_pending) (f_resets := f_resets) (f_taken := f_taken) (f_data := f_data) (f_serial := f_serial) (f_divider := f_divider) (f_sending := f_sending) (f_dueSent := f_dueSent) (f_received := f_received) (f_overrun := f_overrun) (f_sent := f_sent) (f_converter := f_converter) (f_result := f_result) (f_dueResult := f_dueResult) (f_output := f_output) (f_watch := f_watch) (f_dueWatch := f_dueWatch) (f_address := f_address) (f_storing := f_storing) (f_storeAt := f_storeAt) (f_storeControl := f_storeControl) (f_dueStore := f_dueStore) (f_mask := f_mask) (f_edges := f_edges) (f_due := f_due) (f_head := f_head) (f_headAt := f_headAt) (f_headFlags := f_headFlags) (f_stop := f_stop) (f_pure := f_pure) (a_op := a_op) (a_opA := a_opA) (a_opB := a_opB) (a_vectors := a_vectors) (a_analogs := a_analogs) (a_r := a_r) (a_m := a_m) (a_stack := a_stack) (a_count := a_count) (a_since := a_since) (a_control := a_control) (a_compare := a_compare) (a_dueEqual := a_dueEqual) (a_dueOver := a_dueOver) (a_line := a_line) (a_store := a_store) (a_headR := a_headR) (g_passed := g_passed) (g_converter := g_converter) (g_since := g_since) (l_s := l_s) (l_c := l_c) (l_b := l_b) (b_opA := b_opA) (b_opB := b_opB) (b_store := b_store) (b_pending := b_pending) (b_count := b_count) ht hT hF hou hv
    refine ⟨tc_pX ov eq t f_pending, tc_oX b t f_output, tc_eX b t f_output f_edges, tc_du f_dueSent f_dueResult f_dueWatch f_dueStore (upd a_dueEqual t (nI e)) (upd a_dueOver t (nI o)),
      upd a_count t (nI y), upd a_since t (nI (T + 1)), upd a_dueEqual t (nI e), upd a_dueOver t (nI o), tc_pY ov eq t b_pending, upd b_count t (nI y), ?_, tc_y8_oX ht hou b, tc_pF_t ht hpe ov eq, fun j hj => ⟨pk_un hj, pk_un hj, pk_un hj, pk_un hj, pk_un hj⟩, q2, q3⟩
    rw [pk_us, pk_us, pk_us, pk_us, pk_us]; exact q1
  · have ho : ¬ a_dueOver t = nI (T + 1) := fun z => hv (Or.inl z)
    have he : ¬ a_dueEqual t = nI (T + 1) := fun z => hv (Or.inr z)
    obtain ⟨bc, q1, q2, q3⟩ := tc_stN (f_length := f_length) (f_inputs := f_inputs) (f_zero := f_zero) (f_carry := f_carry) (f_allowed := f_allowed) (f_asleep := f_asleep) (f_halted := f_halted) (f_sp := f_sp) (f_pc := f_pc) (f_taken := f_taken) (f_resets := f_resets) (f_edges := f_edges) (f_sent := f_sent) (f_data := f_data) (f_serial := f_serial) (f_divider := f_divider) (f_result := f_result) (f_output := f_output) (f_watch := f_watch) (f_address := f_address) (f_storeControl := f_storeControl) (f_mask := f_mask) (f_received := f_received) (f_overrun := f_overrun) (f_sending := f_sending) (f_storing := f_storing) (f_storeAt := f_storeAt) (a_op := a_op) (a_vectors := a_vectors) (a_analogs := a_analogs) (a_r := a_r) (a_m := a_m) (a_stack := a_stack) (a_line := a_line) (a_control := a_control) (a_compare := a_compare) (g_passed := g_passed) (g_converter := g_converter) (g_since := g_since) (l_s := l_s) (l_c := l_c) (l_b := l_b) (b_opA := b_opA) (b_opB := b_opB) (b_store := b_store) (b_pending := b_pending) (b_count := b_count) ht hT hF ho he
    exact ⟨f_pending, f_output, f_edges, f_due, a_count, a_since, a_dueEqual, a_dueOver, b_pending, bc, q1, hou, hpe, fun j hj => ⟨rfl, rfl, rfl, rfl, q2 j hj⟩, fun post n h => tc_hapN (T := T + 1) ht ho he h, q3⟩
end
end
section
/-! the parts of a cycle behind the timers; the tick -/
section
variable {T : Nat} {f_length f_inputs f_sp f_pc f_zero f_carry f_allowed f_asleep f_halted f_pending f_resets f_taken f_data f_serial f_divider f_sending f_dueSent f_received f_overrun f_sent f_converter f_result f_dueResult f_output f_watch f_dueWatch f_address f_storing f_storeAt f_storeControl f_dueStore f_mask f_edges f_due f_head f_headAt f_headFlags f_stop f_pure : Int32} {a_op a_opA a_opB a_vectors a_analogs a_r a_m a_stack a_count a_since a_control a_compare a_dueEqual a_dueOver a_line a_store a_headR : Nat → Int32} {g_passed g_converter g_since : Int32} {l_s l_c l_b : Nat} {b_opA b_opB b_store b_pending b_count : Nat → Int32}
theorem tc_RRi (hLen : tc_rg f_length 48) (hOp : ∀ i, tc_rg (a_op i) 26) (hA : ∀ i, a_opA i = b_opA i &&& 7) (hB : ∀ i, a_opB i = b_opB i &&& 255) (hAn : ∀ i, tc_y8 (a_analogs i)) (hM : ∀ i, tc_y8 (a_m i)) (hSt : ∀ i, b_store i = a_store i &&& 255) (hR : ∀ i, tc_y8 (a_r i)) (hR0 : ∀ i, 8 ≤ i → a_r i = 0) (hZ : tc_bo f_zero) (hC : tc_bo f_carry) (hAl : tc_bo f_allowed) (hAs : tc_bo f_asleep) (hHa : tc_bo f_halted) (hRe : tc_bo f_received) (hOv : tc_bo f_overrun) (hPu : tc_bo f_pure) (hSp : tc_rg f_sp 16) (hT : T ≤ 1100000000) (hSe : tc_rg f_sent T) (hIn : tc_y8 f_inputs) (hDa : tc_y8 f_data) (hDi : tc_y8 f_divider) (hRs : tc_y8 f_result) (hOu : tc_y8 f_output) (hWa : tc_y8 f_watch) (hMa : tc_y8 f_mask) (hSg : tc_y8 f_sending) (hSo : tc_y8 f_storing) (hAd : tc_rg f_address 15) (hSA : tc_rg f_storeAt 15) (hSr : f_serial &&& 24 = f_serial) (hSC : f_storeControl &&& 8 = f_storeControl) (hCv : f_converter = g_converter &&& 251) (hCw : tc_y8 g_converter) (hPe : tc_pF f_pending b_pending) (hT0 : tc_tF T (a_count 0) (a_since 0) (a_control 0) (a_compare 0) (a_dueEqual 0) (a_dueOver 0) (b_count 0)) (hT1 : tc_tF T (a_count 1) (a_since 1) (a_control 1) (a_compare 1) (a_dueEqual 1) (a_dueOver 1) (b_count 1)) (hUs : tc_uF T l_s f_dueSent) (hUc : tc_uF T l_c f_dueResult) (hUb : tc_uF T l_b f_dueStore) (hW : tc_wF T f_watch g_since f_dueWatch) (hD : f_due = tc_du f_dueSent f_dueResult f_dueWatch f_dueStore a_dueEqual a_dueOver) : tc_RR T (f_length, f_inputs, f_sp, f_pc, f_zero, f_carry, f_allowed, f_asleep, f_halted, f_pending, f_resets, f_taken, nI T, f_data, f_serial, f_divider, f_sending, f_dueSent, f_received, f_overrun, f_sent, f_converter, f_result, f_dueResult, f_output, f_watch, f_dueWatch, f_address, f_storing, f_storeAt, f_storeControl, f_dueStore, f_mask, f_edges, f_due, f_head, f_headAt, f_headFlags, f_stop, f_pure, a_op, a_opA, a_opB, a_vectors, a_analogs, a_r, a_m, a_stack, a_count, a_since, a_control, a_compare, a_dueEqual, a_dueOver, a_line, a_store, a_headR) (f_length, f_inputs, f_zero, f_carry, f_allowed, f_asleep, f_halted, f_sp, f_pc, nI T, g_passed, f_taken, f_resets, f_edges, f_sent, f_data, f_serial, f_divider, g_converter, f_result, f_output, f_watch, f_address, f_storeControl, f_mask, g_since, f_received, f_overrun, nI l_s, f_sending, nI l_c, nI l_b, f_storing, f_storeAt, a_op, b_opA, b_opB, a_vectors, a_analogs, b_store, a_r, a_m, a_stack, a_line, b_pending, b_count, a_control, a_compare) := by
  unfold tc_RR
  exact ⟨g_passed, g_converter, g_since, l_s, l_c, l_b, b_opA, b_opB, b_store, b_pending, b_count, rfl, rfl, hLen, hOp, hA, hB, hAn, hM, hSt, hR, hR0, hZ, hC, hAl, hAs, hHa, hRe, hOv, hPu, hSp, hT, hSe, hIn, hDa, hDi, hRs, hOu, hWa, hMa, hSg, hSo, hAd, hSA, hSr, hSC, hCv, hCw, hPe, hT0, hT1, hUs, hUc, hUb, hW, hD⟩
end
theorem tc_RRe {T : Nat} {u : SX} {v : SY} {P : SX → SY → Prop} (h : ∀ (f_length f_inputs f_sp f_pc f_zero f_carry f_allowed f_asleep f_halted f_pending f_resets f_taken f_data f_serial f_divider f_sending f_dueSent f_received f_overrun f_sent f_converter f_result f_dueResult f_output f_watch f_dueWatch f_address f_storing f_storeAt f_storeControl f_dueStore f_mask f_edges f_due f_head f_headAt f_headFlags f_stop f_pure : Int32) (a_op a_opA a_opB a_vectors a_analogs a_r a_m a_stack a_count a_since a_control a_compare a_dueEqual a_dueOver a_line a_store a_headR : Nat → Int32) (g_passed g_converter g_since : Int32) (l_s l_c l_b : Nat) (b_opA b_opB b_store b_pending b_count : Nat → Int32), (tc_rg f_length 48) → (∀ i, tc_rg (a_op i) 26) → (∀ i, a_opA i = b_opA i &&& 7) → (∀ i, a_opB i = b_opB i &&& 255) → (∀ i, tc_y8 (a_analogs i)) → (∀ i, tc_y8 (a_m i)) → (∀ i, b_store i = a_store i &&& 255) → (∀ i, tc_y8 (a_r i)) → (∀ i, 8 ≤ i → a_r i = 0) → (tc_bo f_zero) → (tc_bo f_carry) → (tc_bo f_allowed) → (tc_bo f_asleep) → (tc_bo f_halted) → (tc_bo f_received) → (tc_bo f_overrun) → (tc_bo f_pure) → (tc_rg f_sp 16) → (T ≤ 1100000000) → (tc_rg f_sent T) → (tc_y8 f_inputs) → (tc_y8 f_data) → (tc_y8 f_divider) → (tc_y8 f_result) → (tc_y8 f_output) → (tc_y8 f_watch) → (tc_y8 f_mask) → (tc_y8 f_sending) → (tc_y8 f_storing) → (tc_rg f_address 15) → (tc_rg f_storeAt 15) → (f_serial &&& 24 = f_serial) → (f_storeControl &&& 8 = f_storeControl) → (f_converter = g_converter &&& 251) → (tc_y8 g_converter) → (tc_pF f_pending b_pending) → (tc_tF T (a_count 0) (a_since 0) (a_control 0) (a_compare 0) (a_dueEqual 0) (a_dueOver 0) (b_count 0)) → (tc_tF T (a_count 1) (a_since 1) (a_control 1) (a_compare 1) (a_dueEqual 1) (a_dueOver 1) (b_count 1)) → (tc_uF T l_s f_dueSent) → (tc_uF T l_c f_dueResult) → (tc_uF T l_b f_dueStore) → (tc_wF T f_watch g_since f_dueWatch) → (f_due = tc_du f_dueSent f_dueResult f_dueWatch f_dueStore a_dueEqual a_dueOver) → P (f_length, f_inputs, f_sp, f_pc, f_zero, f_carry, f_allowed, f_asleep, f_halted, f_pending, f_resets, f_taken, nI T, f_data, f_serial, f_divider, f_sending, f_dueSent, f_received, f_overrun, f_sent, f_converter, f_result, f_dueResult, f_output, f_watch, f_dueWatch, f_address, f_storing, f_storeAt, f_storeControl, f_dueStore, f_mask, f_edges, f_due, f_head, f_headAt, f_headFlags, f_stop, f_pure, a_op, a_opA, a_opB, a_vectors, a_analogs, a_r, a_m, a_stack, a_count, a_since, a_control, a_compare, a_dueEqual, a_dueOver, a_line, a_store, a_headR) (f_length, f_inputs, f_zero, f_carry, f_allowed, f_asleep, f_halted, f_sp, f_pc, nI T, g_passed, f_taken, f_resets, f_edges, f_sent, f_data, f_serial, f_divider, g_converter, f_result, f_output, f_watch, f_address, f_storeControl, f_mask, g_since, f_received, f_overrun, nI l_s, f_sending, nI l_c, nI l_b, f_storing, f_storeAt, a_op, b_opA, b_opB, a_vectors, a_analogs, b_store, a_r, a_m, a_stack, a_line, b_pending, b_count, a_control, a_compare)) (R : tc_RR T u v) : P u v := by
  obtain ⟨f_length, f_inputs, f_sp, f_pc, f_zero, f_carry, f_allowed, f_asleep, f_halted, f_pending, f_resets, f_taken, f_now, f_data, f_serial, f_divider, f_sending, f_dueSent, f_received, f_overrun, f_sent, f_converter, f_result, f_dueResult, f_output, f_watch, f_dueWatch, f_address, f_storing, f_storeAt, f_storeControl, f_dueStore, f_mask, f_edges, f_due, f_head, f_headAt, f_headFlags, f_stop, f_pure, a_op, a_opA, a_opB, a_vectors, a_analogs, a_r, a_m, a_stack, a_count, a_since, a_control, a_compare, a_dueEqual, a_dueOver, a_line, a_store, a_headR⟩ := u
  unfold tc_RR at R
  obtain ⟨g_passed, g_converter, g_since, l_s, l_c, l_b, b_opA, b_opB, b_store, b_pending, b_count, rfl, rfl, hLen, hOp, hA, hB, hAn, hM, hSt, hR, hR0, hZ, hC, hAl, hAs, hHa, hRe, hOv, hPu, hSp, hT, hSe, hIn, hDa, hDi, hRs, hOu, hWa, hMa, hSg, hSo, hAd, hSA, hSr, hSC, hCv, hCw, hPe, hT0, hT1, hUs, hUc, hUb, hW, hD⟩ := R
  exact h f_length f_inputs f_sp f_pc f_zero f_carry f_allowed f_asleep f_halted f_pending f_resets f_taken f_data f_serial f_divider f_sending f_dueSent f_received f_overrun f_sent f_converter f_result f_dueResult f_output f_watch f_dueWatch f_address f_storing f_storeAt f_storeControl f_dueStore f_mask f_edges f_due f_head f_headAt f_headFlags f_stop f_pure a_op a_opA a_opB a_vectors a_analogs a_r a_m a_stack a_count a_since a_control a_compare a_dueEqual a_dueOver a_line a_store a_headR g_passed g_converter g_since l_s l_c l_b b_opA b_opB b_store b_pending b_count hLen hOp hA hB hAn hM hSt hR hR0 hZ hC hAl hAs hHa hRe hOv hPu hSp hT hSe hIn hDa hDi hRs hOu hWa hMa hSg hSo hAd hSA hSr hSC hCv hCw hPe hT0 hT1 hUs hUc hUb hW hD
section
variable {T : Nat} {f_length f_inputs f_sp f_pc f_zero f_carry f_allowed f_asleep f_halted f_pending f_resets f_taken f_data f_serial f_divider f_sending f_dueSent f_received f_overrun f_sent f_converter f_result f_dueResult f_output f_watch f_dueWatch f_address f_storing f_storeAt f_storeControl f_dueStore f_mask f_edges f_due f_head f_headAt f_headFlags f_stop f_pure : Int32} {a_op a_opA a_opB a_vectors a_analogs a_r a_m a_stack a_count a_since a_control a_compare a_dueEqual a_dueOver a_line a_store a_headR : Nat → Int32} {g_passed g_converter g_since : Int32} {l_s l_c l_b : Nat} {b_opA b_opB b_store b_pending b_count : Nat → Int32}
theorem tc_stS (hT : T ≤ 1100000000) (hu : tc_uF T l_s f_dueSent) (hse : tc_rg f_sent T) (hpe : tc_pF f_pending b_pending) :
    ∃ (pe ds se : Int32) (ln bp : Nat → Int32) (ls : Nat), tc_uF (T + 1) ls ds ∧ tc_rg se (T + 1) ∧ tc_pF pe bp ∧
      (∀ (post : SX → Prop) (n : Nat), wX_happen_198 post f_length f_inputs f_sp f_pc f_zero f_carry f_allowed f_asleep f_halted pe f_resets f_taken (nI (T + 1)) f_data f_serial f_divider f_sending ds f_received f_overrun se f_converter f_result f_dueResult f_output f_watch f_dueWatch f_address f_storing f_storeAt f_storeControl f_dueStore f_mask f_edges f_due f_head f_headAt f_headFlags f_stop f_pure a_op a_opA a_opB a_vectors a_analogs a_r a_m a_stack a_count a_since a_control a_compare a_dueEqual a_dueOver ln a_store a_headR → wX_happen_7 post (n + 1) (nI 2) f_length f_inputs f_sp f_pc f_zero f_carry f_allowed f_asleep f_halted f_pending f_resets f_taken (nI (T + 1)) f_data f_serial f_divider f_sending f_dueSent f_received f_overrun f_sent f_converter f_result f_dueResult f_output f_watch f_dueWatch f_address f_storing f_storeAt f_storeControl f_dueStore f_mask f_edges f_due f_head f_headAt f_headFlags f_stop f_pure a_op a_opA a_opB a_vectors a_analogs a_r a_m a_stack a_count a_since a_control a_compare a_dueEqual a_dueOver a_line a_store a_headR) ∧
      (∀ post : SY → Prop, wY_cycle_103 post f_length f_inputs f_zero f_carry f_allowed f_asleep f_halted f_sp f_pc (nI (T + 1)) g_passed f_taken f_resets f_edges se f_data f_serial f_divider g_converter f_result f_output f_watch f_address f_storeControl f_mask g_since f_received f_overrun (nI ls) f_sending (nI l_c) (nI l_b) f_storing f_storeAt a_op b_opA b_opB a_vectors a_analogs b_store a_r a_m a_stack ln bp b_count a_control a_compare → ((nI l_s ≤ 0 → (wY_cycle_103 post f_length f_inputs f_zero f_carry f_allowed f_asleep f_halted f_sp f_pc (nI (T + 1)) g_passed f_taken f_resets f_edges f_sent f_data f_serial f_divider g_converter f_result f_output f_watch f_address f_storeControl f_mask g_since f_received f_overrun (nI l_s) f_sending (nI l_c) (nI l_b) f_storing f_storeAt a_op b_opA b_opB a_vectors a_analogs b_store a_r a_m a_stack a_line b_pending b_count a_control a_compare)) ∧ (¬ nI l_s ≤ 0 → (∀ sl : Int32, sl = nI l_s - 1 → ((sl = 0 → ((32 ≤ f_sent → (wY_cycle_86 post f_length f_inputs f_zero f_carry f_allowed f_asleep f_halted f_sp f_pc (nI (T + 1)) g_passed f_taken f_resets f_edges f_sent f_data f_serial f_divider g_converter f_result f_output f_watch f_address f_storeControl f_mask g_since f_received f_overrun sl f_sending (nI l_c) (nI l_b) f_storing f_storeAt a_op b_opA b_opB a_vectors a_analogs b_store a_r a_m a_stack a_line b_pending b_count a_control a_compare)) ∧ (¬ 32 ≤ f_sent → (vp_in f_sent 32 ∧ ∀ ln : Nat → Int32, ln = upd a_line f_sent.toNatClampNeg f_sending → (wY_cycle_86 post f_length f_inputs f_zero f_carry f_allowed f_asleep f_halted f_sp f_pc (nI (T + 1)) g_passed f_taken f_resets f_edges f_sent f_data f_serial f_divider g_converter f_result f_output f_watch f_address f_storeControl f_mask g_since f_received f_overrun sl f_sending (nI l_c) (nI l_b) f_storing f_storeAt a_op b_opA b_opB a_vectors a_analogs b_store a_r a_m a_stack ln b_pending b_count a_control a_compare))))) ∧ (¬ sl = 0 → (wY_cycle_103 post f_length f_inputs f_zero f_carry f_allowed f_asleep f_halted f_sp f_pc (nI (T + 1)) g_passed f_taken f_resets f_edges f_sent f_data f_serial f_divider g_converter f_result f_output f_watch f_address f_storeControl f_mask g_since f_received f_overrun sl f_sending (nI l_c) (nI l_b) f_storing f_storeAt a_op b_opA b_opB a_vectors a_analogs b_store a_r a_m a_stack a_line b_pending b_count a_control a_compare))))))) ∧
      (¬ f_dueSent = nI (T + 1) → pe = f_pending ∧ ds = f_dueSent ∧ se = f_sent ∧ ln = a_line ∧ bp = b_pending) := by
  obtain ⟨j, hj, ej⟩ := hse
  rcases tc_uFc (by omega) hu with ⟨e, h1⟩ | ⟨e, h0, h2⟩ | ⟨e, h1, h2, h3⟩
  · refine ⟨f_pending ||| 32, 2147483647, f_sent + 1, if j < 32 then upd a_line j f_sending else a_line, upd b_pending 5 1, 0, Or.inl ⟨rfl, rfl⟩, ⟨j + 1, by omega, by rw [ej, nI_1]⟩, tc_pF_or hpe (by decide +kernel), fun post n h => tc_hapS1 (T := T + 1) e ej (by omega) h, fun post h => tc_YS1 (T := T + 1) h1 ej (by omega) h, fun z => absurd e z⟩
  · exact ⟨f_pending, f_dueSent, f_sent, a_line, b_pending, l_s, by rw [h0]; exact h2, ⟨j, by omega, ej⟩, hpe, fun post n h => tc_hapS0 (T := T + 1) e h, fun post h => tc_YS0 (T := T + 1) h0 h, fun _ => ⟨rfl, rfl, rfl, rfl, rfl⟩⟩
  · exact ⟨f_pending, f_dueSent, f_sent, a_line, b_pending, l_s - 1, h3, ⟨j, by omega, ej⟩, hpe, fun post n h => tc_hapS0 (T := T + 1) e h, fun post h => tc_YS2 (T := T + 1) h1 h2 h, fun _ => ⟨rfl, rfl, rfl, rfl, rfl⟩⟩
theorem tc_cv3 (x : Int32) : (x &&& 251) &&& 3 = x &&& 3 := by
  apply b_ext
  intro i hi
  rw [b_and, b_and, b_and, Bool.and_assoc]
  refine congrArg (fun z => bt x i && z) ?_
  exact (by decide +kernel : ∀ i, i < 32 → (bt 251 i && bt 3 i) = bt 3 i) i hi
theorem tc_stC (hT : T ≤ 1100000000) (hu : tc_uF T l_c f_dueResult) (hpe : tc_pF f_pending b_pending) (hCv : f_converter = g_converter &&& 251) (hAn : ∀ i, tc_y8 (a_analogs i)) (hRs : tc_y8 f_result) :
    ∃ (pe dr rs : Int32) (bp : Nat → Int32) (lc : Nat), tc_uF (T + 1) lc dr ∧ tc_y8 rs ∧ tc_pF pe bp ∧
      (∀ post : SX → Prop, wX_happen_241 post f_length f_inputs f_sp f_pc f_zero f_carry f_allowed f_asleep f_halted pe f_resets f_taken (nI (T + 1)) f_data f_serial f_divider f_sending f_dueSent f_received f_overrun f_sent f_converter rs dr f_output f_watch f_dueWatch f_address f_storing f_storeAt f_storeControl f_dueStore f_mask f_edges f_due f_head f_headAt f_headFlags f_stop f_pure a_op a_opA a_opB a_vectors a_analogs a_r a_m a_stack a_count a_since a_control a_compare a_dueEqual a_dueOver a_line a_store a_headR → wX_happen_198 post f_length f_inputs f_sp f_pc f_zero f_carry f_allowed f_asleep f_halted f_pending f_resets f_taken (nI (T + 1)) f_data f_serial f_divider f_sending f_dueSent f_received f_overrun f_sent f_converter f_result f_dueResult f_output f_watch f_dueWatch f_address f_storing f_storeAt f_storeControl f_dueStore f_mask f_edges f_due f_head f_headAt f_headFlags f_stop f_pure a_op a_opA a_opB a_vectors a_analogs a_r a_m a_stack a_count a_since a_control a_compare a_dueEqual a_dueOver a_line a_store a_headR) ∧
      (∀ post : SY → Prop, wY_cycle_150 post f_length f_inputs f_zero f_carry f_allowed f_asleep f_halted f_sp f_pc (nI (T + 1)) g_passed f_taken f_resets f_edges f_sent f_data f_serial f_divider g_converter rs f_output f_watch f_address f_storeControl f_mask g_since f_received f_overrun (nI l_s) f_sending (nI lc) (nI l_b) f_storing f_storeAt a_op b_opA b_opB a_vectors a_analogs b_store a_r a_m a_stack a_line bp b_count a_control a_compare → wY_cycle_103 post f_length f_inputs f_zero f_carry f_allowed f_asleep f_halted f_sp f_pc (nI (T + 1)) g_passed f_taken f_resets f_edges f_sent f_data f_serial f_divider g_converter f_result f_output f_watch f_address f_storeControl f_mask g_since f_received f_overrun (nI l_s) f_sending (nI l_c) (nI l_b) f_storing f_storeAt a_op b_opA b_opB a_vectors a_analogs b_store a_r a_m a_stack a_line b_pending b_count a_control a_compare) ∧
      (¬ f_dueResult = nI (T + 1) → pe = f_pending ∧ dr = f_dueResult ∧ rs = f_result ∧ bp = b_pending) := by
  rcases tc_uFc (by omega) hu with ⟨e, h1⟩ | ⟨e, h0, h2⟩ | ⟨e, h1, h2, h3⟩
  · refine ⟨f_pending ||| 64, 2147483647, a_analogs (g_converter &&& 3).toNatClampNeg, upd b_pending 6 1, 0, Or.inl ⟨rfl, rfl⟩, hAn _, tc_pF_or hpe (by decide +kernel), fun post h => tc_hapC1 (T := T + 1) e ?_, fun post h => tc_YC1 (T := T + 1) h1 h, fun z => absurd e z⟩
    rw [show f_converter &&& 3 = g_converter &&& 3 by rw [hCv, tc_cv3]]; exact h
  · exact ⟨f_pending, f_dueResult, f_result, b_pending, l_c, by rw [h0]; exact h2, hRs, hpe, fun post h => tc_hapC0 (T := T + 1) e h, fun post h => tc_YC0 (T := T + 1) h0 h, fun _ => ⟨rfl, rfl, rfl, rfl⟩⟩
  · exact ⟨f_pending, f_dueResult, f_result, b_pending, l_c - 1, h3, hRs, hpe, fun post h => tc_hapC0 (T := T + 1) e h, fun post h => tc_YC2 (T := T + 1) h1 h2 h, fun _ => ⟨rfl, rfl, rfl, rfl⟩⟩
theorem tc_stB (hT : T ≤ 1100000000) (hu : tc_uF T l_b f_dueStore) (hpe : tc_pF f_pending b_pending) (hSt : ∀ i, b_store i = a_store i &&& 255) (hSo : tc_y8 f_storing) (hSA : tc_rg f_storeAt 15) :
    ∃ (pe db : Int32) (st bs bp : Nat → Int32) (lb : Nat), tc_uF (T + 1) lb db ∧ (∀ i, bs i = st i &&& 255) ∧ tc_pF pe bp ∧
      (∀ post : SX → Prop, wX_happen_284 post f_length f_inputs f_sp f_pc f_zero f_carry f_allowed f_asleep f_halted pe f_resets f_taken (nI (T + 1)) f_data f_serial f_divider f_sending f_dueSent f_received f_overrun f_sent f_converter f_result f_dueResult f_output f_watch f_dueWatch f_address f_storing f_storeAt f_storeControl db f_mask f_edges f_due f_head f_headAt f_headFlags f_stop f_pure a_op a_opA a_opB a_vectors a_analogs a_r a_m a_stack a_count a_since a_control a_compare a_dueEqual a_dueOver a_line st a_headR → wX_happen_241 post f_length f_inputs f_sp f_pc f_zero f_carry f_allowed f_asleep f_halted f_pending f_resets f_taken (nI (T + 1)) f_data f_serial f_divider f_sending f_dueSent f_received f_overrun f_sent f_converter f_result f_dueResult f_output f_watch f_dueWatch f_address f_storing f_storeAt f_storeControl f_dueStore f_mask f_edges f_due f_head f_headAt f_headFlags f_stop f_pure a_op a_opA a_opB a_vectors a_analogs a_r a_m a_stack a_count a_since a_control a_compare a_dueEqual a_dueOver a_line a_store a_headR) ∧
      (∀ post : SY → Prop, wY_cycle_195 post f_length f_inputs f_zero f_carry f_allowed f_asleep f_halted f_sp f_pc (nI (T + 1)) g_passed f_taken f_resets f_edges f_sent f_data f_serial f_divider g_converter f_result f_output f_watch f_address f_storeControl f_mask g_since f_received f_overrun (nI l_s) f_sending (nI l_c) (nI lb) f_storing f_storeAt a_op b_opA b_opB a_vectors a_analogs bs a_r a_m a_stack a_line bp b_count a_control a_compare → wY_cycle_150 post f_length f_inputs f_zero f_carry f_allowed f_asleep f_halted f_sp f_pc (nI (T + 1)) g_passed f_taken f_resets f_edges f_sent f_data f_serial f_divider g_converter f_result f_output f_watch f_address f_storeControl f_mask g_since f_received f_overrun (nI l_s) f_sending (nI l_c) (nI l_b) f_storing f_storeAt a_op b_opA b_opB a_vectors a_analogs b_store a_r a_m a_stack a_line b_pending b_count a_control a_compare) ∧
      (¬ f_dueStore = nI (T + 1) → pe = f_pending ∧ db = f_dueStore ∧ st = a_store ∧ bp = b_pending) := by
  obtain ⟨j, hj, ej⟩ := hSA
  rcases tc_uFc (by omega) hu with ⟨e, h1⟩ | ⟨e, h0, h2⟩ | ⟨e, h1, h2, h3⟩
  · refine ⟨f_pending ||| 128, 2147483647, upd a_store j (vp_nar .byte f_storing.toInt8.toInt32), upd b_store j f_storing, upd b_pending 7 1, 0, Or.inl ⟨rfl, rfl⟩, ?_, tc_pF_or hpe (by decide +kernel), fun post h => tc_hapB1 (T := T + 1) e ej (by omega) h, fun post h => tc_YB1 (T := T + 1) h1 ej (by omega) h, fun z => absurd e z⟩
    intro i
    by_cases q : i = j
    · rw [q, pk_us, pk_us, pk_vb, bp_b]; exact hSo.symm
    · rw [pk_un q, pk_un q]; exact hSt i
  · exact ⟨f_pending, f_dueStore, a_store, b_store, b_pending, l_b, by rw [h0]; exact h2, hSt, hpe, fun post h => tc_hapB0 (T := T + 1) e h, fun post h => tc_YB0 (T := T + 1) h0 h, fun _ => ⟨rfl, rfl, rfl, rfl⟩⟩
  · exact ⟨f_pending, f_dueStore, a_store, b_store, b_pending, l_b - 1, h3, hSt, hpe, fun post h => tc_hapB0 (T := T + 1) e h, fun post h => tc_YB2 (T := T + 1) h1 h2 h, fun _ => ⟨rfl, rfl, rfl, rfl⟩⟩
end
end
section
section
variable {T : Nat} {f_length f_inputs f_sp f_pc f_zero f_carry f_allowed f_asleep f_halted f_pending f_resets f_taken f_data f_serial f_divider f_sending f_dueSent f_received f_overrun f_sent f_converter f_result f_dueResult f_output f_watch f_dueWatch f_address f_storing f_storeAt f_storeControl f_dueStore f_mask f_edges f_due f_head f_headAt f_headFlags f_stop f_pure : Int32} {a_op a_opA a_opB a_vectors a_analogs a_r a_m a_stack a_count a_since a_control a_compare a_dueEqual a_dueOver a_line a_store a_headR : Nat → Int32} {g_passed g_converter g_since : Int32} {l_s l_c l_b : Nat} {b_opA b_opB b_store b_pending b_count : Nat → Int32}
theorem tc_bo0 : tc_bo 0 := Or.inl rfl
theorem tc_bo1 : tc_bo 1 := Or.inr rfl
theorem tc_rg0 (n : Nat) : tc_rg 0 n := ⟨0, by omega, rfl⟩
theorem tc_tF0 {T : Nat} (hT : T ≤ 1100000001) : tc_tF T 0 (nI T) 0 0 2147483647 2147483647 0 := by
  refine ⟨0, T, 0, 0, 0, rfl, rfl, rfl, rfl, rfl, by omega, by omega, by omega, by omega, ?_, ?_, ?_⟩
  · rw [show tm_n 0 T T = 0 from if_pos rfl]; decide
  · exact tc_7f
  · exact tc_7f
theorem tc_pF0 (f : Nat → Int32) : tc_pF 0 (tc_clr 9 f) := by
  intro k hk
  rw [tc_clr_in hk, b_0]; rfl
/-- behind the timers: the rest of a cycle with an event -/
theorem tc_tail (hLen : tc_rg f_length 48) (hOp : ∀ i, tc_rg (a_op i) 26) (hA : ∀ i, a_opA i = b_opA i &&& 7) (hB : ∀ i, a_opB i = b_opB i &&& 255) (hAn : ∀ i, tc_y8 (a_analogs i)) (hM : ∀ i, tc_y8 (a_m i)) (hSt : ∀ i, b_store i = a_store i &&& 255) (hR : ∀ i, tc_y8 (a_r i)) (hR0 : ∀ i, 8 ≤ i → a_r i = 0) (hZ : tc_bo f_zero) (hC : tc_bo f_carry) (hAl : tc_bo f_allowed) (hAs : tc_bo f_asleep) (hHa : tc_bo f_halted) (hRe : tc_bo f_received) (hOv : tc_bo f_overrun) (hPu : tc_bo f_pure) (hSp : tc_rg f_sp 16) (hT : T + 1 ≤ 1100000000) (hSe : tc_rg f_sent T) (hIn : tc_y8 f_inputs) (hDa : tc_y8 f_data) (hDi : tc_y8 f_divider) (hRs : tc_y8 f_result) (hOu : tc_y8 f_output) (hWa : tc_y8 f_watch) (hMa : tc_y8 f_mask) (hSg : tc_y8 f_sending) (hSo : tc_y8 f_storing) (hAd : tc_rg f_address 15) (hSA : tc_rg f_storeAt 15) (hSr : f_serial &&& 24 = f_serial) (hSC : f_storeControl &&& 8 = f_storeControl) (hCv : f_converter = g_converter &&& 251) (hCw : tc_y8 g_converter) (hPe : tc_pF f_pending b_pending) (hT0 : tc_tF (T + 1) (a_count 0) (a_since 0) (a_control 0) (a_compare 0) (a_dueEqual 0) (a_dueOver 0) (b_count 0)) (hT1 : tc_tF (T + 1) (a_count 1) (a_since 1) (a_control 1) (a_compare 1) (a_dueEqual 1) (a_dueOver 1) (b_count 1)) (hUs : tc_uF T l_s f_dueSent) (hUc : tc_uF T l_c f_dueResult) (hUb : tc_uF T l_b f_dueStore) (hW : tc_wG (T + 1) f_watch g_since f_dueWatch) :
    ∃ (u' : SX) (v' : SY), tc_RR (T + 1) u' v' ∧ tc_yps v' = g_passed ∧ tc_xst u' = f_stop ∧ tc_xpu u' = f_pure ∧
      (∀ (post : SX → Prop) (n : Nat), post u' → wX_happen_7 post (n + 1) (nI 2) f_length f_inputs f_sp f_pc f_zero f_carry f_allowed f_asleep f_halted f_pending f_resets f_taken (nI (T + 1)) f_data f_serial f_divider f_sending f_dueSent f_received f_overrun f_sent f_converter f_result f_dueResult f_output f_watch f_dueWatch f_address f_storing f_storeAt f_storeControl f_dueStore f_mask f_edges f_due f_head f_headAt f_headFlags f_stop f_pure a_op a_opA a_opB a_vectors a_analogs a_r a_m a_stack a_count a_since a_control a_compare a_dueEqual a_dueOver a_line a_store a_headR) ∧
      (∀ post : SY → Prop, post v' → ((nI l_s ≤ 0 → (wY_cycle_103 post f_length f_inputs f_zero f_carry f_allowed f_asleep f_halted f_sp f_pc (nI (T + 1)) g_passed f_taken f_resets f_edges f_sent f_data f_serial f_divider g_converter f_result f_output f_watch f_address f_storeControl f_mask g_since f_received f_overrun (nI l_s) f_sending (nI l_c) (nI l_b) f_storing f_storeAt a_op b_opA b_opB a_vectors a_analogs b_store a_r a_m a_stack a_line b_pending b_count a_control a_compare)) ∧ (¬ nI l_s ≤ 0 → (∀ sl : Int32, sl = nI l_s - 1 → ((sl = 0 → ((32 ≤ f_sent → (wY_cycle_86 post f_length f_inputs f_zero f_carry f_allowed f_asleep f_halted f_sp f_pc (nI (T + 1)) g_passed f_taken f_resets f_edges f_sent f_data f_serial f_divider g_converter f_result f_output f_watch f_address f_storeControl f_mask g_since f_received f_overrun sl f_sending (nI l_c) (nI l_b) f_storing f_storeAt a_op b_opA b_opB a_vectors a_analogs b_store a_r a_m a_stack a_line b_pending b_count a_control a_compare)) ∧ (¬ 32 ≤ f_sent → (vp_in f_sent 32 ∧ ∀ ln : Nat → Int32, ln = upd a_line f_sent.toNatClampNeg f_sending → (wY_cycle_86 post f_length f_inputs f_zero f_carry f_allowed f_asleep f_halted f_sp f_pc (nI (T + 1)) g_passed f_taken f_resets f_edges f_sent f_data f_serial f_divider g_converter f_result f_output f_watch f_address f_storeControl f_mask g_since f_received f_overrun sl f_sending (nI l_c) (nI l_b) f_storing f_storeAt a_op b_opA b_opB a_vectors a_analogs b_store a_r a_m a_stack ln b_pending b_count a_control a_compare))))) ∧ (¬ sl = 0 → (wY_cycle_103 post f_length f_inputs f_zero f_carry f_allowed f_asleep f_halted f_sp f_pc (nI (T + 1)) g_passed f_taken f_resets f_edges f_sent f_data f_serial f_divider g_converter f_result f_output f_watch f_address f_storeControl f_mask g_since f_received f_overrun sl f_sending (nI l_c) (nI l_b) f_storing f_storeAt a_op b_opA b_opB a_vectors a_analogs b_store a_r a_m a_stack a_line b_pending b_count a_control a_compare))))))) := by
  obtain ⟨pe1, ds, se, ln, bp1, ls, s1, s2, s3, sX, sY, -⟩ := tc_stS (T := T) (f_length := f_length) (f_inputs := f_inputs) (f_sp := f_sp) (f_pc := f_pc) (f_zero := f_zero) (f_carry := f_carry) (f_allowed := f_allowed) (f_asleep := f_asleep) (f_halted := f_halted) (f_pending := f_pending) (f_resets := f_resets) (f_taken := f_taken) (f_data := f_data) (f_serial := f_serial) (f_divider := f_divider) (f_sending := f_sending) (f_dueSent := f_dueSent) (f_received := f_received) (f_overrun := f_overrun) (f_sent := f_sent) (f_converter := f_converter) (f_result := f_result) (f_dueResult := f_dueResult) (f_output := f_output) (f_watch := f_watch) (f_dueWatch := f_dueWatch) (f_address := f_address) (f_storing := f_storing) (f_storeAt := f_storeAt) (f_storeControl := f_storeControl) (f_dueStore := f_dueStore) (f_mask := f_mask) (f_edges := f_edges) (f_due := f_due) (f_head := f_head) (f_headAt := f_headAt) (f_headFlags := f_headFlags) (f_stop := f_stop) (f_pure := f_pure) (a_op := a_op) (a_opA := a_opA) (a_opB := a_opB) (a_vectors := a_vectors) (a_analogs := a_analogs) (a_r := a_r) (a_m := a_m) (a_stack := a_stack) (a_count := a_count) (a_since := a_since) (a_control := a_control) (a_compare := a_compare) (a_dueEqual := a_dueEqual) (a_dueOver := a_dueOver) (a_line := a_line) (a_store := a_store) (a_headR := a_headR) (g_passed := g_passed) (g_converter := g_converter) (g_since := g_since) (l_s := l_s) (l_c := l_c) (l_b := l_b) (b_opA := b_opA) (b_opB := b_opB) (b_store := b_store) (b_pending := b_pending) (b_count := b_count) (by omega) hUs hSe hPe
  obtain ⟨pe2, dr, rs, bp2, lc, c1, c2, c3, cX, cY, -⟩ := tc_stC (T := T) (f_length := f_length) (f_inputs := f_inputs) (f_sp := f_sp) (f_pc := f_pc) (f_zero := f_zero) (f_carry := f_carry) (f_allowed := f_allowed) (f_asleep := f_asleep) (f_halted := f_halted) (f_pending := pe1) (f_resets := f_resets) (f_taken := f_taken) (f_data := f_data) (f_serial := f_serial) (f_divider := f_divider) (f_sending := f_sending) (f_dueSent := ds) (f_received := f_received) (f_overrun := f_overrun) (f_sent := se) (f_converter := f_converter) (f_result := f_result) (f_dueResult := f_dueResult) (f_output := f_output) (f_watch := f_watch) (f_dueWatch := f_dueWatch) (f_address := f_address) (f_storing := f_storing) (f_storeAt := f_storeAt) (f_storeControl := f_storeControl) (f_dueStore := f_dueStore) (f_mask := f_mask) (f_edges := f_edges) (f_due := f_due) (f_head := f_head) (f_headAt := f_headAt) (f_headFlags := f_headFlags) (f_stop := f_stop) (f_pure := f_pure) (a_op := a_op) (a_opA := a_opA) (a_opB := a_opB) (a_vectors := a_vectors) (a_analogs := a_analogs) (a_r := a_r) (a_m := a_m) (a_stack := a_stack) (a_count := a_count) (a_since := a_since) (a_control := a_control) (a_compare := a_compare) (a_dueEqual := a_dueEqual) (a_dueOver := a_dueOver) (a_line := ln) (a_store := a_store) (a_headR := a_headR) (g_passed := g_passed) (g_converter := g_converter) (g_since := g_since) (l_s := ls) (l_c := l_c) (l_b := l_b) (b_opA := b_opA) (b_opB := b_opB) (b_store := b_store) (b_pending := bp1) (b_count := b_count) (by omega) hUc s3 hCv hAn hRs
  obtain ⟨pe3, db, st, bs, bp3, lb, b1, b2, b3, bX, bY, -⟩ := tc_stB (T := T) (f_length := f_length) (f_inputs := f_inputs) (f_sp := f_sp) (f_pc := f_pc) (f_zero := f_zero) (f_carry := f_carry) (f_allowed := f_allowed) (f_asleep := f_asleep) (f_halted := f_halted) (f_pending := pe2) (f_resets := f_resets) (f_taken := f_taken) (f_data := f_data) (f_serial := f_serial) (f_divider := f_divider) (f_sending := f_sending) (f_dueSent := ds) (f_received := f_received) (f_overrun := f_overrun) (f_sent := se) (f_converter := f_converter) (f_result := rs) (f_dueResult := dr) (f_output := f_output) (f_watch := f_watch) (f_dueWatch := f_dueWatch) (f_address := f_address) (f_storing := f_storing) (f_storeAt := f_storeAt) (f_storeControl := f_storeControl) (f_dueStore := f_dueStore) (f_mask := f_mask) (f_edges := f_edges) (f_due := f_due) (f_head := f_head) (f_headAt := f_headAt) (f_headFlags := f_headFlags) (f_stop := f_stop) (f_pure := f_pure) (a_op := a_op) (a_opA := a_opA) (a_opB := a_opB) (a_vectors := a_vectors) (a_analogs := a_analogs) (a_r := a_r) (a_m := a_m) (a_stack := a_stack) (a_count := a_count) (a_since := a_since) (a_control := a_control) (a_compare := a_compare) (a_dueEqual := a_dueEqual) (a_dueOver := a_dueOver) (a_line := ln) (a_store := a_store) (a_headR := a_headR) (g_passed := g_passed) (g_converter := g_converter) (g_since := g_since) (l_s := ls) (l_c := lc) (l_b := l_b) (b_opA := b_opA) (b_opB := b_opB) (b_store := b_store) (b_pending := bp2) (b_count := b_count) (by omega) hUb c3 hSt hSo hSA
  rcases tc_wGc (by omega) hW with ⟨e, k, k0, k8, w1, w2⟩ | ⟨e, w1, w2⟩
  · refine ⟨(f_length, f_inputs, 0, 0, f_zero, f_carry, 0, 0, f_halted, 0, f_resets + 1, f_taken, nI (T + 1), 0, 0, 0, f_sending, 2147483647, 0, 0, se, 0, 0, 2147483647, f_output, 0, 2147483647, 0, f_storing, f_storeAt, 0, 2147483647, 0, f_edges, tc_du 2147483647 2147483647 2147483647 2147483647 (tc_z2 a_dueEqual 2147483647) (tc_z2 a_dueOver 2147483647), f_head, f_headAt, f_headFlags, f_stop, f_pure, a_op, a_opA, a_opB, a_vectors, a_analogs, a_r, a_m, a_stack, tc_z2 a_count 0, tc_z2 a_since (nI (T + 1)), tc_z2 a_control 0, tc_z2 a_compare 0, tc_z2 a_dueEqual 2147483647, tc_z2 a_dueOver 2147483647, ln, st, a_headR),
      (f_length, f_inputs, f_zero, f_carry, 0, 0, f_halted, 0, 0, nI (T + 1), g_passed, f_taken, f_resets + 1, f_edges, se, 0, 0, 0, 0, 0, f_output, 0, 0, 0, 0, 0, 0, 0, nI 0, f_sending, nI 0, nI 0, f_storing, f_storeAt, a_op, b_opA, b_opB, a_vectors, a_analogs, bs, a_r, a_m, a_stack, ln, tc_clr 9 bp3, tc_z2 b_count 0, tc_z2 a_control 0, tc_z2 a_compare 0), ?_, rfl, rfl, rfl, fun post n h => sX post n (cX post (bX post (tc_hapW1 e h))), fun post h => sY post (cY post (bY post (tc_YW1 k0 k8 w1 w2 h)))⟩
    exact tc_RRi hLen hOp hA hB hAn hM b2 hR hR0 hZ hC tc_bo0 tc_bo0 hHa tc_bo0 tc_bo0 hPu (tc_rg0 _) (by omega) s2 hIn tc_y8_0 tc_y8_0 tc_y8_0 hOu tc_y8_0 tc_y8_0 hSg hSo (tc_rg0 _) hSA rfl rfl rfl tc_y8_0 (tc_pF0 _) (tc_tF0 (by omega)) (tc_tF0 (by omega)) (Or.inl ⟨rfl, rfl⟩) (Or.inl ⟨rfl, rfl⟩) (Or.inl ⟨rfl, rfl⟩) (Or.inl ⟨rfl, rfl⟩) rfl
  · refine ⟨(f_length, f_inputs, f_sp, f_pc, f_zero, f_carry, f_allowed, f_asleep, f_halted, pe3, f_resets, f_taken, nI (T + 1), f_data, f_serial, f_divider, f_sending, ds, f_received, f_overrun, se, f_converter, rs, dr, f_output, f_watch, f_dueWatch, f_address, f_storing, f_storeAt, f_storeControl, db, f_mask, f_edges, tc_du ds dr f_dueWatch db a_dueEqual a_dueOver, f_head, f_headAt, f_headFlags, f_stop, f_pure, a_op, a_opA, a_opB, a_vectors, a_analogs, a_r, a_m, a_stack, a_count, a_since, a_control, a_compare, a_dueEqual, a_dueOver, ln, st, a_headR),
      (f_length, f_inputs, f_zero, f_carry, f_allowed, f_asleep, f_halted, f_sp, f_pc, nI (T + 1), g_passed, f_taken, f_resets, f_edges, se, f_data, f_serial, f_divider, g_converter, rs, f_output, f_watch, f_address, f_storeControl, f_mask, g_since, f_received, f_overrun, nI ls, f_sending, nI lc, nI lb, f_storing, f_storeAt, a_op, b_opA, b_opB, a_vectors, a_analogs, bs, a_r, a_m, a_stack, ln, bp3, b_count, a_control, a_compare), ?_, rfl, rfl, rfl, fun post n h => sX post n (cX post (bX post (tc_hapW0 e h))), fun post h => sY post (cY post (bY post ?_))⟩
    · exact tc_RRi hLen hOp hA hB hAn hM b2 hR hR0 hZ hC hAl hAs hHa hRe hOv hPu hSp (by omega) s2 hIn hDa hDi c2 hOu hWa hMa hSg hSo hAd hSA hSr hSC hCv hCw b3 hT0 hT1 s1 c1 b1 w1 rfl
    · rcases w2 with w2 | ⟨k, Q, k0, k8, z1, z2, z3⟩
      · exact tc_YW0 w2 h
      · exact tc_YW2 k0 k8 z1 z2 z3 h
/-- a cycle with an event -/
theorem tc_evt (hLen : tc_rg f_length 48) (hOp : ∀ i, tc_rg (a_op i) 26) (hA : ∀ i, a_opA i = b_opA i &&& 7) (hB : ∀ i, a_opB i = b_opB i &&& 255) (hAn : ∀ i, tc_y8 (a_analogs i)) (hM : ∀ i, tc_y8 (a_m i)) (hSt : ∀ i, b_store i = a_store i &&& 255) (hR : ∀ i, tc_y8 (a_r i)) (hR0 : ∀ i, 8 ≤ i → a_r i = 0) (hZ : tc_bo f_zero) (hC : tc_bo f_carry) (hAl : tc_bo f_allowed) (hAs : tc_bo f_asleep) (hHa : tc_bo f_halted) (hRe : tc_bo f_received) (hOv : tc_bo f_overrun) (hPu : tc_bo f_pure) (hSp : tc_rg f_sp 16) (hT : T + 1 ≤ 1100000000) (hSe : tc_rg f_sent T) (hIn : tc_y8 f_inputs) (hDa : tc_y8 f_data) (hDi : tc_y8 f_divider) (hRs : tc_y8 f_result) (hOu : tc_y8 f_output) (hWa : tc_y8 f_watch) (hMa : tc_y8 f_mask) (hSg : tc_y8 f_sending) (hSo : tc_y8 f_storing) (hAd : tc_rg f_address 15) (hSA : tc_rg f_storeAt 15) (hSr : f_serial &&& 24 = f_serial) (hSC : f_storeControl &&& 8 = f_storeControl) (hCv : f_converter = g_converter &&& 251) (hCw : tc_y8 g_converter) (hPe : tc_pF f_pending b_pending) (hT0 : tc_tF T (a_count 0) (a_since 0) (a_control 0) (a_compare 0) (a_dueEqual 0) (a_dueOver 0) (b_count 0)) (hT1 : tc_tF T (a_count 1) (a_since 1) (a_control 1) (a_compare 1) (a_dueEqual 1) (a_dueOver 1) (b_count 1)) (hUs : tc_uF T l_s f_dueSent) (hUc : tc_uF T l_c f_dueResult) (hUb : tc_uF T l_b f_dueStore) (hW : tc_wF T f_watch g_since f_dueWatch) :
    ∃ (u' : SX) (v' : SY), tc_RR (T + 1) u' v' ∧ tc_yps v' = g_passed + 1 ∧ tc_xst u' = f_stop ∧ tc_xpu u' = 0 ∧
      (∀ post : SX → Prop, post u' → wpX_happen post (f_length, f_inputs, f_sp, f_pc, f_zero, f_carry, f_allowed, f_asleep, f_halted, f_pending, f_resets, f_taken, nI (T + 1), f_data, f_serial, f_divider, f_sending, f_dueSent, f_received, f_overrun, f_sent, f_converter, f_result, f_dueResult, f_output, f_watch, f_dueWatch, f_address, f_storing, f_storeAt, f_storeControl, f_dueStore, f_mask, f_edges, f_due, f_head, f_headAt, f_headFlags, f_stop, f_pure, a_op, a_opA, a_opB, a_vectors, a_analogs, a_r, a_m, a_stack, a_count, a_since, a_control, a_compare, a_dueEqual, a_dueOver, a_line, a_store, a_headR)) ∧ tc_YC (f_length, f_inputs, f_zero, f_carry, f_allowed, f_asleep, f_halted, f_sp, f_pc, nI T, g_passed, f_taken, f_resets, f_edges, f_sent, f_data, f_serial, f_divider, g_converter, f_result, f_output, f_watch, f_address, f_storeControl, f_mask, g_since, f_received, f_overrun, nI l_s, f_sending, nI l_c, nI l_b, f_storing, f_storeAt, a_op, b_opA, b_opB, a_vectors, a_analogs, b_store, a_r, a_m, a_stack, a_line, b_pending, b_count, a_control, a_compare) v' := by
  obtain ⟨pe0, ou0, ed0, du0, cn0, si0, dE0, dO0, bp0, bc0, p1, p2, p3, p4, pX, pY⟩ := tc_stT (T := T) (t := 0) (f_length := f_length) (f_inputs := f_inputs) (f_sp := f_sp) (f_pc := f_pc) (f_zero := f_zero) (f_carry := f_carry) (f_allowed := f_allowed) (f_asleep := f_asleep) (f_halted := f_halted) (f_pending := f_pending) (f_resets := f_resets) (f_taken := f_taken) (f_data := f_data) (f_serial := f_serial) (f_divider := f_divider) (f_sending := f_sending) (f_dueSent := f_dueSent) (f_received := f_received) (f_overrun := f_overrun) (f_sent := f_sent) (f_converter := f_converter) (f_result := f_result) (f_dueResult := f_dueResult) (f_output := f_output) (f_watch := f_watch) (f_dueWatch := f_dueWatch) (f_address := f_address) (f_storing := f_storing) (f_storeAt := f_storeAt) (f_storeControl := f_storeControl) (f_dueStore := f_dueStore) (f_mask := f_mask) (f_edges := f_edges) (f_due := f_due) (f_head := f_head) (f_headAt := f_headAt) (f_headFlags := f_headFlags) (f_stop := f_stop) (f_pure := 0) (a_op := a_op) (a_opA := a_opA) (a_opB := a_opB) (a_vectors := a_vectors) (a_analogs := a_analogs) (a_r := a_r) (a_m := a_m) (a_stack := a_stack) (a_count := a_count) (a_since := a_since) (a_control := a_control) (a_compare := a_compare) (a_dueEqual := a_dueEqual) (a_dueOver := a_dueOver) (a_line := a_line) (a_store := a_store) (a_headR := a_headR) (g_passed := g_passed + 1) (g_converter := g_converter) (g_since := g_since + 1) (l_s := l_s) (l_c := l_c) (l_b := l_b) (b_opA := b_opA) (b_opB := b_opB) (b_store := b_store) (b_pending := b_pending) (b_count := b_count) (by omega) (by omega) hT0 hOu hPe
  obtain ⟨q1, q2, q3, q4, q5⟩ := p4 1 (by decide)
  obtain ⟨pe1, ou1, ed1, du1, cn1, si1, dE1, dO1, bp1, bc1, r1, r2, r3, r4, rX, rY⟩ := tc_stT (T := T) (t := 1) (f_length := f_length) (f_inputs := f_inputs) (f_sp := f_sp) (f_pc := f_pc) (f_zero := f_zero) (f_carry := f_carry) (f_allowed := f_allowed) (f_asleep := f_asleep) (f_halted := f_halted) (f_pending := pe0) (f_resets := f_resets) (f_taken := f_taken) (f_data := f_data) (f_serial := f_serial) (f_divider := f_divider) (f_sending := f_sending) (f_dueSent := f_dueSent) (f_received := f_received) (f_overrun := f_overrun) (f_sent := f_sent) (f_converter := f_converter) (f_result := f_result) (f_dueResult := f_dueResult) (f_output := ou0) (f_watch := f_watch) (f_dueWatch := f_dueWatch) (f_address := f_address) (f_storing := f_storing) (f_storeAt := f_storeAt) (f_storeControl := f_storeControl) (f_dueStore := f_dueStore) (f_mask := f_mask) (f_edges := ed0) (f_due := du0) (f_head := f_head) (f_headAt := f_headAt) (f_headFlags := f_headFlags) (f_stop := f_stop) (f_pure := 0) (a_op := a_op) (a_opA := a_opA) (a_opB := a_opB) (a_vectors := a_vectors) (a_analogs := a_analogs) (a_r := a_r) (a_m := a_m) (a_stack := a_stack) (a_count := cn0) (a_since := si0) (a_control := a_control) (a_compare := a_compare) (a_dueEqual := dE0) (a_dueOver := dO0) (a_line := a_line) (a_store := a_store) (a_headR := a_headR) (g_passed := g_passed + 1) (g_converter := g_converter) (g_since := g_since + 1) (l_s := l_s) (l_c := l_c) (l_b := l_b) (b_opA := b_opA) (b_opB := b_opB) (b_store := b_store) (b_pending := bp0) (b_count := bc0) (by omega) (by omega) (by rw [q1, q2, q3, q4, q5]; exact hT1) p2 p3
  obtain ⟨w1, w2, w3, w4, w5⟩ := r4 0 (by decide)
  obtain ⟨u', v', R, e1, e2, e3, tX, tY⟩ := tc_tail (T := T) (f_length := f_length) (f_inputs := f_inputs) (f_sp := f_sp) (f_pc := f_pc) (f_zero := f_zero) (f_carry := f_carry) (f_allowed := f_allowed) (f_asleep := f_asleep) (f_halted := f_halted) (f_pending := pe1) (f_resets := f_resets) (f_taken := f_taken) (f_data := f_data) (f_serial := f_serial) (f_divider := f_divider) (f_sending := f_sending) (f_dueSent := f_dueSent) (f_received := f_received) (f_overrun := f_overrun) (f_sent := f_sent) (f_converter := f_converter) (f_result := f_result) (f_dueResult := f_dueResult) (f_output := ou1) (f_watch := f_watch) (f_dueWatch := f_dueWatch) (f_address := f_address) (f_storing := f_storing) (f_storeAt := f_storeAt) (f_storeControl := f_storeControl) (f_dueStore := f_dueStore) (f_mask := f_mask) (f_edges := ed1) (f_due := du1) (f_head := f_head) (f_headAt := f_headAt) (f_headFlags := f_headFlags) (f_stop := f_stop) (f_pure := 0) (a_op := a_op) (a_opA := a_opA) (a_opB := a_opB) (a_vectors := a_vectors) (a_analogs := a_analogs) (a_r := a_r) (a_m := a_m) (a_stack := a_stack) (a_count := cn1) (a_since := si1) (a_control := a_control) (a_compare := a_compare) (a_dueEqual := dE1) (a_dueOver := dO1) (a_line := a_line) (a_store := a_store) (a_headR := a_headR) (g_passed := g_passed + 1) (g_converter := g_converter) (g_since := g_since + 1) (l_s := l_s) (l_c := l_c) (l_b := l_b) (b_opA := b_opA) (b_opB := b_opB) (b_store := b_store) (b_pending := bp1) (b_count := bc1) hLen hOp hA hB hAn hM hSt hR hR0 hZ hC hAl hAs hHa hRe hOv tc_bo0 hSp hT hSe hIn hDa hDi hRs r2 hWa hMa hSg hSo hAd hSA hSr hSC hCv hCw r3 ((by rw [w1, w2, w3, w4, w5]; exact p1)) r1 hUs hUc hUb (tc_wFG hW)
  refine ⟨u', v', R, e1, e2, e3, fun post h => ?_, fun post h => ?_⟩
  · unfold wpX_happen
    exact ⟨3, pX post 2 (rX post 1 (tX post 0 h))⟩
  · unfold wpY_cycle
    refine nm_e (nm_r (e' := nI (T + 1)) (nI_1 T) (nm_e ?_))
    refine pY _ ?_
    refine rY _ ?_
    exact tY post h
/-- a cycle without an event -/
theorem tc_nev (hLen : tc_rg f_length 48) (hOp : ∀ i, tc_rg (a_op i) 26) (hA : ∀ i, a_opA i = b_opA i &&& 7) (hB : ∀ i, a_opB i = b_opB i &&& 255) (hAn : ∀ i, tc_y8 (a_analogs i)) (hM : ∀ i, tc_y8 (a_m i)) (hSt : ∀ i, b_store i = a_store i &&& 255) (hR : ∀ i, tc_y8 (a_r i)) (hR0 : ∀ i, 8 ≤ i → a_r i = 0) (hZ : tc_bo f_zero) (hC : tc_bo f_carry) (hAl : tc_bo f_allowed) (hAs : tc_bo f_asleep) (hHa : tc_bo f_halted) (hRe : tc_bo f_received) (hOv : tc_bo f_overrun) (hPu : tc_bo f_pure) (hSp : tc_rg f_sp 16) (hT : T + 1 ≤ 1100000000) (hSe : tc_rg f_sent T) (hIn : tc_y8 f_inputs) (hDa : tc_y8 f_data) (hDi : tc_y8 f_divider) (hRs : tc_y8 f_result) (hOu : tc_y8 f_output) (hWa : tc_y8 f_watch) (hMa : tc_y8 f_mask) (hSg : tc_y8 f_sending) (hSo : tc_y8 f_storing) (hAd : tc_rg f_address 15) (hSA : tc_rg f_storeAt 15) (hSr : f_serial &&& 24 = f_serial) (hSC : f_storeControl &&& 8 = f_storeControl) (hCv : f_converter = g_converter &&& 251) (hCw : tc_y8 g_converter) (hPe : tc_pF f_pending b_pending) (hT0 : tc_tF T (a_count 0) (a_since 0) (a_control 0) (a_compare 0) (a_dueEqual 0) (a_dueOver 0) (b_count 0)) (hT1 : tc_tF T (a_count 1) (a_since 1) (a_control 1) (a_compare 1) (a_dueEqual 1) (a_dueOver 1) (b_count 1)) (hUs : tc_uF T l_s f_dueSent) (hUc : tc_uF T l_c f_dueResult) (hUb : tc_uF T l_b f_dueStore) (hW : tc_wF T f_watch g_since f_dueWatch) (hD : f_due = tc_du f_dueSent f_dueResult f_dueWatch f_dueStore a_dueEqual a_dueOver) (n1 : ¬ f_dueSent = nI (T + 1)) (n2 : ¬ f_dueResult = nI (T + 1)) (n3 : ¬ f_dueStore = nI (T + 1)) (n4 : ¬ f_dueWatch = nI (T + 1))
    (n5 : ¬ a_dueEqual 0 = nI (T + 1)) (n6 : ¬ a_dueOver 0 = nI (T + 1)) (n7 : ¬ a_dueEqual 1 = nI (T + 1)) (n8 : ¬ a_dueOver 1 = nI (T + 1)) :
    ∃ v' : SY, tc_RR (T + 1) (f_length, f_inputs, f_sp, f_pc, f_zero, f_carry, f_allowed, f_asleep, f_halted, f_pending, f_resets, f_taken, nI (T + 1), f_data, f_serial, f_divider, f_sending, f_dueSent, f_received, f_overrun, f_sent, f_converter, f_result, f_dueResult, f_output, f_watch, f_dueWatch, f_address, f_storing, f_storeAt, f_storeControl, f_dueStore, f_mask, f_edges, f_due, f_head, f_headAt, f_headFlags, f_stop, f_pure, a_op, a_opA, a_opB, a_vectors, a_analogs, a_r, a_m, a_stack, a_count, a_since, a_control, a_compare, a_dueEqual, a_dueOver, a_line, a_store, a_headR) v' ∧ tc_yps v' = g_passed + 1 ∧ tc_YC (f_length, f_inputs, f_zero, f_carry, f_allowed, f_asleep, f_halted, f_sp, f_pc, nI T, g_passed, f_taken, f_resets, f_edges, f_sent, f_data, f_serial, f_divider, g_converter, f_result, f_output, f_watch, f_address, f_storeControl, f_mask, g_since, f_received, f_overrun, nI l_s, f_sending, nI l_c, nI l_b, f_storing, f_storeAt, a_op, b_opA, b_opB, a_vectors, a_analogs, b_store, a_r, a_m, a_stack, a_line, b_pending, b_count, a_control, a_compare) v' := by
  obtain ⟨bc0, p1, p2, pY⟩ := tc_stN (T := T) (t := 0) (f_length := f_length) (f_inputs := f_inputs) (f_zero := f_zero) (f_carry := f_carry) (f_allowed := f_allowed) (f_asleep := f_asleep) (f_halted := f_halted) (f_sp := f_sp) (f_pc := f_pc) (f_taken := f_taken) (f_resets := f_resets) (f_edges := f_edges) (f_sent := f_sent) (f_data := f_data) (f_serial := f_serial) (f_divider := f_divider) (f_result := f_result) (f_output := f_output) (f_watch := f_watch) (f_address := f_address) (f_storeControl := f_storeControl) (f_mask := f_mask) (f_received := f_received) (f_overrun := f_overrun) (f_sending := f_sending) (f_storing := f_storing) (f_storeAt := f_storeAt) (a_op := a_op) (a_vectors := a_vectors) (a_analogs := a_analogs) (a_r := a_r) (a_m := a_m) (a_stack := a_stack) (a_line := a_line) (a_control := a_control) (a_compare := a_compare) (g_passed := g_passed + 1) (g_converter := g_converter) (g_since := g_since + 1) (l_s := l_s) (l_c := l_c) (l_b := l_b) (b_opA := b_opA) (b_opB := b_opB) (b_store := b_store) (b_pending := b_pending) (b_count := b_count) (by omega) (by omega) hT0 n6 n5
  obtain ⟨bc1, r1, r2, rY⟩ := tc_stN (T := T) (t := 1) (f_length := f_length) (f_inputs := f_inputs) (f_zero := f_zero) (f_carry := f_carry) (f_allowed := f_allowed) (f_asleep := f_asleep) (f_halted := f_halted) (f_sp := f_sp) (f_pc := f_pc) (f_taken := f_taken) (f_resets := f_resets) (f_edges := f_edges) (f_sent := f_sent) (f_data := f_data) (f_serial := f_serial) (f_divider := f_divider) (f_result := f_result) (f_output := f_output) (f_watch := f_watch) (f_address := f_address) (f_storeControl := f_storeControl) (f_mask := f_mask) (f_received := f_received) (f_overrun := f_overrun) (f_sending := f_sending) (f_storing := f_storing) (f_storeAt := f_storeAt) (a_op := a_op) (a_vectors := a_vectors) (a_analogs := a_analogs) (a_r := a_r) (a_m := a_m) (a_stack := a_stack) (a_line := a_line) (a_control := a_control) (a_compare := a_compare) (g_passed := g_passed + 1) (g_converter := g_converter) (g_since := g_since + 1) (l_s := l_s) (l_c := l_c) (l_b := l_b) (b_opA := b_opA) (b_opB := b_opB) (b_store := b_store) (b_pending := b_pending) (b_count := bc0) (by omega) (by omega) (by rw [p2 1 (by decide)]; exact hT1) n8 n7
  obtain ⟨pe1, ds, se, ln, bp1, ls, s1, s2, s3, sX, sY, s4⟩ := tc_stS (T := T) (f_length := f_length) (f_inputs := f_inputs) (f_sp := f_sp) (f_pc := f_pc) (f_zero := f_zero) (f_carry := f_carry) (f_allowed := f_allowed) (f_asleep := f_asleep) (f_halted := f_halted) (f_pending := f_pending) (f_resets := f_resets) (f_taken := f_taken) (f_data := f_data) (f_serial := f_serial) (f_divider := f_divider) (f_sending := f_sending) (f_dueSent := f_dueSent) (f_received := f_received) (f_overrun := f_overrun) (f_sent := f_sent) (f_converter := f_converter) (f_result := f_result) (f_dueResult := f_dueResult) (f_output := f_output) (f_watch := f_watch) (f_dueWatch := f_dueWatch) (f_address := f_address) (f_storing := f_storing) (f_storeAt := f_storeAt) (f_storeControl := f_storeControl) (f_dueStore := f_dueStore) (f_mask := f_mask) (f_edges := f_edges) (f_due := f_due) (f_head := f_head) (f_headAt := f_headAt) (f_headFlags := f_headFlags) (f_stop := f_stop) (f_pure := f_pure) (a_op := a_op) (a_opA := a_opA) (a_opB := a_opB) (a_vectors := a_vectors) (a_analogs := a_analogs) (a_r := a_r) (a_m := a_m) (a_stack := a_stack) (a_count := a_count) (a_since := a_since) (a_control := a_control) (a_compare := a_compare) (a_dueEqual := a_dueEqual) (a_dueOver := a_dueOver) (a_line := a_line) (a_store := a_store) (a_headR := a_headR) (g_passed := g_passed + 1) (g_converter := g_converter) (g_since := g_since + 1) (l_s := l_s) (l_c := l_c) (l_b := l_b) (b_opA := b_opA) (b_opB := b_opB) (b_store := b_store) (b_pending := b_pending) (b_count := bc1) (by omega) hUs hSe hPe
  obtain ⟨z1, z2, z3, z4, z5⟩ := s4 n1
  subst pe1 ds se ln bp1
  obtain ⟨pe2, dr, rs, bp2, lc, c1, c2, c3, cX, cY, c4⟩ := tc_stC (T := T) (f_length := f_length) (f_inputs := f_inputs) (f_sp := f_sp) (f_pc := f_pc) (f_zero := f_zero) (f_carry := f_carry) (f_allowed := f_allowed) (f_asleep := f_asleep) (f_halted := f_halted) (f_pending := f_pending) (f_resets := f_resets) (f_taken := f_taken) (f_data := f_data) (f_serial := f_serial) (f_divider := f_divider) (f_sending := f_sending) (f_dueSent := f_dueSent) (f_received := f_received) (f_overrun := f_overrun) (f_sent := f_sent) (f_converter := f_converter) (f_result := f_result) (f_dueResult := f_dueResult) (f_output := f_output) (f_watch := f_watch) (f_dueWatch := f_dueWatch) (f_address := f_address) (f_storing := f_storing) (f_storeAt := f_storeAt) (f_storeControl := f_storeControl) (f_dueStore := f_dueStore) (f_mask := f_mask) (f_edges := f_edges) (f_due := f_due) (f_head := f_head) (f_headAt := f_headAt) (f_headFlags := f_headFlags) (f_stop := f_stop) (f_pure := f_pure) (a_op := a_op) (a_opA := a_opA) (a_opB := a_opB) (a_vectors := a_vectors) (a_analogs := a_analogs) (a_r := a_r) (a_m := a_m) (a_stack := a_stack) (a_count := a_count) (a_since := a_since) (a_control := a_control) (a_compare := a_compare) (a_dueEqual := a_dueEqual) (a_dueOver := a_dueOver) (a_line := a_line) (a_store := a_store) (a_headR := a_headR) (g_passed := g_passed + 1) (g_converter := g_converter) (g_since := g_since + 1) (l_s := ls) (l_c := l_c) (l_b := l_b) (b_opA := b_opA) (b_opB := b_opB) (b_store := b_store) (b_pending := b_pending) (b_count := bc1) (by omega) hUc s3 hCv hAn hRs
  obtain ⟨z1, z2, z3, z4⟩ := c4 n2
  subst pe2 dr rs bp2
  obtain ⟨pe3, db, st, bs, bp3, lb, b1, b2, b3, bX, bY, b4⟩ := tc_stB (T := T) (f_length := f_length) (f_inputs := f_inputs) (f_sp := f_sp) (f_pc := f_pc) (f_zero := f_zero) (f_carry := f_carry) (f_allowed := f_allowed) (f_asleep := f_asleep) (f_halted := f_halted) (f_pending := f_pending) (f_resets := f_resets) (f_taken := f_taken) (f_data := f_data) (f_serial := f_serial) (f_divider := f_divider) (f_sending := f_sending) (f_dueSent := f_dueSent) (f_received := f_received) (f_overrun := f_overrun) (f_sent := f_sent) (f_converter := f_converter) (f_result := f_result) (f_dueResult := f_dueResult) (f_output := f_output) (f_watch := f_watch) (f_dueWatch := f_dueWatch) (f_address := f_address) (f_storing := f_storing) (f_storeAt := f_storeAt) (f_storeControl := f_storeControl) (f_dueStore := f_dueStore) (f_mask := f_mask) (f_edges := f_edges) (f_due := f_due) (f_head := f_head) (f_headAt := f_headAt) (f_headFlags := f_headFlags) (f_stop := f_stop) (f_pure := f_pure) (a_op := a_op) (a_opA := a_opA) (a_opB := a_opB) (a_vectors := a_vectors) (a_analogs := a_analogs) (a_r := a_r) (a_m := a_m) (a_stack := a_stack) (a_count := a_count) (a_since := a_since) (a_control := a_control) (a_compare := a_compare) (a_dueEqual := a_dueEqual) (a_dueOver := a_dueOver) (a_line := a_line) (a_store := a_store) (a_headR := a_headR) (g_passed := g_passed + 1) (g_converter := g_converter) (g_since := g_since + 1) (l_s := ls) (l_c := lc) (l_b := l_b) (b_opA := b_opA) (b_opB := b_opB) (b_store := b_store) (b_pending := b_pending) (b_count := bc1) (by omega) hUb c3 hSt hSo hSA
  obtain ⟨z1, z2, z3, z4⟩ := b4 n3
  subst pe3 db st bp3
  rcases tc_wGc (by omega) (tc_wFG hW) with ⟨e, _⟩ | ⟨e, w1, w2⟩
  · exact absurd e n4
  · refine ⟨(f_length, f_inputs, f_zero, f_carry, f_allowed, f_asleep, f_halted, f_sp, f_pc, nI (T + 1), g_passed + 1, f_taken, f_resets, f_edges, f_sent, f_data, f_serial, f_divider, g_converter, f_result, f_output, f_watch, f_address, f_storeControl, f_mask, g_since + 1, f_received, f_overrun, nI ls, f_sending, nI lc, nI lb, f_storing, f_storeAt, a_op, b_opA, b_opB, a_vectors, a_analogs, bs, a_r, a_m, a_stack, a_line, b_pending, bc1, a_control, a_compare), ?_, rfl, fun post h => ?_⟩
    · exact tc_RRi hLen hOp hA hB hAn hM b2 hR hR0 hZ hC hAl hAs hHa hRe hOv hPu hSp (by omega) s2 hIn hDa hDi hRs hOu hWa hMa hSg hSo hAd hSA hSr hSC hCv hCw hPe ((by rw [r2 0 (by decide)]; exact p1)) r1 s1 c1 b1 w1 hD
    · unfold wpY_cycle
      refine nm_e (nm_r (e' := nI (T + 1)) (nI_1 T) (nm_e ?_))
      refine pY _ ?_
      refine rY _ ?_
      refine sY post (cY post (bY post ?_))
      rcases w2 with w2 | ⟨k, Q, k0, k8, z1, z2, z3⟩
      · exact tc_YW0 w2 h
      · exact tc_YW2 k0 k8 z1 z2 z3 h
end
end
section
/-! the tick and the pass, over states -/
def tc_Q (T : Nat) (x : Int32) (P : Prop) : Prop := ∃ n, x = nI n ∧ T < n ∧ n < 2 ^ 31 ∧ (T + 1 < n → P)
theorem tc_Qb {T n : Nat} {x : Int32} (hx : x = nI n) (h1 : T < n) (h2 : n < 2 ^ 31) : tc_Q T x (¬ x = nI (T + 1)) :=
  ⟨n, hx, h1, h2, fun h z => by
    rw [hx] at z
    have := (nI_eq h2 (by omega)).mp z
    omega⟩
theorem tc_Qm {T : Nat} {x y : Int32} {P P' : Prop} (h : tc_Q T x P) (h' : tc_Q T y P') : tc_Q T (tc_mn x y) (P ∧ P') := by
  obtain ⟨a, a1, a2, a3, a4⟩ := h
  obtain ⟨b, b1, b2, b3, b4⟩ := h'
  refine ⟨min a b, by rw [a1, b1, tc_mnN a3 b3], by omega, by omega, fun z => ⟨a4 (by omega), b4 (by omega)⟩⟩
theorem tc_QU {T L : Nat} {d : Int32} (hT : T ≤ 1100000000) (h : tc_uF T L d) : tc_Q T d (¬ d = nI (T + 1)) := by
  rcases h with ⟨_, e⟩ | ⟨a, b, e⟩
  · exact tc_Qb (e.trans tc_7f) (by omega) (by omega)
  · exact tc_Qb e (by omega) (by omega)
theorem tc_QW {T : Nat} {w s d : Int32} (hT : T ≤ 1100000000) (h : tc_wF T w s d) : tc_Q T d (¬ d = nI (T + 1)) := by
  rcases h with ⟨_, e⟩ | ⟨k, Q, a, b, c, e, f, g⟩
  · exact tc_Qb (e.trans tc_7f) (by omega) (by omega)
  · have k7 : 2 ^ k ≤ 2 ^ 7 := Nat.pow_le_pow_right (by omega) (by omega)
    exact tc_Qb g (by omega) (by omega)
theorem tc_QT {T : Nat} {c s ctl cmp dE dO y : Int32} (hT : T ≤ 1100000000) (h : tc_tF T c s ctl cmp dE dO y) : tc_Q T dE (¬ dE = nI (T + 1)) ∧ tc_Q T dO (¬ dO = nI (T + 1)) := by
  obtain ⟨c, s, k, m, y, hc, hs, hk, hm, hy, c8, hsT, k8, m8, ey, eE, eO⟩ := h
  have y8 : y < 256 := by rw [ey]; exact tm_af_lt m8
  obtain ⟨g1, g2, g3, g4⟩ := tm_gt (k := k) hT y8 m8
  exact ⟨tc_Qb eE g1 g3, tc_Qb eO g2 g4⟩
section
variable {T : Nat} {f_length f_inputs f_sp f_pc f_zero f_carry f_allowed f_asleep f_halted f_pending f_resets f_taken f_data f_serial f_divider f_sending f_dueSent f_received f_overrun f_sent f_converter f_result f_dueResult f_output f_watch f_dueWatch f_address f_storing f_storeAt f_storeControl f_dueStore f_mask f_edges f_due f_head f_headAt f_headFlags f_stop f_pure : Int32} {a_op a_opA a_opB a_vectors a_analogs a_r a_m a_stack a_count a_since a_control a_compare a_dueEqual a_dueOver a_line a_store a_headR : Nat → Int32} {g_passed g_converter g_since : Int32} {l_s l_c l_b : Nat} {b_opA b_opB b_store b_pending b_count : Nat → Int32}
theorem tc_dueN (hT : T ≤ 1100000000) (hT0 : tc_tF T (a_count 0) (a_since 0) (a_control 0) (a_compare 0) (a_dueEqual 0) (a_dueOver 0) (b_count 0)) (hT1 : tc_tF T (a_count 1) (a_since 1) (a_control 1) (a_compare 1) (a_dueEqual 1) (a_dueOver 1) (b_count 1))
    (hUs : tc_uF T l_s f_dueSent) (hUc : tc_uF T l_c f_dueResult) (hUb : tc_uF T l_b f_dueStore) (hW : tc_wF T f_watch g_since f_dueWatch) (hD : f_due = tc_du f_dueSent f_dueResult f_dueWatch f_dueStore a_dueEqual a_dueOver) :
    tc_Q T f_due (((((((¬ f_dueResult = nI (T + 1) ∧ ¬ f_dueSent = nI (T + 1)) ∧ ¬ f_dueWatch = nI (T + 1)) ∧ ¬ f_dueStore = nI (T + 1)) ∧ ¬ a_dueEqual 0 = nI (T + 1)) ∧ ¬ a_dueOver 0 = nI (T + 1)) ∧ ¬ a_dueEqual 1 = nI (T + 1)) ∧ ¬ a_dueOver 1 = nI (T + 1)) := by
  obtain ⟨e0, o0⟩ := tc_QT hT hT0
  obtain ⟨e1, o1⟩ := tc_QT hT hT1
  rw [hD]
  exact tc_Qm (tc_Qm (tc_Qm (tc_Qm (tc_Qm (tc_Qm (tc_Qm (tc_QU hT hUc) (tc_QU hT hUs)) (tc_QW hT hW)) (tc_QU hT hUb)) e0) o0) e1) o1
end
theorem tc_sh_sh (x y : Nat) (u : SX) : tc_sh x (tc_sh y u) = tc_sh x u := rfl
theorem tc_xdu_sh (x : Nat) (u : SX) : tc_xdu (tc_sh x u) = tc_xdu u := rfl
theorem tc_xpu_sh (x : Nat) (u : SX) : tc_xpu (tc_sh x u) = tc_xpu u := rfl
theorem tc_xst_sh (x : Nat) (u : SX) : tc_xst (tc_sh x u) = tc_xst u := rfl
theorem tc_sh_self {T : Nat} {u : SX} {v : SY} (R : tc_RR T u v) : tc_sh T u = u := by
  refine tc_RRe (P := fun u v => tc_sh T u = u) ?_ R
  intro f_length f_inputs f_sp f_pc f_zero f_carry f_allowed f_asleep f_halted f_pending f_resets f_taken f_data f_serial f_divider f_sending f_dueSent f_received f_overrun f_sent f_converter f_result f_dueResult f_output f_watch f_dueWatch f_address f_storing f_storeAt f_storeControl f_dueStore f_mask f_edges f_due f_head f_headAt f_headFlags f_stop f_pure a_op a_opA a_opB a_vectors a_analogs a_r a_m a_stack a_count a_since a_control a_compare a_dueEqual a_dueOver a_line a_store a_headR g_passed g_converter g_since l_s l_c l_b b_opA b_opB b_store b_pending b_count hLen hOp hA hB hAn hM hSt hR hR0 hZ hC hAl hAs hHa hRe hOv hPu hSp hT hSe hIn hDa hDi hRs hOu hWa hMa hSg hSo hAd hSA hSr hSC hCv hCw hPe hT0 hT1 hUs hUc hUb hW hD
  rfl
theorem tc_due {T : Nat} {u : SX} {v : SY} (R : tc_RR T u v) : ∃ d, tc_xdu u = nI d ∧ T < d ∧ d < 2 ^ 31 := by
  refine tc_RRe (P := fun u v => ∃ d, tc_xdu u = nI d ∧ T < d ∧ d < 2 ^ 31) ?_ R
  intro f_length f_inputs f_sp f_pc f_zero f_carry f_allowed f_asleep f_halted f_pending f_resets f_taken f_data f_serial f_divider f_sending f_dueSent f_received f_overrun f_sent f_converter f_result f_dueResult f_output f_watch f_dueWatch f_address f_storing f_storeAt f_storeControl f_dueStore f_mask f_edges f_due f_head f_headAt f_headFlags f_stop f_pure a_op a_opA a_opB a_vectors a_analogs a_r a_m a_stack a_count a_since a_control a_compare a_dueEqual a_dueOver a_line a_store a_headR g_passed g_converter g_since l_s l_c l_b b_opA b_opB b_store b_pending b_count hLen hOp hA hB hAn hM hSt hR hR0 hZ hC hAl hAs hHa hRe hOv hPu hSp hT hSe hIn hDa hDi hRs hOu hWa hMa hSg hSo hAd hSA hSr hSC hCv hCw hPe hT0 hT1 hUs hUc hUb hW hD
  obtain ⟨d, d1, d2, d3, _⟩ := tc_dueN hT hT0 hT1 hUs hUc hUb hW hD
  exact ⟨d, d1, d2, d3⟩
section
variable {post : SX → Prop} {e f_now f_now' : Int32} {n : Nat} {f_length f_inputs f_sp f_pc f_zero f_carry f_allowed f_asleep f_halted f_pending f_resets f_taken f_data f_serial f_divider f_sending f_dueSent f_received f_overrun f_sent f_converter f_result f_dueResult f_output f_watch f_dueWatch f_address f_storing f_storeAt f_storeControl f_dueStore f_mask f_edges f_due f_head f_headAt f_headFlags f_stop f_pure : Int32} {a_op a_opA a_opB a_vectors a_analogs a_r a_m a_stack a_count a_since a_control a_compare a_dueEqual a_dueOver a_line a_store a_headR : Nat → Int32}
theorem tc_xWn (h : wX_pass_7 post e (n + 1) f_length f_inputs f_sp f_pc f_zero f_carry f_allowed f_asleep f_halted f_pending f_resets f_taken f_now f_data f_serial f_divider f_sending f_dueSent f_received f_overrun f_sent f_converter f_result f_dueResult f_output f_watch f_dueWatch f_address f_storing f_storeAt f_storeControl f_dueStore f_mask f_edges f_due f_head f_headAt f_headFlags f_stop f_pure a_op a_opA a_opB a_vectors a_analogs a_r a_m a_stack a_count a_since a_control a_compare a_dueEqual a_dueOver a_line a_store a_headR) : wX_pass_7 post e (n + 1) f_length f_inputs f_sp f_pc f_zero f_carry f_allowed f_asleep f_halted f_pending f_resets f_taken f_now' f_data f_serial f_divider f_sending f_dueSent f_received f_overrun f_sent f_converter f_result f_dueResult f_output f_watch f_dueWatch f_address f_storing f_storeAt f_storeControl f_dueStore f_mask f_edges f_due f_head f_headAt f_headFlags f_stop f_pure a_op a_opA a_opB a_vectors a_analogs a_r a_m a_stack a_count a_since a_control a_compare a_dueEqual a_dueOver a_line a_store a_headR := by
  unfold wX_pass_7 at h ⊢
  exact h
end
def tc_Tk (T : Nat) (u : SX) (v : SY) : Prop :=
  ∃ (u' : SX) (v' : SY), tc_RR (T + 1) u' v' ∧ tc_YC v v' ∧ tc_yps v' = tc_yps v + 1 ∧ tc_xst u' = tc_xst u ∧
    (∀ e : Nat, T + 1 ≤ e → e < 2 ^ 31 → ∀ post : SX → Prop, (∃ n, tc_xW post (nI e) n u') → ∃ n, tc_xW post (nI e) n u) ∧
    (u' = tc_sh (T + 1) u ∨ tc_xpu u' = 0) ∧ (∀ d : Nat, tc_xdu u = nI d → d < 2 ^ 31 → T + 1 < d → u' = tc_sh (T + 1) u)
theorem tc_tick {T : Nat} {u : SX} {v : SY} (hBd : T + 1 ≤ 1100000000) (R : tc_RR T u v) : tc_Tk T u v := by
  refine tc_RRe (P := fun u v => tc_Tk T u v) ?_ R
  intro f_length f_inputs f_sp f_pc f_zero f_carry f_allowed f_asleep f_halted f_pending f_resets f_taken f_data f_serial f_divider f_sending f_dueSent f_received f_overrun f_sent f_converter f_result f_dueResult f_output f_watch f_dueWatch f_address f_storing f_storeAt f_storeControl f_dueStore f_mask f_edges f_due f_head f_headAt f_headFlags f_stop f_pure a_op a_opA a_opB a_vectors a_analogs a_r a_m a_stack a_count a_since a_control a_compare a_dueEqual a_dueOver a_line a_store a_headR g_passed g_converter g_since l_s l_c l_b b_opA b_opB b_store b_pending b_count hLen hOp hA hB hAn hM hSt hR hR0 hZ hC hAl hAs hHa hRe hOv hPu hSp hT hSe hIn hDa hDi hRs hOu hWa hMa hSg hSo hAd hSA hSr hSC hCv hCw hPe hT0 hT1 hUs hUc hUb hW hD
  obtain ⟨d, d1, d2, d3, d4⟩ := tc_dueN hT hT0 hT1 hUs hUc hUb hW hD
  by_cases hd : T + 1 < d
  · obtain ⟨⟨⟨⟨⟨⟨⟨n2, n1⟩, n4⟩, n3⟩, n5⟩, n6⟩, n7⟩, n8⟩ := d4 hd
    obtain ⟨v', r1, r2, r3⟩ := tc_nev (T := T) hLen hOp hA hB hAn hM hSt hR hR0 hZ hC hAl hAs hHa hRe hOv hPu hSp hBd hSe hIn hDa hDi hRs hOu hWa hMa hSg hSo hAd hSA hSr hSC hCv hCw hPe hT0 hT1 hUs hUc hUb hW hD n1 n2 n3 n4 n5 n6 n7 n8
    refine ⟨tc_sh (T + 1) (f_length, f_inputs, f_sp, f_pc, f_zero, f_carry, f_allowed, f_asleep, f_halted, f_pending, f_resets, f_taken, nI T, f_data, f_serial, f_divider, f_sending, f_dueSent, f_received, f_overrun, f_sent, f_converter, f_result, f_dueResult, f_output, f_watch, f_dueWatch, f_address, f_storing, f_storeAt, f_storeControl, f_dueStore, f_mask, f_edges, f_due, f_head, f_headAt, f_headFlags, f_stop, f_pure, a_op, a_opA, a_opB, a_vectors, a_analogs, a_r, a_m, a_stack, a_count, a_since, a_control, a_compare, a_dueEqual, a_dueOver, a_line, a_store, a_headR), v', r1, r3, r2, tc_xst_sh _ _, fun e _ _ post h => ?_, Or.inl rfl, fun _ _ _ _ => rfl⟩
    obtain ⟨n, h⟩ := h
    cases n with
    | zero => exact h.elim
    | succ n => exact ⟨n + 1, tc_xWn (f_now := nI (T + 1)) (f_now' := nI T) h⟩
  · have hd2 : d = T + 1 := by omega
    rw [hd2] at d1
    obtain ⟨u', v', r1, r2, r3, r4, r5, r6⟩ := tc_evt (T := T) (f_length := f_length) (f_inputs := f_inputs) (f_sp := f_sp) (f_pc := f_pc) (f_zero := f_zero) (f_carry := f_carry) (f_allowed := f_allowed) (f_asleep := f_asleep) (f_halted := f_halted) (f_pending := f_pending) (f_resets := f_resets) (f_taken := f_taken) (f_data := f_data) (f_serial := f_serial) (f_divider := f_divider) (f_sending := f_sending) (f_dueSent := f_dueSent) (f_received := f_received) (f_overrun := f_overrun) (f_sent := f_sent) (f_converter := f_converter) (f_result := f_result) (f_dueResult := f_dueResult) (f_output := f_output) (f_watch := f_watch) (f_dueWatch := f_dueWatch) (f_address := f_address) (f_storing := f_storing) (f_storeAt := f_storeAt) (f_storeControl := f_storeControl) (f_dueStore := f_dueStore) (f_mask := f_mask) (f_edges := f_edges) (f_due := f_due) (f_head := f_head) (f_headAt := f_headAt) (f_headFlags := f_headFlags) (f_stop := f_stop) (f_pure := f_pure) (a_op := a_op) (a_opA := a_opA) (a_opB := a_opB) (a_vectors := a_vectors) (a_analogs := a_analogs) (a_r := a_r) (a_m := a_m) (a_stack := a_stack) (a_count := a_count) (a_since := a_since) (a_control := a_control) (a_compare := a_compare) (a_dueEqual := a_dueEqual) (a_dueOver := a_dueOver) (a_line := a_line) (a_store := a_store) (a_headR := a_headR) hLen hOp hA hB hAn hM hSt hR hR0 hZ hC hAl hAs hHa hRe hOv hPu hSp hBd hSe hIn hDa hDi hRs hOu hWa hMa hSg hSo hAd hSA hSr hSC hCv hCw hPe hT0 hT1 hUs hUc hUb hW
    refine ⟨u', v', r1, r6, r2, r3, fun e h1 h2 post h => ?_, Or.inr r4, fun d' e1 e2 e3 => ?_⟩
    · obtain ⟨n, h⟩ := h
      refine ⟨n + 1, ?_⟩
      refine br_f ?_ ?_
      · rw [d1]; exact nI_nlt h1 h2
      · rw [d1]
        rw [d1] at r5
        exact r5 _ h
    · have e1 : f_due = nI d' := e1
      rw [d1] at e1
      have := (nI_eq (by omega) e2).mp e1
      omega
def tc_YCs : Nat → SY → SY → Prop
  | 0, v, v' => v = v'
  | n + 1, v, v' => ∃ w, tc_YC v w ∧ tc_YCs n w v'
def tc_Ps (T c : Nat) (u : SX) (v : SY) : Prop :=
  ∃ (u' : SX) (v' : SY), tc_RR (T + c) u' v' ∧ tc_YCs c v v' ∧ tc_yps v' = tc_yps v + nI c ∧ tc_xst u' = tc_xst u ∧
    (u' = tc_sh (T + c) u ∨ tc_xpu u' = 0) ∧ (∀ d : Nat, tc_xdu u = nI d → d < 2 ^ 31 → T + c < d → u' = tc_sh (T + c) u) ∧
    (∀ post : SX → Prop, post u' → ∃ n, tc_xW post (nI (T + c)) n u)
theorem tc_pass0 {T : Nat} {u : SX} {v : SY} (R : tc_RR T u v) (post : SX → Prop) (h : post u) : tc_xW post (nI T) 1 u := by
  refine tc_RRe (P := fun u v => post u → tc_xW post (nI T) 1 u) ?_ R h
  intro f_length f_inputs f_sp f_pc f_zero f_carry f_allowed f_asleep f_halted f_pending f_resets f_taken f_data f_serial f_divider f_sending f_dueSent f_received f_overrun f_sent f_converter f_result f_dueResult f_output f_watch f_dueWatch f_address f_storing f_storeAt f_storeControl f_dueStore f_mask f_edges f_due f_head f_headAt f_headFlags f_stop f_pure a_op a_opA a_opB a_vectors a_analogs a_r a_m a_stack a_count a_since a_control a_compare a_dueEqual a_dueOver a_line a_store a_headR g_passed g_converter g_since l_s l_c l_b b_opA b_opB b_store b_pending b_count hLen hOp hA hB hAn hM hSt hR hR0 hZ hC hAl hAs hHa hRe hOv hPu hSp hT hSe hIn hDa hDi hRs hOu hWa hMa hSg hSo hAd hSA hSr hSC hCv hCw hPe hT0 hT1 hUs hUc hUb hW hD h
  obtain ⟨d, d1, d2, d3, _⟩ := tc_dueN hT hT0 hT1 hUs hUc hUb hW hD
  refine br_t ?_ h
  rw [d1]; exact nI_lt d2 d3
theorem tc_pass : ∀ (c T : Nat) (u : SX) (v : SY), T + c ≤ 1100000000 → tc_RR T u v → tc_Ps T c u v := by
  intro c
  induction c with
  | zero =>
    intro T u v hB R
    have e := tc_sh_self R
    exact ⟨u, v, R, rfl, (Int32.add_zero _).symm, rfl, Or.inl e.symm, fun _ _ _ _ => e.symm, fun post h => ⟨1, tc_pass0 R post h⟩⟩
  | succ c ih =>
    intro T u v hB R
    obtain ⟨u1, v1, R1, y1, p1, s1, x1, a1, b1⟩ := tc_tick (by omega) R
    obtain ⟨u', v', R2, y2, p2, s2, a2, b2, x2⟩ := ih (T + 1) u1 v1 (by omega) R1
    have eT : T + 1 + c = T + (c + 1) := by omega
    rw [eT] at R2 a2 b2 x2
    refine ⟨u', v', R2, ⟨v1, y1, y2⟩, ?_, s2.trans s1, ?_, fun d e1 e2 e3 => ?_, fun post h => x1 _ (by omega) (by omega) post (x2 post h)⟩
    · rw [p2, p1, Int32.add_assoc, Int32.add_comm 1 (nI c), nI_1]
    · rcases a2 with a2 | a2
      · rcases a1 with a1 | a1
        · rw [a1, tc_sh_sh] at a2; exact Or.inl a2
        · rw [a2, tc_xpu_sh]; exact Or.inr a1
      · exact Or.inr a2
    · have q := b1 d e1 e2 (by omega)
      have q2 := b2 d (by rw [q, tc_xdu_sh]; exact e1) e2 e3
      rw [q2, q, tc_sh_sh]
theorem tc_passW {T c : Nat} {u : SX} {v : SY} {post : SX → Prop} (R : tc_RR T u v) (h : ∃ n, tc_xW post (nI (T + c)) n u) : wpX_pass post u (nI c) := by
  refine tc_RRe (P := fun u v => (∃ n, tc_xW post (nI (T + c)) n u) → wpX_pass post u (nI c)) ?_ R h
  intro f_length f_inputs f_sp f_pc f_zero f_carry f_allowed f_asleep f_halted f_pending f_resets f_taken f_data f_serial f_divider f_sending f_dueSent f_received f_overrun f_sent f_converter f_result f_dueResult f_output f_watch f_dueWatch f_address f_storing f_storeAt f_storeControl f_dueStore f_mask f_edges f_due f_head f_headAt f_headFlags f_stop f_pure a_op a_opA a_opB a_vectors a_analogs a_r a_m a_stack a_count a_since a_control a_compare a_dueEqual a_dueOver a_line a_store a_headR g_passed g_converter g_since l_s l_c l_b b_opA b_opB b_store b_pending b_count hLen hOp hA hB hAn hM hSt hR hR0 hZ hC hAl hAs hHa hRe hOv hPu hSp hT hSe hIn hDa hDi hRs hOu hWa hMa hSg hSo hAd hSA hSr hSC hCv hCw hPe hT0 hT1 hUs hUc hUb hW hD h
  exact nm_r (nI_add T c) h
end
section
/-! calculate, on both sides -/
def tc_zb (w : Int32) : Int32 := if w = 0 then 1 else 0
theorem tc_zb_bo (w : Int32) : tc_bo (tc_zb w) := by
  unfold tc_zb
  split
  · exact tc_bo1
  · exact tc_bo0
def tc_lb (x y : Int32) : Int32 := if x ≤ y then 0 else 1
theorem tc_lb_bo (x y : Int32) : tc_bo (tc_lb x y) := by
  unfold tc_lb
  split
  · exact tc_bo0
  · exact tc_bo1
theorem tc_n0 : narrow .boolean (.int 0) = .int 0 := rfl
theorem tc_n1 : narrow .boolean (.int 1) = .int 1 := rfl
theorem tc_f0 : fits .boolean (.int 0) = true := rfl
theorem tc_f1 : fits .boolean (.int 1) = true := rfl
theorem tc_nb {z : Int32} (h : tc_bo z) : narrow .boolean (.int z) = .int z := by rcases h with e | e <;> rw [e] <;> rfl
theorem tc_fb {z : Int32} (h : tc_bo z) : fits .boolean (.int z) = true := by rcases h with e | e <;> rw [e] <;> rfl
theorem tc_sub0 {x y : Int32} (hx : tc_y8 x) (hy : tc_y8 y) : (x - y) &&& 255 = 0 ↔ x = y := by
  obtain ⟨a, ha, rfl⟩ := tc_y8_ex hx
  obtain ⟨b, hb, rfl⟩ := tc_y8_ex hy
  rw [tm_upI ha hb, nI_eq (by omega) (by omega)]
  rw [show (0 : Int32) = nI 0 from rfl, nI_eq (by unfold tm_up; omega) (by omega)]
  unfold tm_up
  omega
theorem tc_a1 (x : Int32) : x &&& 1 = 0 ∨ x &&& 1 = 1 := by
  obtain ⟨j, hj, e⟩ := pk_andE x (m := 1) 1 (by decide)
  have : j = 0 ∨ j = 1 := by omega
  rcases this with h | h <;> rw [h] at e
  · exact Or.inl e
  · exact Or.inr e
theorem tc_rup {r : Nat → Int32} {p v : Int32} (hp : vp_in p 8) (h : ∀ i, tc_y8 (r i)) (h0 : ∀ i, 8 ≤ i → r i = 0) (hv : tc_y8 v) :
    (∀ i, tc_y8 (upd r p.toNatClampNeg v i)) ∧ (∀ i, 8 ≤ i → upd r p.toNatClampNeg v i = 0) := by
  obtain ⟨j, hj, e⟩ := vp_in_of hp (by decide)
  rw [e, nI_clamp (by omega)]
  constructor
  · intro i
    by_cases q : i = j
    · rw [q, pk_us]; exact hv
    · rw [pk_un q]; exact h i
  · intro i hi
    rw [pk_un (by omega)]; exact h0 i hi
section
variable {post : SX → Prop} {T : Nat} {f_length f_inputs f_sp f_pc f_zero f_carry f_allowed f_asleep f_halted f_pending f_resets f_taken f_data f_serial f_divider f_sending f_dueSent f_received f_overrun f_sent f_converter f_result f_dueResult f_output f_watch f_dueWatch f_address f_storing f_storeAt f_storeControl f_dueStore f_mask f_edges f_due f_head f_headAt f_headFlags f_stop f_pure : Int32} {a_op a_opA a_opB a_vectors a_analogs a_r a_m a_stack a_count a_since a_control a_compare a_dueEqual a_dueOver a_line a_store a_headR : Nat → Int32}
theorem tc_set {p v : Int32} (hp : vp_in p 8) (h : post (f_length, f_inputs, f_sp, f_pc, tc_zb (v &&& 255), f_carry, f_allowed, f_asleep, f_halted, f_pending, f_resets, f_taken, nI T, f_data, f_serial, f_divider, f_sending, f_dueSent, f_received, f_overrun, f_sent, f_converter, f_result, f_dueResult, f_output, f_watch, f_dueWatch, f_address, f_storing, f_storeAt, f_storeControl, f_dueStore, f_mask, f_edges, f_due, f_head, f_headAt, f_headFlags, f_stop, f_pure, a_op, a_opA, a_opB, a_vectors, a_analogs, upd a_r p.toNatClampNeg (v &&& 255), a_m, a_stack, a_count, a_since, a_control, a_compare, a_dueEqual, a_dueOver, a_line, a_store, a_headR)) : wpX_set post (f_length, f_inputs, f_sp, f_pc, f_zero, f_carry, f_allowed, f_asleep, f_halted, f_pending, f_resets, f_taken, nI T, f_data, f_serial, f_divider, f_sending, f_dueSent, f_received, f_overrun, f_sent, f_converter, f_result, f_dueResult, f_output, f_watch, f_dueWatch, f_address, f_storing, f_storeAt, f_storeControl, f_dueStore, f_mask, f_edges, f_due, f_head, f_headAt, f_headFlags, f_stop, f_pure, a_op, a_opA, a_opB, a_vectors, a_analogs, a_r, a_m, a_stack, a_count, a_since, a_control, a_compare, a_dueEqual, a_dueOver, a_line, a_store, a_headR) p v := by
  refine And.intro hp (nm_e ⟨hp, ?_⟩)
  rw [pk_us]
  unfold tc_zb at h
  by_cases c : v &&& 255 = 0
  · rw [if_pos c] at h; exact br_t c h
  · rw [if_neg c] at h; exact br_f c h
theorem tc_cX221 {p x z : Int32} (hp : vp_in p 8) (hz : tc_bo z) (h : post (f_length, f_inputs, f_sp, f_pc, tc_zb ((x >>> ((1 : Int32) &&& 31)) &&& 255), z, f_allowed, f_asleep, f_halted, f_pending, f_resets, f_taken, nI T, f_data, f_serial, f_divider, f_sending, f_dueSent, f_received, f_overrun, f_sent, f_converter, f_result, f_dueResult, f_output, f_watch, f_dueWatch, f_address, f_storing, f_storeAt, f_storeControl, f_dueStore, f_mask, f_edges, f_due, f_head, f_headAt, f_headFlags, f_stop, f_pure, a_op, a_opA, a_opB, a_vectors, a_analogs, upd a_r p.toNatClampNeg ((x >>> ((1 : Int32) &&& 31)) &&& 255), a_m, a_stack, a_count, a_since, a_control, a_compare, a_dueEqual, a_dueOver, a_line, a_store, a_headR)) : wX_calculate_221 post p x z f_length f_inputs f_sp f_pc f_zero f_carry f_allowed f_asleep f_halted f_pending f_resets f_taken (nI T) f_data f_serial f_divider f_sending f_dueSent f_received f_overrun f_sent f_converter f_result f_dueResult f_output f_watch f_dueWatch f_address f_storing f_storeAt f_storeControl f_dueStore f_mask f_edges f_due f_head f_headAt f_headFlags f_stop f_pure a_op a_opA a_opB a_vectors a_analogs a_r a_m a_stack a_count a_since a_control a_compare a_dueEqual a_dueOver a_line a_store a_headR :=
  And.intro (tc_nb hz) (And.intro (tc_fb hz) (tc_set hp h))
theorem tc_cX102 {p x y z : Int32} (hp : vp_in p 8) (hz : tc_bo z) (h : post (f_length, f_inputs, f_sp, f_pc, tc_zb ((x + y) &&& 255), z, f_allowed, f_asleep, f_halted, f_pending, f_resets, f_taken, nI T, f_data, f_serial, f_divider, f_sending, f_dueSent, f_received, f_overrun, f_sent, f_converter, f_result, f_dueResult, f_output, f_watch, f_dueWatch, f_address, f_storing, f_storeAt, f_storeControl, f_dueStore, f_mask, f_edges, f_due, f_head, f_headAt, f_headFlags, f_stop, f_pure, a_op, a_opA, a_opB, a_vectors, a_analogs, upd a_r p.toNatClampNeg ((x + y) &&& 255), a_m, a_stack, a_count, a_since, a_control, a_compare, a_dueEqual, a_dueOver, a_line, a_store, a_headR)) : wX_calculate_102 post p x y z f_length f_inputs f_sp f_pc f_zero f_carry f_allowed f_asleep f_halted f_pending f_resets f_taken (nI T) f_data f_serial f_divider f_sending f_dueSent f_received f_overrun f_sent f_converter f_result f_dueResult f_output f_watch f_dueWatch f_address f_storing f_storeAt f_storeControl f_dueStore f_mask f_edges f_due f_head f_headAt f_headFlags f_stop f_pure a_op a_opA a_opB a_vectors a_analogs a_r a_m a_stack a_count a_since a_control a_compare a_dueEqual a_dueOver a_line a_store a_headR :=
  And.intro (tc_nb hz) (And.intro (tc_fb hz) (tc_set hp h))
theorem tc_cX131 {p x y z : Int32} (hp : vp_in p 8) (hz : tc_bo z) (h : post (f_length, f_inputs, f_sp, f_pc, tc_zb ((x - y) &&& 255), z, f_allowed, f_asleep, f_halted, f_pending, f_resets, f_taken, nI T, f_data, f_serial, f_divider, f_sending, f_dueSent, f_received, f_overrun, f_sent, f_converter, f_result, f_dueResult, f_output, f_watch, f_dueWatch, f_address, f_storing, f_storeAt, f_storeControl, f_dueStore, f_mask, f_edges, f_due, f_head, f_headAt, f_headFlags, f_stop, f_pure, a_op, a_opA, a_opB, a_vectors, a_analogs, upd a_r p.toNatClampNeg ((x - y) &&& 255), a_m, a_stack, a_count, a_since, a_control, a_compare, a_dueEqual, a_dueOver, a_line, a_store, a_headR)) : wX_calculate_131 post p x y z f_length f_inputs f_sp f_pc f_zero f_carry f_allowed f_asleep f_halted f_pending f_resets f_taken (nI T) f_data f_serial f_divider f_sending f_dueSent f_received f_overrun f_sent f_converter f_result f_dueResult f_output f_watch f_dueWatch f_address f_storing f_storeAt f_storeControl f_dueStore f_mask f_edges f_due f_head f_headAt f_headFlags f_stop f_pure a_op a_opA a_opB a_vectors a_analogs a_r a_m a_stack a_count a_since a_control a_compare a_dueEqual a_dueOver a_line a_store a_headR :=
  And.intro (tc_nb hz) (And.intro (tc_fb hz) (tc_set hp h))
end
section
variable {post : SY → Prop} {T : Nat} {f_length f_inputs f_sp f_pc f_zero f_carry f_allowed f_asleep f_halted f_pending f_resets f_taken f_data f_serial f_divider f_sending f_dueSent f_received f_overrun f_sent f_converter f_result f_dueResult f_output f_watch f_dueWatch f_address f_storing f_storeAt f_storeControl f_dueStore f_mask f_edges f_due f_head f_headAt f_headFlags f_stop f_pure : Int32} {a_op a_opA a_opB a_vectors a_analogs a_r a_m a_stack a_count a_since a_control a_compare a_dueEqual a_dueOver a_line a_store a_headR : Nat → Int32} {g_passed g_converter g_since : Int32} {l_s l_c l_b : Nat} {b_opA b_opB b_store b_pending b_count : Nat → Int32}
theorem tc_flag {v : Int32} (h : post (f_length, f_inputs, tc_zb (v &&& 255), f_carry, f_allowed, f_asleep, f_halted, f_sp, f_pc, nI T, g_passed, f_taken, f_resets, f_edges, f_sent, f_data, f_serial, f_divider, g_converter, f_result, f_output, f_watch, f_address, f_storeControl, f_mask, g_since, f_received, f_overrun, nI l_s, f_sending, nI l_c, nI l_b, f_storing, f_storeAt, a_op, b_opA, b_opB, a_vectors, a_analogs, b_store, a_r, a_m, a_stack, a_line, b_pending, b_count, a_control, a_compare)) : wpY_flag post (f_length, f_inputs, f_zero, f_carry, f_allowed, f_asleep, f_halted, f_sp, f_pc, nI T, g_passed, f_taken, f_resets, f_edges, f_sent, f_data, f_serial, f_divider, g_converter, f_result, f_output, f_watch, f_address, f_storeControl, f_mask, g_since, f_received, f_overrun, nI l_s, f_sending, nI l_c, nI l_b, f_storing, f_storeAt, a_op, b_opA, b_opB, a_vectors, a_analogs, b_store, a_r, a_m, a_stack, a_line, b_pending, b_count, a_control, a_compare) v := by
  unfold tc_zb at h
  by_cases c : v &&& 255 = 0
  · rw [if_pos c] at h; exact br_t c h
  · rw [if_neg c] at h; exact br_f c h
/-- the end of Y's calculate where a register is set and the zero flag goes by the value -/
theorem tc_cY142 {o p v : Int32} (hp : vp_in p 8) (h1 : ¬ o ≤ 1) (h4 : ¬ o = 4) (h : post (f_length, f_inputs, tc_zb (v &&& 255), f_carry, f_allowed, f_asleep, f_halted, f_sp, f_pc, nI T, g_passed, f_taken, f_resets, f_edges, f_sent, f_data, f_serial, f_divider, g_converter, f_result, f_output, f_watch, f_address, f_storeControl, f_mask, g_since, f_received, f_overrun, nI l_s, f_sending, nI l_c, nI l_b, f_storing, f_storeAt, a_op, b_opA, b_opB, a_vectors, a_analogs, b_store, upd a_r p.toNatClampNeg (v &&& 255), a_m, a_stack, a_line, b_pending, b_count, a_control, a_compare)) : wY_calculate_142 post o p v f_length f_inputs f_zero f_carry f_allowed f_asleep f_halted f_sp f_pc (nI T) g_passed f_taken f_resets f_edges f_sent f_data f_serial f_divider g_converter f_result f_output f_watch f_address f_storeControl f_mask g_since f_received f_overrun (nI l_s) f_sending (nI l_c) (nI l_b) f_storing f_storeAt a_op b_opA b_opB a_vectors a_analogs b_store a_r a_m a_stack a_line b_pending b_count a_control a_compare := by
  refine br_f h1 ?_
  refine tc_flag ?_
  exact br_f h4 ⟨hp, nm_e h⟩
end
/-- what calculate leaves: registers and flags, the same on both sides -/
def tc_CA (o p : Int32) (bx : Int32) (f_length f_inputs f_sp f_pc f_zero f_carry f_allowed f_asleep f_halted f_pending f_resets f_taken f_data f_serial f_divider f_sending f_dueSent f_received f_overrun f_sent f_converter f_result f_dueResult f_output f_watch f_dueWatch f_address f_storing f_storeAt f_storeControl f_dueStore f_mask f_edges f_due f_head f_headAt f_headFlags f_stop f_pure : Int32) (a_op a_opA a_opB a_vectors a_analogs a_r a_m a_stack a_count a_since a_control a_compare a_dueEqual a_dueOver a_line a_store a_headR : Nat → Int32) (r' : Nat → Int32) (z' c' : Int32) : Prop :=
  (∀ (T : Nat) (post : SX → Prop), post (f_length, f_inputs, f_sp, f_pc, z', c', f_allowed, f_asleep, f_halted, f_pending, f_resets, f_taken, nI T, f_data, f_serial, f_divider, f_sending, f_dueSent, f_received, f_overrun, f_sent, f_converter, f_result, f_dueResult, f_output, f_watch, f_dueWatch, f_address, f_storing, f_storeAt, f_storeControl, f_dueStore, f_mask, f_edges, f_due, f_head, f_headAt, f_headFlags, f_stop, f_pure, a_op, a_opA, a_opB, a_vectors, a_analogs, r', a_m, a_stack, a_count, a_since, a_control, a_compare, a_dueEqual, a_dueOver, a_line, a_store, a_headR) → wpX_calculate post (f_length, f_inputs, f_sp, f_pc, f_zero, f_carry, f_allowed, f_asleep, f_halted, f_pending, f_resets, f_taken, nI T, f_data, f_serial, f_divider, f_sending, f_dueSent, f_received, f_overrun, f_sent, f_converter, f_result, f_dueResult, f_output, f_watch, f_dueWatch, f_address, f_storing, f_storeAt, f_storeControl, f_dueStore, f_mask, f_edges, f_due, f_head, f_headAt, f_headFlags, f_stop, f_pure, a_op, a_opA, a_opB, a_vectors, a_analogs, a_r, a_m, a_stack, a_count, a_since, a_control, a_compare, a_dueEqual, a_dueOver, a_line, a_store, a_headR) o p bx) ∧
  (∀ (T : Nat) (g_passed g_converter g_since : Int32) (l_s l_c l_b : Nat) (b_opA b_opB b_store b_pending b_count : Nat → Int32) (pcy : Int32) (post : SY → Prop), post (f_length, f_inputs, z', c', f_allowed, f_asleep, f_halted, f_sp, pcy, nI T, g_passed, f_taken, f_resets, f_edges, f_sent, f_data, f_serial, f_divider, g_converter, f_result, f_output, f_watch, f_address, f_storeControl, f_mask, g_since, f_received, f_overrun, nI l_s, f_sending, nI l_c, nI l_b, f_storing, f_storeAt, a_op, b_opA, b_opB, a_vectors, a_analogs, b_store, r', a_m, a_stack, a_line, b_pending, b_count, a_control, a_compare) → wpY_calculate post (f_length, f_inputs, f_zero, f_carry, f_allowed, f_asleep, f_halted, f_sp, pcy, nI T, g_passed, f_taken, f_resets, f_edges, f_sent, f_data, f_serial, f_divider, g_converter, f_result, f_output, f_watch, f_address, f_storeControl, f_mask, g_since, f_received, f_overrun, nI l_s, f_sending, nI l_c, nI l_b, f_storing, f_storeAt, a_op, b_opA, b_opB, a_vectors, a_analogs, b_store, a_r, a_m, a_stack, a_line, b_pending, b_count, a_control, a_compare) o p (if o = 0 then bx else a_r p.toNatClampNeg) (a_r (bx &&& 7).toNatClampNeg)) ∧
  (∀ i, tc_y8 (r' i)) ∧ (∀ i, 8 ≤ i → r' i = 0) ∧ tc_bo z' ∧ tc_bo c'
section
variable {f_length f_inputs f_sp f_pc f_zero f_carry f_allowed f_asleep f_halted f_pending f_resets f_taken f_data f_serial f_divider f_sending f_dueSent f_received f_overrun f_sent f_converter f_result f_dueResult f_output f_watch f_dueWatch f_address f_storing f_storeAt f_storeControl f_dueStore f_mask f_edges f_due f_head f_headAt f_headFlags f_stop f_pure : Int32} {a_op a_opA a_opB a_vectors a_analogs a_r a_m a_stack a_count a_since a_control a_compare a_dueEqual a_dueOver a_line a_store a_headR : Nat → Int32}
theorem tc_and7i (x : Int32) : vp_in (x &&& 7) 8 := pk_andIn x 3 (by decide) (by decide)
theorem tc_and31i (x : Int32) : vp_in (x &&& 31) 32 := pk_andIn x 5 (by decide) (by decide)
theorem tc_calc {o : Nat} (ho : o < 8) {p bx : Int32} (hp : vp_in p 8) (hb : tc_y8 bx) (hR : ∀ i, tc_y8 (a_r i)) (hR0 : ∀ i, 8 ≤ i → a_r i = 0) (hZ : tc_bo f_zero) (hC : tc_bo f_carry) :
    ∃ (r' : Nat → Int32) (z' c' : Int32), tc_CA (nI o) p bx f_length f_inputs f_sp f_pc f_zero f_carry f_allowed f_asleep f_halted f_pending f_resets f_taken f_data f_serial f_divider f_sending f_dueSent f_received f_overrun f_sent f_converter f_result f_dueResult f_output f_watch f_dueWatch f_address f_storing f_storeAt f_storeControl f_dueStore f_mask f_edges f_due f_head f_headAt f_headFlags f_stop f_pure a_op a_opA a_opB a_vectors a_analogs a_r a_m a_stack a_count a_since a_control a_compare a_dueEqual a_dueOver a_line a_store a_headR r' z' c' := by
  have hb7 := tc_and7i bx
  have : o = 0 ∨ o = 1 ∨ o = 2 ∨ o = 3 ∨ o = 4 ∨ o = 5 ∨ o = 6 ∨ o = 7 := by omega
  rcases this with rfl | rfl | rfl | rfl | rfl | rfl | rfl | rfl
  · obtain ⟨q1, q2⟩ := tc_rup hp hR hR0 hb
    refine ⟨upd a_r p.toNatClampNeg bx, f_zero, f_carry, fun T post h => ?_, fun T g_passed g_converter g_since l_s l_c l_b b_opA b_opB b_store b_pending b_count pcy post h => ?_, q1, q2, hZ, hC⟩
    · exact And.intro hp (nm_e (And.intro hb7 (nm_e (br_f (by decide) (br_f (by decide) (br_t rfl ⟨hp, nm_e h⟩))))))
    · rw [if_pos nI_0]
      refine br_t rfl (br_f (by decide) (br_f (by decide) (br_f (by decide) (br_f (by decide) (br_t (by decide) (br_f (by decide) ⟨hp, nm_e ?_⟩))))))
      rw [hb]; exact h
  · obtain ⟨q1, q2⟩ := tc_rup hp hR hR0 (hR (bx &&& 7).toNatClampNeg)
    refine ⟨upd a_r p.toNatClampNeg (a_r (bx &&& 7).toNatClampNeg), f_zero, f_carry, fun T post h => ?_, fun T g_passed g_converter g_since l_s l_c l_b b_opA b_opB b_store b_pending b_count pcy post h => ?_, q1, q2, hZ, hC⟩
    · exact And.intro hp (nm_e (And.intro hb7 (nm_e (br_f (by decide) (br_f (by decide) (br_f (by decide) (br_t rfl ⟨hp, nm_e h⟩)))))))
    · rw [if_neg (by decide)]
      refine br_f (by decide) (br_t rfl (br_f (by decide) (br_f (by decide) (br_f (by decide) (br_f (by decide) (br_t (by decide) (br_f (by decide) ⟨hp, nm_e ?_⟩)))))))
      rw [hR (bx &&& 7).toNatClampNeg]; exact h
  · obtain ⟨q1, q2⟩ := tc_rup hp hR hR0 (tc_y8_and (a_r p.toNatClampNeg + a_r (bx &&& 7).toNatClampNeg))
    refine ⟨_, tc_zb ((a_r p.toNatClampNeg + a_r (bx &&& 7).toNatClampNeg) &&& 255), tc_lb (a_r p.toNatClampNeg + a_r (bx &&& 7).toNatClampNeg) 255, fun T post h => ?_, fun T g_passed g_converter g_since l_s l_c l_b b_opA b_opB b_store b_pending b_count pcy post h => ?_, q1, q2, tc_zb_bo _, tc_lb_bo _ _⟩
    · refine And.intro hp (nm_e (And.intro hb7 (nm_e (br_f (by decide) (br_f (by decide) (br_f (by decide) (br_f (by decide) (br_t rfl ?_))))))))
      unfold tc_lb at h
      by_cases c : a_r p.toNatClampNeg + a_r (bx &&& 7).toNatClampNeg ≤ 255
      · rw [if_pos c] at h; exact br_t c (tc_cX102 hp tc_bo0 h)
      · rw [if_neg c] at h; exact br_f c (tc_cX102 hp tc_bo1 h)
    · rw [if_neg (by decide)]
      refine br_f (by decide) (br_f (by decide) (br_t rfl (br_t rfl ?_)))
      unfold tc_lb at h
      by_cases c : a_r p.toNatClampNeg + a_r (bx &&& 7).toNatClampNeg ≤ 255
      · rw [if_pos c] at h
        exact br_t c (And.intro tc_n0 (And.intro tc_f0 (br_f (by decide) (br_f (by decide) (br_f (by decide) (tc_cY142 hp (by decide) (by decide) h))))))
      · rw [if_neg c] at h
        exact br_f c (And.intro tc_n1 (And.intro tc_f1 (br_f (by decide) (br_f (by decide) (br_f (by decide) (tc_cY142 hp (by decide) (by decide) h))))))
  · obtain ⟨q1, q2⟩ := tc_rup hp hR hR0 (tc_y8_and (a_r p.toNatClampNeg - a_r (bx &&& 7).toNatClampNeg))
    refine ⟨_, tc_zb ((a_r p.toNatClampNeg - a_r (bx &&& 7).toNatClampNeg) &&& 255), tc_lb (a_r (bx &&& 7).toNatClampNeg) (a_r p.toNatClampNeg), fun T post h => ?_, fun T g_passed g_converter g_since l_s l_c l_b b_opA b_opB b_store b_pending b_count pcy post h => ?_, q1, q2, tc_zb_bo _, tc_lb_bo _ _⟩
    · refine And.intro hp (nm_e (And.intro hb7 (nm_e (br_f (by decide) (br_f (by decide) (br_f (by decide) (br_f (by decide) (br_f (by decide) (br_t rfl ?_)))))))))
      unfold tc_lb at h
      by_cases c : a_r (bx &&& 7).toNatClampNeg ≤ a_r p.toNatClampNeg
      · rw [if_pos c] at h; exact br_t c (tc_cX131 hp tc_bo0 h)
      · rw [if_neg c] at h; exact br_f c (tc_cX131 hp tc_bo1 h)
    · rw [if_neg (by decide)]
      refine br_f (by decide) (br_f (by decide) (br_f (by decide) (br_f (by decide) (br_f (by decide) (br_f (by decide) (br_f (by decide) (br_t rfl ?_)))))))
      unfold tc_lb at h
      by_cases c : a_r (bx &&& 7).toNatClampNeg ≤ a_r p.toNatClampNeg
      · rw [if_pos c] at h
        exact br_t c (And.intro tc_n0 (And.intro tc_f0 (br_f (by decide) (tc_cY142 hp (by decide) (by decide) h))))
      · rw [if_neg c] at h
        exact br_f c (And.intro tc_n1 (And.intro tc_f1 (br_f (by decide) (tc_cY142 hp (by decide) (by decide) h))))
  · refine ⟨a_r, tc_zb ((a_r p.toNatClampNeg - a_r (bx &&& 7).toNatClampNeg) &&& 255), tc_lb (a_r (bx &&& 7).toNatClampNeg) (a_r p.toNatClampNeg), fun T post h => ?_, fun T g_passed g_converter g_since l_s l_c l_b b_opA b_opB b_store b_pending b_count pcy post h => ?_, hR, hR0, tc_zb_bo _, tc_lb_bo _ _⟩
    · refine And.intro hp (nm_e (And.intro hb7 (nm_e (br_f (by decide) (br_f (by decide) (br_f (by decide) (br_f (by decide) (br_f (by decide) (br_f (by decide) (br_t rfl ?_))))))))))
      have q : ∀ z, tc_bo z → post (f_length, f_inputs, f_sp, f_pc, tc_zb ((a_r p.toNatClampNeg - a_r (bx &&& 7).toNatClampNeg) &&& 255), z, f_allowed, f_asleep, f_halted, f_pending, f_resets, f_taken, nI T, f_data, f_serial, f_divider, f_sending, f_dueSent, f_received, f_overrun, f_sent, f_converter, f_result, f_dueResult, f_output, f_watch, f_dueWatch, f_address, f_storing, f_storeAt, f_storeControl, f_dueStore, f_mask, f_edges, f_due, f_head, f_headAt, f_headFlags, f_stop, f_pure, a_op, a_opA, a_opB, a_vectors, a_analogs, a_r, a_m, a_stack, a_count, a_since, a_control, a_compare, a_dueEqual, a_dueOver, a_line, a_store, a_headR) → wX_calculate_160 post (a_r p.toNatClampNeg) (a_r (bx &&& 7).toNatClampNeg) z f_length f_inputs f_sp f_pc f_zero f_carry f_allowed f_asleep f_halted f_pending f_resets f_taken (nI T) f_data f_serial f_divider f_sending f_dueSent f_received f_overrun f_sent f_converter f_result f_dueResult f_output f_watch f_dueWatch f_address f_storing f_storeAt f_storeControl f_dueStore f_mask f_edges f_due f_head f_headAt f_headFlags f_stop f_pure a_op a_opA a_opB a_vectors a_analogs a_r a_m a_stack a_count a_since a_control a_compare a_dueEqual a_dueOver a_line a_store a_headR := by
        intro z hz h
        refine And.intro (tc_nb hz) (And.intro (tc_fb hz) ?_)
        unfold tc_zb at h
        by_cases c : a_r p.toNatClampNeg = a_r (bx &&& 7).toNatClampNeg
        · rw [if_pos ((tc_sub0 (hR _) (hR _)).mpr c)] at h; exact br_t c h
        · rw [if_neg (fun w => c ((tc_sub0 (hR _) (hR _)).mp w))] at h; exact br_f c h
      unfold tc_lb at h
      by_cases c : a_r (bx &&& 7).toNatClampNeg ≤ a_r p.toNatClampNeg
      · rw [if_pos c] at h; exact br_t c (q _ tc_bo0 h)
      · rw [if_neg c] at h; exact br_f c (q _ tc_bo1 h)
    · rw [if_neg (by decide)]
      refine br_f (by decide) (br_f (by decide) (br_f (by decide) (br_f (by decide) (br_f (by decide) (br_f (by decide) (br_f (by decide) (br_f (by decide) (br_t rfl ?_))))))))
      unfold tc_lb at h
      by_cases c : a_r (bx &&& 7).toNatClampNeg ≤ a_r p.toNatClampNeg
      · rw [if_pos c] at h
        exact br_t c (And.intro tc_n0 (And.intro tc_f0 (br_f (by decide) (br_f (by decide) (tc_flag (br_t rfl h))))))
      · rw [if_neg c] at h
        exact br_f c (And.intro tc_n1 (And.intro tc_f1 (br_f (by decide) (br_f (by decide) (tc_flag (br_t rfl h))))))
  · obtain ⟨q1, q2⟩ := tc_rup hp hR hR0 (tc_y8_and (a_r p.toNatClampNeg &&& a_r (bx &&& 7).toNatClampNeg))
    refine ⟨_, tc_zb ((a_r p.toNatClampNeg &&& a_r (bx &&& 7).toNatClampNeg) &&& 255), f_carry, fun T post h => ?_, fun T g_passed g_converter g_since l_s l_c l_b b_opA b_opB b_store b_pending b_count pcy post h => ?_, q1, q2, tc_zb_bo _, hC⟩
    · exact And.intro hp (nm_e (And.intro hb7 (nm_e (br_f (by decide) (br_f (by decide) (br_f (by decide) (br_f (by decide) (br_f (by decide) (br_f (by decide) (br_f (by decide) (br_t rfl (tc_set hp h))))))))))))
    · rw [if_neg (by decide)]
      exact br_f (by decide) (br_f (by decide) (br_f (by decide) (br_t rfl (br_f (by decide) (br_f (by decide) (br_f (by decide) (br_f (by decide) (tc_cY142 hp (by decide) (by decide) h))))))))
  · obtain ⟨q1, q2⟩ := tc_rup hp hR hR0 (tc_y8_and (a_r p.toNatClampNeg ^^^ a_r (bx &&& 7).toNatClampNeg))
    refine ⟨_, tc_zb ((a_r p.toNatClampNeg ^^^ a_r (bx &&& 7).toNatClampNeg) &&& 255), f_carry, fun T post h => ?_, fun T g_passed g_converter g_since l_s l_c l_b b_opA b_opB b_store b_pending b_count pcy post h => ?_, q1, q2, tc_zb_bo _, hC⟩
    · exact And.intro hp (nm_e (And.intro hb7 (nm_e (br_f (by decide) (br_f (by decide) (br_f (by decide) (br_f (by decide) (br_f (by decide) (br_f (by decide) (br_f (by decide) (br_f (by decide) (br_t rfl (tc_set hp h)))))))))))))
    · rw [if_neg (by decide)]
      exact br_f (by decide) (br_f (by decide) (br_f (by decide) (br_f (by decide) (br_t rfl (br_f (by decide) (br_f (by decide) (br_f (by decide) (br_f (by decide) (tc_cY142 hp (by decide) (by decide) h)))))))))
  · obtain ⟨q1, q2⟩ := tc_rup hp hR hR0 (tc_y8_and (a_r p.toNatClampNeg >>> ((1 : Int32) &&& 31)))
    refine ⟨_, tc_zb ((a_r p.toNatClampNeg >>> ((1 : Int32) &&& 31)) &&& 255), a_r p.toNatClampNeg &&& 1, fun T post h => ?_, fun T g_passed g_converter g_since l_s l_c l_b b_opA b_opB b_store b_pending b_count pcy post h => ?_, q1, q2, tc_zb_bo _, tc_a1 _⟩
    · refine And.intro hp (nm_e (And.intro hb7 (nm_e (br_f (by decide) (br_t (by decide) ?_)))))
      rcases tc_a1 (a_r p.toNatClampNeg) with c | c
      · rw [c] at h; exact br_t c (tc_cX221 hp tc_bo0 h)
      · rw [c] at h; exact br_f (by rw [c]; decide) (tc_cX221 hp tc_bo1 h)
    · rw [if_neg (by decide)]
      refine br_f (by decide) (br_f (by decide) (br_f (by decide) (br_f (by decide) (br_f (by decide) (br_t rfl (br_f (by decide) (br_f (by decide) (br_f (by decide) (br_t rfl ?_)))))))))
      rcases tc_a1 (a_r p.toNatClampNeg) with c | c
      · rw [c] at h
        exact br_f (by rw [c]; decide) (And.intro tc_n0 (And.intro tc_f0 (tc_cY142 hp (by decide) (by decide) h)))
      · rw [c] at h
        exact br_t c (And.intro tc_n1 (And.intro tc_f1 (tc_cY142 hp (by decide) (by decide) h)))
end
end
section
/-! the ports that are read -/
def tc_FF (T : Nat) (f_length f_inputs f_sp f_pc f_zero f_carry f_allowed f_asleep f_halted f_pending f_resets f_taken f_data f_serial f_divider f_sending f_dueSent f_received f_overrun f_sent f_converter f_result f_dueResult f_output f_watch f_dueWatch f_address f_storing f_storeAt f_storeControl f_dueStore f_mask f_edges f_due f_head f_headAt f_headFlags f_stop f_pure : Int32) (a_op a_opA a_opB a_vectors a_analogs a_r a_m a_stack a_count a_since a_control a_compare a_dueEqual a_dueOver a_line a_store a_headR : Nat → Int32) (g_passed g_converter g_since : Int32) (l_s l_c l_b : Nat) (b_opA b_opB b_store b_pending b_count : Nat → Int32) : Prop := (tc_rg f_length 48) ∧ (∀ i, tc_rg (a_op i) 26) ∧ (∀ i, a_opA i = b_opA i &&& 7) ∧ (∀ i, a_opB i = b_opB i &&& 255) ∧ (∀ i, tc_y8 (a_analogs i)) ∧ (∀ i, tc_y8 (a_m i)) ∧ (∀ i, b_store i = a_store i &&& 255) ∧ (∀ i, tc_y8 (a_r i)) ∧ (∀ i, 8 ≤ i → a_r i = 0) ∧ (tc_bo f_zero) ∧ (tc_bo f_carry) ∧ (tc_bo f_allowed) ∧ (tc_bo f_asleep) ∧ (tc_bo f_halted) ∧ (tc_bo f_received) ∧ (tc_bo f_overrun) ∧ (tc_bo f_pure) ∧ (tc_rg f_sp 16) ∧ (T ≤ 1100000000) ∧ (tc_rg f_sent T) ∧ (tc_y8 f_inputs) ∧ (tc_y8 f_data) ∧ (tc_y8 f_divider) ∧ (tc_y8 f_result) ∧ (tc_y8 f_output) ∧ (tc_y8 f_watch) ∧ (tc_y8 f_mask) ∧ (tc_y8 f_sending) ∧ (tc_y8 f_storing) ∧ (tc_rg f_address 15) ∧ (tc_rg f_storeAt 15) ∧ (f_serial &&& 24 = f_serial) ∧ (f_storeControl &&& 8 = f_storeControl) ∧ (f_converter = g_converter &&& 251) ∧ (tc_y8 g_converter) ∧ (tc_pF f_pending b_pending) ∧ (tc_tF T (a_count 0) (a_since 0) (a_control 0) (a_compare 0) (a_dueEqual 0) (a_dueOver 0) (b_count 0)) ∧ (tc_tF T (a_count 1) (a_since 1) (a_control 1) (a_compare 1) (a_dueEqual 1) (a_dueOver 1) (b_count 1)) ∧ (tc_uF T l_s f_dueSent) ∧ (tc_uF T l_c f_dueResult) ∧ (tc_uF T l_b f_dueStore) ∧ (tc_wF T f_watch g_since f_dueWatch) ∧ (f_due = tc_du f_dueSent f_dueResult f_dueWatch f_dueStore a_dueEqual a_dueOver)
def tc_IN (q : Nat) (f_length f_inputs f_sp f_pc f_zero f_carry f_allowed f_asleep f_halted f_pending f_resets f_taken f_data f_serial f_divider f_sending f_dueSent f_received f_overrun f_sent f_converter f_result f_dueResult f_output f_watch f_dueWatch f_address f_storing f_storeAt f_storeControl f_dueStore f_mask f_edges f_due f_head f_headAt f_headFlags f_stop f_pure : Int32) (a_op a_opA a_opB a_vectors a_analogs a_r a_m a_stack a_count a_since a_control a_compare a_dueEqual a_dueOver a_line a_store a_headR : Nat → Int32) (rv : Int32) : Prop :=
  (∀ (T : Nat) (pcx fp : Int32) (pz : Int32 → Prop), pz rv → wpX_in pz (f_length, f_inputs, f_sp, pcx, f_zero, f_carry, f_allowed, f_asleep, f_halted, f_pending, f_resets, f_taken, nI T, f_data, f_serial, f_divider, f_sending, f_dueSent, f_received, f_overrun, f_sent, f_converter, f_result, f_dueResult, f_output, f_watch, f_dueWatch, f_address, f_storing, f_storeAt, f_storeControl, f_dueStore, f_mask, f_edges, f_due, f_head, f_headAt, f_headFlags, f_stop, fp, a_op, a_opA, a_opB, a_vectors, a_analogs, a_r, a_m, a_stack, a_count, a_since, a_control, a_compare, a_dueEqual, a_dueOver, a_line, a_store, a_headR) (nI q)) ∧
  (∀ (T : Nat) (g_passed g_converter g_since : Int32) (l_s l_c l_b : Nat) (b_opA b_opB b_store b_pending b_count : Nat → Int32), tc_FF T f_length f_inputs f_sp f_pc f_zero f_carry f_allowed f_asleep f_halted f_pending f_resets f_taken f_data f_serial f_divider f_sending f_dueSent f_received f_overrun f_sent f_converter f_result f_dueResult f_output f_watch f_dueWatch f_address f_storing f_storeAt f_storeControl f_dueStore f_mask f_edges f_due f_head f_headAt f_headFlags f_stop f_pure a_op a_opA a_opB a_vectors a_analogs a_r a_m a_stack a_count a_since a_control a_compare a_dueEqual a_dueOver a_line a_store a_headR g_passed g_converter g_since l_s l_c l_b b_opA b_opB b_store b_pending b_count → ∀ (pcy : Int32) (pz : Int32 → Prop), pz rv → wpY_read pz (f_length, f_inputs, f_zero, f_carry, f_allowed, f_asleep, f_halted, f_sp, pcy, nI T, g_passed, f_taken, f_resets, f_edges, f_sent, f_data, f_serial, f_divider, g_converter, f_result, f_output, f_watch, f_address, f_storeControl, f_mask, g_since, f_received, f_overrun, nI l_s, f_sending, nI l_c, nI l_b, f_storing, f_storeAt, a_op, b_opA, b_opB, a_vectors, a_analogs, b_store, a_r, a_m, a_stack, a_line, b_pending, b_count, a_control, a_compare) (nI q)) ∧
  ((∃ (T : Nat) (g_passed g_converter g_since : Int32) (l_s l_c l_b : Nat) (b_opA b_opB b_store b_pending b_count : Nat → Int32), tc_FF T f_length f_inputs f_sp f_pc f_zero f_carry f_allowed f_asleep f_halted f_pending f_resets f_taken f_data f_serial f_divider f_sending f_dueSent f_received f_overrun f_sent f_converter f_result f_dueResult f_output f_watch f_dueWatch f_address f_storing f_storeAt f_storeControl f_dueStore f_mask f_edges f_due f_head f_headAt f_headFlags f_stop f_pure a_op a_opA a_opB a_vectors a_analogs a_r a_m a_stack a_count a_since a_control a_compare a_dueEqual a_dueOver a_line a_store a_headR g_passed g_converter g_since l_s l_c l_b b_opA b_opB b_store b_pending b_count) → tc_y8 rv)
theorem tc_d13 : ¬ (3 : Int32) = 0 := by decide
theorem tc_tFk {T : Nat} {c s ctl cmp dE dO y : Int32} (h : tc_tF T c s ctl cmp dE dO y) : tc_y8 ctl ∧ tc_y8 cmp ∧ tc_y8 y := by
  obtain ⟨c, s, k, m, y, hc, hs, hk, hm, hy, c8, hsT, k8, m8, ey, eE, eO⟩ := h
  rw [hk, hm, hy]
  exact ⟨tc_y8_nI k8, tc_y8_nI m8, tc_y8_nI (by rw [ey]; exact tm_af_lt m8)⟩
theorem tc_rg8 {x : Int32} {n : Nat} (h : tc_rg x n) (hn : n < 256) : tc_y8 x := by
  obtain ⟨k, hk, rfl⟩ := h
  exact tc_y8_nI (by omega)
/-! the pending bits as a number -/
theorem tc_pbit (x : Int32) (i : Nat) (hi : i < 32) : x.toBitVec.toNat / 2 ^ i % 2 = if bt x i then 1 else 0 := by
  unfold bt
  rw [BitVec.getLsbD, Nat.testBit_eq_decide_div_mod_eq]
  by_cases h : x.toBitVec.toNat / 2 ^ i % 2 = 1
  · rw [decide_eq_true h, if_pos rfl, h]
  · rw [decide_eq_false h, if_neg (by decide)]; omega
theorem tc_1k : ∀ k, k < 8 → (1 : Int32) <<< (nI k &&& 31) = nI (2 ^ k) := by decide +kernel
section
variable {pz : Int32 → Prop} {T : Nat} {f_length f_inputs f_sp f_pc f_zero f_carry f_allowed f_asleep f_halted f_pending f_resets f_taken f_data f_serial f_divider f_sending f_dueSent f_received f_overrun f_sent f_converter f_result f_dueResult f_output f_watch f_dueWatch f_address f_storing f_storeAt f_storeControl f_dueStore f_mask f_edges f_due f_head f_headAt f_headFlags f_stop f_pure : Int32} {a_op a_opA a_opB a_vectors a_analogs a_r a_m a_stack a_count a_since a_control a_compare a_dueEqual a_dueOver a_line a_store a_headR : Nat → Int32} {g_passed g_converter g_since : Int32} {l_s l_c l_b : Nat} {b_opA b_opB b_store b_pending b_count : Nat → Int32}
theorem tc_r207 (hPe : tc_pF f_pending b_pending) (h : pz (f_pending &&& 255)) : ∀ (d i : Nat), i + d = 8 → wY_read_207 pz f_length f_inputs f_zero f_carry f_allowed f_asleep f_halted f_sp f_pc (nI T) g_passed f_taken f_resets f_edges f_sent f_data f_serial f_divider g_converter f_result f_output f_watch f_address f_storeControl f_mask g_since f_received f_overrun (nI l_s) f_sending (nI l_c) (nI l_b) f_storing f_storeAt a_op b_opA b_opB a_vectors a_analogs b_store a_r a_m a_stack a_line b_pending b_count a_control a_compare (d + 1) (nI (f_pending.toBitVec.toNat % 2 ^ i)) (nI i) := by
  intro d
  induction d with
  | zero =>
    intro i hi
    have h8 : i = 8 := by omega
    subst h8
    refine br_t (by decide) ?_
    rw [pk_and f_pending 8 (by decide)] at h
    exact h
  | succ d ih =>
    intro i hi
    have e := nI_clamp (n := i) (by omega)
    have i1 := ih (i + 1) (by omega)
    rw [Nat.mod_pow_succ, tc_pbit f_pending i (by omega)] at i1
    refine br_f (nI_ge (b := 8) (by omega) (by decide)) ?_
    rw [e, nI_1, hPe i (by omega), tc_1k i (by omega)]
    refine ⟨vp_in_nI (by omega) (by decide), ?_⟩
    cases hb : bt f_pending i
    · rw [hb] at i1
      refine br_t rfl (nm_e ?_)
      exact i1
    · rw [hb] at i1
      refine br_f (by decide) (nm_e (nm_e ?_))
      rw [nI_add]
      rw [if_pos rfl, Nat.mul_one] at i1
      exact i1
theorem tc_uF7 {T L : Nat} {d : Int32} (hT : T ≤ 1100000000) (h : tc_uF T L d) : (d = 2147483647 → L = 0) ∧ (¬ d = 2147483647 → 0 < L ∧ L ≤ 2048) := by
  rcases h with ⟨h, e⟩ | ⟨a, b, e⟩
  · exact ⟨fun _ => h, fun z => absurd e z⟩
  · refine ⟨fun z => ?_, fun _ => ⟨a, b⟩⟩
    rw [e, tc_7f] at z
    have := (nI_eq (by omega) (by omega)).mp z
    omega
theorem tc_cvn {g : Int32} (h : tc_y8 g) : g &&& (-5) = g &&& 251 := by
  obtain ⟨n, hn, rfl⟩ := tc_y8_ex h
  exact (by decide +kernel : ∀ n, n < 256 → nI n &&& (-5) = nI n &&& 251) n hn
theorem tc_cv4 : ∀ n, n < 256 → (((nI n &&& 251) + 4) &&& 255 = (nI n &&& 251) + 4 ∧ ((nI n &&& 251) + 0) &&& 255 = (nI n &&& 251) + 0) := by decide +kernel
theorem tc_sr24 {s : Int32} (h : s &&& 24 = s) : s = 0 ∨ s = 8 ∨ s = 16 ∨ s = 24 := by
  have h5 : s &&& 31 = s := by
    have : (s &&& 24) &&& 31 = s &&& 24 := by
      apply b_ext
      intro i hi
      rw [b_and, b_and, Bool.and_assoc]
      refine congrArg (fun z => bt s i && z) ?_
      exact (by decide +kernel : ∀ i, i < 32 → (bt 24 i && bt 31 i) = bt 24 i) i hi
    rw [h] at this; exact this
  obtain ⟨j, hj, e⟩ := pk_andE s (m := 31) 5 (by decide)
  rw [h5] at e
  rw [e] at h ⊢
  exact (by decide +kernel : ∀ j, j < 2 ^ 5 → nI j &&& 24 = nI j → (nI j = 0 ∨ nI j = 8 ∨ nI j = 16 ∨ nI j = 24)) j hj h
theorem tc_sc8 {s : Int32} (h : s &&& 8 = s) : s = 0 ∨ s = 8 := by
  have h24 : s &&& 24 = s := by
    have : (s &&& 8) &&& 24 = s &&& 8 := by
      apply b_ext
      intro i hi
      rw [b_and, b_and, Bool.and_assoc]
      refine congrArg (fun z => bt s i && z) ?_
      exact (by decide +kernel : ∀ i, i < 32 → (bt 8 i && bt 24 i) = bt 8 i) i hi
    rw [h] at this; exact this
  rcases tc_sr24 h24 with e | e | e | e
  · exact Or.inl e
  · exact Or.inr e
  · rw [e] at h; exact absurd h (by decide)
  · rw [e] at h; exact absurd h (by decide)
end
section
variable {T : Nat} {f_length f_inputs f_sp f_pc f_zero f_carry f_allowed f_asleep f_halted f_pending f_resets f_taken f_data f_serial f_divider f_sending f_dueSent f_received f_overrun f_sent f_converter f_result f_dueResult f_output f_watch f_dueWatch f_address f_storing f_storeAt f_storeControl f_dueStore f_mask f_edges f_due f_head f_headAt f_headFlags f_stop f_pure : Int32} {a_op a_opA a_opB a_vectors a_analogs a_r a_m a_stack a_count a_since a_control a_compare a_dueEqual a_dueOver a_line a_store a_headR : Nat → Int32} {g_passed g_converter g_since : Int32} {l_s l_c l_b : Nat} {b_opA b_opB b_store b_pending b_count : Nat → Int32}
theorem tc_in6 : ∃ rv, tc_IN 6 f_length f_inputs f_sp f_pc f_zero f_carry f_allowed f_asleep f_halted f_pending f_resets f_taken f_data f_serial f_divider f_sending f_dueSent f_received f_overrun f_sent f_converter f_result f_dueResult f_output f_watch f_dueWatch f_address f_storing f_storeAt f_storeControl f_dueStore f_mask f_edges f_due f_head f_headAt f_headFlags f_stop f_pure a_op a_opA a_opB a_vectors a_analogs a_r a_m a_stack a_count a_since a_control a_compare a_dueEqual a_dueOver a_line a_store a_headR rv := by
  refine ⟨f_data, fun T pcx fp pz h => ?_, fun T g_passed g_converter g_since l_s l_c l_b b_opA b_opB b_store b_pending b_count F pcy pz h => ?_, fun ⟨T, g_passed, g_converter, g_since, l_s, l_c, l_b, b_opA, b_opB, b_store, b_pending, b_count, F⟩ => ?_⟩
  · repeat refine br_f (by decide) ?_
    exact br_t rfl h
  · repeat refine br_f (by decide) ?_
    exact br_t rfl h
  · obtain ⟨hLen, hOp, hA, hB, hAn, hM, hSt, hR, hR0, hZ, hC, hAl, hAs, hHa, hRe, hOv, hPu, hSp, hT, hSe, hIn, hDa, hDi, hRs, hOu, hWa, hMa, hSg, hSo, hAd, hSA, hSr, hSC, hCv, hCw, hPe, hT0, hT1, hUs, hUc, hUb, hW, hD⟩ := F
    exact hDa
theorem tc_in8 : ∃ rv, tc_IN 8 f_length f_inputs f_sp f_pc f_zero f_carry f_allowed f_asleep f_halted f_pending f_resets f_taken f_data f_serial f_divider f_sending f_dueSent f_received f_overrun f_sent f_converter f_result f_dueResult f_output f_watch f_dueWatch f_address f_storing f_storeAt f_storeControl f_dueStore f_mask f_edges f_due f_head f_headAt f_headFlags f_stop f_pure a_op a_opA a_opB a_vectors a_analogs a_r a_m a_stack a_count a_since a_control a_compare a_dueEqual a_dueOver a_line a_store a_headR rv := by
  refine ⟨f_divider, fun T pcx fp pz h => ?_, fun T g_passed g_converter g_since l_s l_c l_b b_opA b_opB b_store b_pending b_count F pcy pz h => ?_, fun ⟨T, g_passed, g_converter, g_since, l_s, l_c, l_b, b_opA, b_opB, b_store, b_pending, b_count, F⟩ => ?_⟩
  · repeat refine br_f (by decide) ?_
    exact br_t rfl h
  · repeat refine br_f (by decide) ?_
    exact br_t rfl h
  · obtain ⟨hLen, hOp, hA, hB, hAn, hM, hSt, hR, hR0, hZ, hC, hAl, hAs, hHa, hRe, hOv, hPu, hSp, hT, hSe, hIn, hDa, hDi, hRs, hOu, hWa, hMa, hSg, hSo, hAd, hSA, hSr, hSC, hCv, hCw, hPe, hT0, hT1, hUs, hUc, hUb, hW, hD⟩ := F
    exact hDi
theorem tc_in10 : ∃ rv, tc_IN 10 f_length f_inputs f_sp f_pc f_zero f_carry f_allowed f_asleep f_halted f_pending f_resets f_taken f_data f_serial f_divider f_sending f_dueSent f_received f_overrun f_sent f_converter f_result f_dueResult f_output f_watch f_dueWatch f_address f_storing f_storeAt f_storeControl f_dueStore f_mask f_edges f_due f_head f_headAt f_headFlags f_stop f_pure a_op a_opA a_opB a_vectors a_analogs a_r a_m a_stack a_count a_since a_control a_compare a_dueEqual a_dueOver a_line a_store a_headR rv := by
  refine ⟨f_result, fun T pcx fp pz h => ?_, fun T g_passed g_converter g_since l_s l_c l_b b_opA b_opB b_store b_pending b_count F pcy pz h => ?_, fun ⟨T, g_passed, g_converter, g_since, l_s, l_c, l_b, b_opA, b_opB, b_store, b_pending, b_count, F⟩ => ?_⟩
  · repeat refine br_f (by decide) ?_
    exact br_t rfl h
  · repeat refine br_f (by decide) ?_
    exact br_t rfl h
  · obtain ⟨hLen, hOp, hA, hB, hAn, hM, hSt, hR, hR0, hZ, hC, hAl, hAs, hHa, hRe, hOv, hPu, hSp, hT, hSe, hIn, hDa, hDi, hRs, hOu, hWa, hMa, hSg, hSo, hAd, hSA, hSr, hSC, hCv, hCw, hPe, hT0, hT1, hUs, hUc, hUb, hW, hD⟩ := F
    exact hRs
theorem tc_in12 : ∃ rv, tc_IN 12 f_length f_inputs f_sp f_pc f_zero f_carry f_allowed f_asleep f_halted f_pending f_resets f_taken f_data f_serial f_divider f_sending f_dueSent f_received f_overrun f_sent f_converter f_result f_dueResult f_output f_watch f_dueWatch f_address f_storing f_storeAt f_storeControl f_dueStore f_mask f_edges f_due f_head f_headAt f_headFlags f_stop f_pure a_op a_opA a_opB a_vectors a_analogs a_r a_m a_stack a_count a_since a_control a_compare a_dueEqual a_dueOver a_line a_store a_headR rv := by
  refine ⟨f_output, fun T pcx fp pz h => ?_, fun T g_passed g_converter g_since l_s l_c l_b b_opA b_opB b_store b_pending b_count F pcy pz h => ?_, fun ⟨T, g_passed, g_converter, g_since, l_s, l_c, l_b, b_opA, b_opB, b_store, b_pending, b_count, F⟩ => ?_⟩
  · repeat refine br_f (by decide) ?_
    exact br_t rfl h
  · repeat refine br_f (by decide) ?_
    exact br_t rfl h
  · obtain ⟨hLen, hOp, hA, hB, hAn, hM, hSt, hR, hR0, hZ, hC, hAl, hAs, hHa, hRe, hOv, hPu, hSp, hT, hSe, hIn, hDa, hDi, hRs, hOu, hWa, hMa, hSg, hSo, hAd, hSA, hSr, hSC, hCv, hCw, hPe, hT0, hT1, hUs, hUc, hUb, hW, hD⟩ := F
    exact hOu
theorem tc_in13 : ∃ rv, tc_IN 13 f_length f_inputs f_sp f_pc f_zero f_carry f_allowed f_asleep f_halted f_pending f_resets f_taken f_data f_serial f_divider f_sending f_dueSent f_received f_overrun f_sent f_converter f_result f_dueResult f_output f_watch f_dueWatch f_address f_storing f_storeAt f_storeControl f_dueStore f_mask f_edges f_due f_head f_headAt f_headFlags f_stop f_pure a_op a_opA a_opB a_vectors a_analogs a_r a_m a_stack a_count a_since a_control a_compare a_dueEqual a_dueOver a_line a_store a_headR rv := by
  refine ⟨f_inputs, fun T pcx fp pz h => ?_, fun T g_passed g_converter g_since l_s l_c l_b b_opA b_opB b_store b_pending b_count F pcy pz h => ?_, fun ⟨T, g_passed, g_converter, g_since, l_s, l_c, l_b, b_opA, b_opB, b_store, b_pending, b_count, F⟩ => ?_⟩
  · repeat refine br_f (by decide) ?_
    exact br_t rfl h
  · repeat refine br_f (by decide) ?_
    exact br_t rfl h
  · obtain ⟨hLen, hOp, hA, hB, hAn, hM, hSt, hR, hR0, hZ, hC, hAl, hAs, hHa, hRe, hOv, hPu, hSp, hT, hSe, hIn, hDa, hDi, hRs, hOu, hWa, hMa, hSg, hSo, hAd, hSA, hSr, hSC, hCv, hCw, hPe, hT0, hT1, hUs, hUc, hUb, hW, hD⟩ := F
    exact hIn
theorem tc_in14 : ∃ rv, tc_IN 14 f_length f_inputs f_sp f_pc f_zero f_carry f_allowed f_asleep f_halted f_pending f_resets f_taken f_data f_serial f_divider f_sending f_dueSent f_received f_overrun f_sent f_converter f_result f_dueResult f_output f_watch f_dueWatch f_address f_storing f_storeAt f_storeControl f_dueStore f_mask f_edges f_due f_head f_headAt f_headFlags f_stop f_pure a_op a_opA a_opB a_vectors a_analogs a_r a_m a_stack a_count a_since a_control a_compare a_dueEqual a_dueOver a_line a_store a_headR rv := by
  refine ⟨f_watch, fun T pcx fp pz h => ?_, fun T g_passed g_converter g_since l_s l_c l_b b_opA b_opB b_store b_pending b_count F pcy pz h => ?_, fun ⟨T, g_passed, g_converter, g_since, l_s, l_c, l_b, b_opA, b_opB, b_store, b_pending, b_count, F⟩ => ?_⟩
  · repeat refine br_f (by decide) ?_
    exact br_t rfl h
  · repeat refine br_f (by decide) ?_
    exact br_t rfl h
  · obtain ⟨hLen, hOp, hA, hB, hAn, hM, hSt, hR, hR0, hZ, hC, hAl, hAs, hHa, hRe, hOv, hPu, hSp, hT, hSe, hIn, hDa, hDi, hRs, hOu, hWa, hMa, hSg, hSo, hAd, hSA, hSr, hSC, hCv, hCw, hPe, hT0, hT1, hUs, hUc, hUb, hW, hD⟩ := F
    exact hWa
theorem tc_in1 : ∃ rv, tc_IN 1 f_length f_inputs f_sp f_pc f_zero f_carry f_allowed f_asleep f_halted f_pending f_resets f_taken f_data f_serial f_divider f_sending f_dueSent f_received f_overrun f_sent f_converter f_result f_dueResult f_output f_watch f_dueWatch f_address f_storing f_storeAt f_storeControl f_dueStore f_mask f_edges f_due f_head f_headAt f_headFlags f_stop f_pure a_op a_opA a_opB a_vectors a_analogs a_r a_m a_stack a_count a_since a_control a_compare a_dueEqual a_dueOver a_line a_store a_headR rv := by
  refine ⟨a_control 0, fun T pcx fp pz h => ?_, fun T g_passed g_converter g_since l_s l_c l_b b_opA b_opB b_store b_pending b_count F pcy pz h => ?_, fun ⟨T, g_passed, g_converter, g_since, l_s, l_c, l_b, b_opA, b_opB, b_store, b_pending, b_count, F⟩ => ?_⟩
  · repeat refine br_f (by decide) ?_
    exact br_t rfl h
  · repeat refine br_f (by decide) ?_
    refine br_t rfl ?_
    rw [show nI 1 / 3 = nI 0 from by decide +kernel, show (nI 0).toNatClampNeg = 0 from by decide +kernel]
    exact ⟨tc_d13, vp_in_nI (by decide) (by decide), h⟩
  · obtain ⟨hLen, hOp, hA, hB, hAn, hM, hSt, hR, hR0, hZ, hC, hAl, hAs, hHa, hRe, hOv, hPu, hSp, hT, hSe, hIn, hDa, hDi, hRs, hOu, hWa, hMa, hSg, hSo, hAd, hSA, hSr, hSC, hCv, hCw, hPe, hT0, hT1, hUs, hUc, hUb, hW, hD⟩ := F
    exact (tc_tFk hT0).1
theorem tc_in2 : ∃ rv, tc_IN 2 f_length f_inputs f_sp f_pc f_zero f_carry f_allowed f_asleep f_halted f_pending f_resets f_taken f_data f_serial f_divider f_sending f_dueSent f_received f_overrun f_sent f_converter f_result f_dueResult f_output f_watch f_dueWatch f_address f_storing f_storeAt f_storeControl f_dueStore f_mask f_edges f_due f_head f_headAt f_headFlags f_stop f_pure a_op a_opA a_opB a_vectors a_analogs a_r a_m a_stack a_count a_since a_control a_compare a_dueEqual a_dueOver a_line a_store a_headR rv := by
  refine ⟨a_compare 0, fun T pcx fp pz h => ?_, fun T g_passed g_converter g_since l_s l_c l_b b_opA b_opB b_store b_pending b_count F pcy pz h => ?_, fun ⟨T, g_passed, g_converter, g_since, l_s, l_c, l_b, b_opA, b_opB, b_store, b_pending, b_count, F⟩ => ?_⟩
  · repeat refine br_f (by decide) ?_
    exact br_t rfl h
  · repeat refine br_f (by decide) ?_
    refine br_t rfl ?_
    rw [show nI 2 / 3 = nI 0 from by decide +kernel, show (nI 0).toNatClampNeg = 0 from by decide +kernel]
    exact ⟨tc_d13, vp_in_nI (by decide) (by decide), h⟩
  · obtain ⟨hLen, hOp, hA, hB, hAn, hM, hSt, hR, hR0, hZ, hC, hAl, hAs, hHa, hRe, hOv, hPu, hSp, hT, hSe, hIn, hDa, hDi, hRs, hOu, hWa, hMa, hSg, hSo, hAd, hSA, hSr, hSC, hCv, hCw, hPe, hT0, hT1, hUs, hUc, hUb, hW, hD⟩ := F
    exact (tc_tFk hT0).2.1
theorem tc_in4 : ∃ rv, tc_IN 4 f_length f_inputs f_sp f_pc f_zero f_carry f_allowed f_asleep f_halted f_pending f_resets f_taken f_data f_serial f_divider f_sending f_dueSent f_received f_overrun f_sent f_converter f_result f_dueResult f_output f_watch f_dueWatch f_address f_storing f_storeAt f_storeControl f_dueStore f_mask f_edges f_due f_head f_headAt f_headFlags f_stop f_pure a_op a_opA a_opB a_vectors a_analogs a_r a_m a_stack a_count a_since a_control a_compare a_dueEqual a_dueOver a_line a_store a_headR rv := by
  refine ⟨a_control 1, fun T pcx fp pz h => ?_, fun T g_passed g_converter g_since l_s l_c l_b b_opA b_opB b_store b_pending b_count F pcy pz h => ?_, fun ⟨T, g_passed, g_converter, g_since, l_s, l_c, l_b, b_opA, b_opB, b_store, b_pending, b_count, F⟩ => ?_⟩
  · repeat refine br_f (by decide) ?_
    exact br_t rfl h
  · repeat refine br_f (by decide) ?_
    refine br_t rfl ?_
    rw [show nI 4 / 3 = nI 1 from by decide +kernel, show (nI 1).toNatClampNeg = 1 from by decide +kernel]
    exact ⟨tc_d13, vp_in_nI (by decide) (by decide), h⟩
  · obtain ⟨hLen, hOp, hA, hB, hAn, hM, hSt, hR, hR0, hZ, hC, hAl, hAs, hHa, hRe, hOv, hPu, hSp, hT, hSe, hIn, hDa, hDi, hRs, hOu, hWa, hMa, hSg, hSo, hAd, hSA, hSr, hSC, hCv, hCw, hPe, hT0, hT1, hUs, hUc, hUb, hW, hD⟩ := F
    exact (tc_tFk hT1).1
theorem tc_in5 : ∃ rv, tc_IN 5 f_length f_inputs f_sp f_pc f_zero f_carry f_allowed f_asleep f_halted f_pending f_resets f_taken f_data f_serial f_divider f_sending f_dueSent f_received f_overrun f_sent f_converter f_result f_dueResult f_output f_watch f_dueWatch f_address f_storing f_storeAt f_storeControl f_dueStore f_mask f_edges f_due f_head f_headAt f_headFlags f_stop f_pure a_op a_opA a_opB a_vectors a_analogs a_r a_m a_stack a_count a_since a_control a_compare a_dueEqual a_dueOver a_line a_store a_headR rv := by
  refine ⟨a_compare 1, fun T pcx fp pz h => ?_, fun T g_passed g_converter g_since l_s l_c l_b b_opA b_opB b_store b_pending b_count F pcy pz h => ?_, fun ⟨T, g_passed, g_converter, g_since, l_s, l_c, l_b, b_opA, b_opB, b_store, b_pending, b_count, F⟩ => ?_⟩
  · repeat refine br_f (by decide) ?_
    exact br_t rfl h
  · repeat refine br_f (by decide) ?_
    refine br_t rfl ?_
    rw [show nI 5 / 3 = nI 1 from by decide +kernel, show (nI 1).toNatClampNeg = 1 from by decide +kernel]
    exact ⟨tc_d13, vp_in_nI (by decide) (by decide), h⟩
  · obtain ⟨hLen, hOp, hA, hB, hAn, hM, hSt, hR, hR0, hZ, hC, hAl, hAs, hHa, hRe, hOv, hPu, hSp, hT, hSe, hIn, hDa, hDi, hRs, hOu, hWa, hMa, hSg, hSo, hAd, hSA, hSr, hSC, hCv, hCw, hPe, hT0, hT1, hUs, hUc, hUb, hW, hD⟩ := F
    exact (tc_tFk hT1).2.1
theorem tc_in16 : ∃ rv, tc_IN 16 f_length f_inputs f_sp f_pc f_zero f_carry f_allowed f_asleep f_halted f_pending f_resets f_taken f_data f_serial f_divider f_sending f_dueSent f_received f_overrun f_sent f_converter f_result f_dueResult f_output f_watch f_dueWatch f_address f_storing f_storeAt f_storeControl f_dueStore f_mask f_edges f_due f_head f_headAt f_headFlags f_stop f_pure a_op a_opA a_opB a_vectors a_analogs a_r a_m a_stack a_count a_since a_control a_compare a_dueEqual a_dueOver a_line a_store a_headR rv := by
  refine ⟨f_address, fun T pcx fp pz h => ?_, fun T g_passed g_converter g_since l_s l_c l_b b_opA b_opB b_store b_pending b_count F pcy pz h => ?_, fun ⟨T, g_passed, g_converter, g_since, l_s, l_c, l_b, b_opA, b_opB, b_store, b_pending, b_count, F⟩ => ?_⟩
  · refine br_f (by decide) (br_t (by decide) ?_)
    repeat refine br_f (by decide) ?_
    exact br_t rfl h
  · repeat refine br_f (by decide) ?_
    exact br_t rfl h
  · obtain ⟨hLen, hOp, hA, hB, hAn, hM, hSt, hR, hR0, hZ, hC, hAl, hAs, hHa, hRe, hOv, hPu, hSp, hT, hSe, hIn, hDa, hDi, hRs, hOu, hWa, hMa, hSg, hSo, hAd, hSA, hSr, hSC, hCv, hCw, hPe, hT0, hT1, hUs, hUc, hUb, hW, hD⟩ := F
    exact tc_rg8 hAd (by decide)
theorem tc_in19 : ∃ rv, tc_IN 19 f_length f_inputs f_sp f_pc f_zero f_carry f_allowed f_asleep f_halted f_pending f_resets f_taken f_data f_serial f_divider f_sending f_dueSent f_received f_overrun f_sent f_converter f_result f_dueResult f_output f_watch f_dueWatch f_address f_storing f_storeAt f_storeControl f_dueStore f_mask f_edges f_due f_head f_headAt f_headFlags f_stop f_pure a_op a_opA a_opB a_vectors a_analogs a_r a_m a_stack a_count a_since a_control a_compare a_dueEqual a_dueOver a_line a_store a_headR rv := by
  refine ⟨f_mask, fun T pcx fp pz h => ?_, fun T g_passed g_converter g_since l_s l_c l_b b_opA b_opB b_store b_pending b_count F pcy pz h => ?_, fun ⟨T, g_passed, g_converter, g_since, l_s, l_c, l_b, b_opA, b_opB, b_store, b_pending, b_count, F⟩ => ?_⟩
  · refine br_f (by decide) (br_t (by decide) ?_)
    repeat refine br_f (by decide) ?_
    exact br_t rfl h
  · repeat refine br_f (by decide) ?_
    exact br_t rfl h
  · obtain ⟨hLen, hOp, hA, hB, hAn, hM, hSt, hR, hR0, hZ, hC, hAl, hAs, hHa, hRe, hOv, hPu, hSp, hT, hSe, hIn, hDa, hDi, hRs, hOu, hWa, hMa, hSg, hSo, hAd, hSA, hSr, hSC, hCv, hCw, hPe, hT0, hT1, hUs, hUc, hUb, hW, hD⟩ := F
    exact hMa
theorem tc_in20 {q : Nat} (h1 : 19 < q) (h2 : q < 32) : ∃ rv, tc_IN q f_length f_inputs f_sp f_pc f_zero f_carry f_allowed f_asleep f_halted f_pending f_resets f_taken f_data f_serial f_divider f_sending f_dueSent f_received f_overrun f_sent f_converter f_result f_dueResult f_output f_watch f_dueWatch f_address f_storing f_storeAt f_storeControl f_dueStore f_mask f_edges f_due f_head f_headAt f_headFlags f_stop f_pure a_op a_opA a_opB a_vectors a_analogs a_r a_m a_stack a_count a_since a_control a_compare a_dueEqual a_dueOver a_line a_store a_headR rv := by
  refine ⟨0, fun T pcx fp pz h => ?_, fun T g_passed g_converter g_since l_s l_c l_b b_opA b_opB b_store b_pending b_count F pcy pz h => ?_, fun _ => tc_y8_0⟩
  · refine br_f (nI_pos (by omega)) (br_t (nI_lt (a := 15) (by omega) (by omega)) ?_)
    have n : ∀ m, m < 20 → ¬ nI q = nI m := fun m hm z => by have := (nI_eq (by omega) (by omega)).mp z; omega
    exact br_f (n 16 (by omega)) (br_f (n 17 (by omega)) (br_f (n 18 (by omega)) (br_f (n 19 (by omega)) h)))
  · exact br_f (nI_pos (by omega)) (br_t (nI_lt (a := 19) (by omega) (by omega)) h)
theorem tc_in11 : ∃ rv, tc_IN 11 f_length f_inputs f_sp f_pc f_zero f_carry f_allowed f_asleep f_halted f_pending f_resets f_taken f_data f_serial f_divider f_sending f_dueSent f_received f_overrun f_sent f_converter f_result f_dueResult f_output f_watch f_dueWatch f_address f_storing f_storeAt f_storeControl f_dueStore f_mask f_edges f_due f_head f_headAt f_headFlags f_stop f_pure a_op a_opA a_opB a_vectors a_analogs a_r a_m a_stack a_count a_since a_control a_compare a_dueEqual a_dueOver a_line a_store a_headR rv := by
  refine ⟨f_pending &&& 255, fun T pcx fp pz h => ?_, fun T g_passed g_converter g_since l_s l_c l_b b_opA b_opB b_store b_pending b_count F pcy pz h => ?_, fun _ => tc_y8_and _⟩
  · repeat refine br_f (by decide) ?_
    exact br_t rfl h
  · obtain ⟨hLen, hOp, hA, hB, hAn, hM, hSt, hR, hR0, hZ, hC, hAl, hAs, hHa, hRe, hOv, hPu, hSp, hT, hSe, hIn, hDa, hDi, hRs, hOu, hWa, hMa, hSg, hSo, hAd, hSA, hSr, hSC, hCv, hCw, hPe, hT0, hT1, hUs, hUc, hUb, hW, hD⟩ := F
    repeat refine br_f (by decide) ?_
    refine br_t rfl ⟨9, ?_⟩
    have q := tc_r207 (T := T) (f_length := f_length) (f_inputs := f_inputs) (f_zero := f_zero) (f_carry := f_carry) (f_allowed := f_allowed) (f_asleep := f_asleep) (f_halted := f_halted) (f_sp := f_sp) (f_pc := pcy) (f_taken := f_taken) (f_resets := f_resets) (f_edges := f_edges) (f_sent := f_sent) (f_data := f_data) (f_serial := f_serial) (f_divider := f_divider) (f_result := f_result) (f_output := f_output) (f_watch := f_watch) (f_address := f_address) (f_storeControl := f_storeControl) (f_mask := f_mask) (f_received := f_received) (f_overrun := f_overrun) (f_sending := f_sending) (f_storing := f_storing) (f_storeAt := f_storeAt) (a_op := a_op) (a_vectors := a_vectors) (a_analogs := a_analogs) (a_r := a_r) (a_m := a_m) (a_stack := a_stack) (a_line := a_line) (a_control := a_control) (a_compare := a_compare) (g_passed := g_passed) (g_converter := g_converter) (g_since := g_since) (l_s := l_s) (l_c := l_c) (l_b := l_b) (b_opA := b_opA) (b_opB := b_opB) (b_store := b_store) (b_pending := b_pending) (b_count := b_count) hPe h 8 0 rfl
    rw [Nat.pow_zero, Nat.mod_one] at q
    exact q
theorem tc_in17 (hv : vp_in f_address 16) : ∃ rv, tc_IN 17 f_length f_inputs f_sp f_pc f_zero f_carry f_allowed f_asleep f_halted f_pending f_resets f_taken f_data f_serial f_divider f_sending f_dueSent f_received f_overrun f_sent f_converter f_result f_dueResult f_output f_watch f_dueWatch f_address f_storing f_storeAt f_storeControl f_dueStore f_mask f_edges f_due f_head f_headAt f_headFlags f_stop f_pure a_op a_opA a_opB a_vectors a_analogs a_r a_m a_stack a_count a_since a_control a_compare a_dueEqual a_dueOver a_line a_store a_headR rv := by
  refine ⟨a_store f_address.toNatClampNeg &&& 255, fun T pcx fp pz h => ?_, fun T g_passed g_converter g_since l_s l_c l_b b_opA b_opB b_store b_pending b_count F pcy pz h => ?_, fun _ => tc_y8_and _⟩
  · refine br_f (by decide) (br_t (by decide) ?_)
    exact br_f (by decide) (br_t rfl ⟨hv, h⟩)
  · obtain ⟨hLen, hOp, hA, hB, hAn, hM, hSt, hR, hR0, hZ, hC, hAl, hAs, hHa, hRe, hOv, hPu, hSp, hT, hSe, hIn, hDa, hDi, hRs, hOu, hWa, hMa, hSg, hSo, hAd, hSA, hSr, hSC, hCv, hCw, hPe, hT0, hT1, hUs, hUc, hUb, hW, hD⟩ := F
    repeat refine br_f (by decide) ?_
    refine br_t rfl ⟨hv, ?_⟩
    rw [hSt]; exact h
theorem tc_in18 : ∃ rv, tc_IN 18 f_length f_inputs f_sp f_pc f_zero f_carry f_allowed f_asleep f_halted f_pending f_resets f_taken f_data f_serial f_divider f_sending f_dueSent f_received f_overrun f_sent f_converter f_result f_dueResult f_output f_watch f_dueWatch f_address f_storing f_storeAt f_storeControl f_dueStore f_mask f_edges f_due f_head f_headAt f_headFlags f_stop f_pure a_op a_opA a_opB a_vectors a_analogs a_r a_m a_stack a_count a_since a_control a_compare a_dueEqual a_dueOver a_line a_store a_headR rv := by
  by_cases c : f_dueStore = 2147483647
  · refine ⟨f_storeControl + 1, fun T pcx fp pz h => ?_, fun T g_passed g_converter g_since l_s l_c l_b b_opA b_opB b_store b_pending b_count F pcy pz h => ?_, fun ⟨T, g_passed, g_converter, g_since, l_s, l_c, l_b, b_opA, b_opB, b_store, b_pending, b_count, F⟩ => ?_⟩
    · refine br_f (by decide) (br_t (by decide) ?_)
      exact br_f (by decide) (br_f (by decide) (br_t rfl (br_t c h)))
    · obtain ⟨hLen, hOp, hA, hB, hAn, hM, hSt, hR, hR0, hZ, hC, hAl, hAs, hHa, hRe, hOv, hPu, hSp, hT, hSe, hIn, hDa, hDi, hRs, hOu, hWa, hMa, hSg, hSo, hAd, hSA, hSr, hSC, hCv, hCw, hPe, hT0, hT1, hUs, hUc, hUb, hW, hD⟩ := F
      repeat refine br_f (by decide) ?_
      refine br_t rfl (br_t ?_ h)
      rw [(tc_uF7 hT hUb).1 c]; rfl
    · obtain ⟨hLen, hOp, hA, hB, hAn, hM, hSt, hR, hR0, hZ, hC, hAl, hAs, hHa, hRe, hOv, hPu, hSp, hT, hSe, hIn, hDa, hDi, hRs, hOu, hWa, hMa, hSg, hSo, hAd, hSA, hSr, hSC, hCv, hCw, hPe, hT0, hT1, hUs, hUc, hUb, hW, hD⟩ := F
      rcases tc_sc8 hSC with e | e <;> rw [e] <;> unfold tc_y8 <;> decide
  · refine ⟨f_storeControl + 0, fun T pcx fp pz h => ?_, fun T g_passed g_converter g_since l_s l_c l_b b_opA b_opB b_store b_pending b_count F pcy pz h => ?_, fun ⟨T, g_passed, g_converter, g_since, l_s, l_c, l_b, b_opA, b_opB, b_store, b_pending, b_count, F⟩ => ?_⟩
    · refine br_f (by decide) (br_t (by decide) ?_)
      exact br_f (by decide) (br_f (by decide) (br_t rfl (br_f c h)))
    · obtain ⟨hLen, hOp, hA, hB, hAn, hM, hSt, hR, hR0, hZ, hC, hAl, hAs, hHa, hRe, hOv, hPu, hSp, hT, hSe, hIn, hDa, hDi, hRs, hOu, hWa, hMa, hSg, hSo, hAd, hSA, hSr, hSC, hCv, hCw, hPe, hT0, hT1, hUs, hUc, hUb, hW, hD⟩ := F
      repeat refine br_f (by decide) ?_
      have := (tc_uF7 hT hUb).2 c
      exact br_t rfl (br_f (nI_ne0 (by omega) (by omega)) h)
    · obtain ⟨hLen, hOp, hA, hB, hAn, hM, hSt, hR, hR0, hZ, hC, hAl, hAs, hHa, hRe, hOv, hPu, hSp, hT, hSe, hIn, hDa, hDi, hRs, hOu, hWa, hMa, hSg, hSo, hAd, hSA, hSr, hSC, hCv, hCw, hPe, hT0, hT1, hUs, hUc, hUb, hW, hD⟩ := F
      rcases tc_sc8 hSC with e | e <;> rw [e] <;> unfold tc_y8 <;> decide
theorem tc_in9 : ∃ rv, tc_IN 9 f_length f_inputs f_sp f_pc f_zero f_carry f_allowed f_asleep f_halted f_pending f_resets f_taken f_data f_serial f_divider f_sending f_dueSent f_received f_overrun f_sent f_converter f_result f_dueResult f_output f_watch f_dueWatch f_address f_storing f_storeAt f_storeControl f_dueStore f_mask f_edges f_due f_head f_headAt f_headFlags f_stop f_pure a_op a_opA a_opB a_vectors a_analogs a_r a_m a_stack a_count a_since a_control a_compare a_dueEqual a_dueOver a_line a_store a_headR rv := by
  by_cases c : f_dueResult = 2147483647
  · refine ⟨f_converter + 0, fun T pcx fp pz h => ?_, fun T g_passed g_converter g_since l_s l_c l_b b_opA b_opB b_store b_pending b_count F pcy pz h => ?_, fun ⟨T, g_passed, g_converter, g_since, l_s, l_c, l_b, b_opA, b_opB, b_store, b_pending, b_count, F⟩ => ?_⟩
    · repeat refine br_f (by decide) ?_
      exact br_t rfl (br_t c h)
    · obtain ⟨hLen, hOp, hA, hB, hAn, hM, hSt, hR, hR0, hZ, hC, hAl, hAs, hHa, hRe, hOv, hPu, hSp, hT, hSe, hIn, hDa, hDi, hRs, hOu, hWa, hMa, hSg, hSo, hAd, hSA, hSr, hSC, hCv, hCw, hPe, hT0, hT1, hUs, hUc, hUb, hW, hD⟩ := F
      repeat refine br_f (by decide) ?_
      refine br_t rfl (br_t ?_ ?_)
      · rw [(tc_uF7 hT hUc).1 c]; decide
      · rw [tc_cvn hCw, ← hCv]; exact h
    · obtain ⟨hLen, hOp, hA, hB, hAn, hM, hSt, hR, hR0, hZ, hC, hAl, hAs, hHa, hRe, hOv, hPu, hSp, hT, hSe, hIn, hDa, hDi, hRs, hOu, hWa, hMa, hSg, hSo, hAd, hSA, hSr, hSC, hCv, hCw, hPe, hT0, hT1, hUs, hUc, hUb, hW, hD⟩ := F
      obtain ⟨n, hn, e⟩ := tc_y8_ex hCw
      rw [hCv, e]; exact (tc_cv4 n hn).2
  · refine ⟨f_converter + 4, fun T pcx fp pz h => ?_, fun T g_passed g_converter g_since l_s l_c l_b b_opA b_opB b_store b_pending b_count F pcy pz h => ?_, fun ⟨T, g_passed, g_converter, g_since, l_s, l_c, l_b, b_opA, b_opB, b_store, b_pending, b_count, F⟩ => ?_⟩
    · repeat refine br_f (by decide) ?_
      exact br_t rfl (br_f c h)
    · obtain ⟨hLen, hOp, hA, hB, hAn, hM, hSt, hR, hR0, hZ, hC, hAl, hAs, hHa, hRe, hOv, hPu, hSp, hT, hSe, hIn, hDa, hDi, hRs, hOu, hWa, hMa, hSg, hSo, hAd, hSA, hSr, hSC, hCv, hCw, hPe, hT0, hT1, hUs, hUc, hUb, hW, hD⟩ := F
      repeat refine br_f (by decide) ?_
      have := (tc_uF7 hT hUc).2 c
      refine br_t rfl (br_f (nI_nle (by omega) (by omega)) ?_)
      rw [tc_cvn hCw, ← hCv]; exact h
    · obtain ⟨hLen, hOp, hA, hB, hAn, hM, hSt, hR, hR0, hZ, hC, hAl, hAs, hHa, hRe, hOv, hPu, hSp, hT, hSe, hIn, hDa, hDi, hRs, hOu, hWa, hMa, hSg, hSo, hAd, hSA, hSr, hSC, hCv, hCw, hPe, hT0, hT1, hUs, hUc, hUb, hW, hD⟩ := F
      obtain ⟨n, hn, e⟩ := tc_y8_ex hCw
      rw [hCv, e]; exact (tc_cv4 n hn).1
theorem tc_in7 : ∃ rv, tc_IN 7 f_length f_inputs f_sp f_pc f_zero f_carry f_allowed f_asleep f_halted f_pending f_resets f_taken f_data f_serial f_divider f_sending f_dueSent f_received f_overrun f_sent f_converter f_result f_dueResult f_output f_watch f_dueWatch f_address f_storing f_storeAt f_storeControl f_dueStore f_mask f_edges f_due f_head f_headAt f_headFlags f_stop f_pure a_op a_opA a_opB a_vectors a_analogs a_r a_m a_stack a_count a_since a_control a_compare a_dueEqual a_dueOver a_line a_store a_headR rv := by
  refine ⟨(((if f_dueSent = 2147483647 then 1 else 0) + (if f_received = 0 then 0 else 2)) + (if f_overrun = 0 then 0 else 4)) + f_serial, fun T pcx fp pz h => ?_, fun T g_passed g_converter g_since l_s l_c l_b b_opA b_opB b_store b_pending b_count F pcy pz h => ?_, fun ⟨T, g_passed, g_converter, g_since, l_s, l_c, l_b, b_opA, b_opB, b_store, b_pending, b_count, F⟩ => ?_⟩
  · repeat refine br_f (by decide) ?_
    refine br_t rfl ?_
    by_cases c1 : f_dueSent = 2147483647 <;> by_cases c2 : f_received = 0 <;> by_cases c3 : f_overrun = 0
    · rw [if_pos c1, if_pos c2, if_pos c3] at h; exact br_t c1 (br_t c2 (br_t c3 h))
    · rw [if_pos c1, if_pos c2, if_neg c3] at h; exact br_t c1 (br_t c2 (br_f c3 h))
    · rw [if_pos c1, if_neg c2, if_pos c3] at h; exact br_t c1 (br_f c2 (br_t c3 h))
    · rw [if_pos c1, if_neg c2, if_neg c3] at h; exact br_t c1 (br_f c2 (br_f c3 h))
    · rw [if_neg c1, if_pos c2, if_pos c3] at h; exact br_f c1 (br_t c2 (br_t c3 h))
    · rw [if_neg c1, if_pos c2, if_neg c3] at h; exact br_f c1 (br_t c2 (br_f c3 h))
    · rw [if_neg c1, if_neg c2, if_pos c3] at h; exact br_f c1 (br_f c2 (br_t c3 h))
    · rw [if_neg c1, if_neg c2, if_neg c3] at h; exact br_f c1 (br_f c2 (br_f c3 h))
  · obtain ⟨hLen, hOp, hA, hB, hAn, hM, hSt, hR, hR0, hZ, hC, hAl, hAs, hHa, hRe, hOv, hPu, hSp, hT, hSe, hIn, hDa, hDi, hRs, hOu, hWa, hMa, hSg, hSo, hAd, hSA, hSr, hSC, hCv, hCw, hPe, hT0, hT1, hUs, hUc, hUb, hW, hD⟩ := F
    repeat refine br_f (by decide) ?_
    refine br_t rfl ?_
    have k1 : f_dueSent = 2147483647 → nI l_s = 0 := fun c => by rw [(tc_uF7 hT hUs).1 c]; rfl
    have k2 : ¬ f_dueSent = 2147483647 → ¬ nI l_s = 0 := fun c => by
      have := (tc_uF7 hT hUs).2 c
      exact nI_ne0 (by omega) (by omega)
    by_cases c1 : f_dueSent = 2147483647 <;> by_cases c2 : f_received = 0 <;> by_cases c3 : f_overrun = 0
    · rw [if_pos c1, if_pos c2, if_pos c3] at h; exact br_t (k1 c1) (br_t c2 (br_t c3 h))
    · rw [if_pos c1, if_pos c2, if_neg c3] at h; exact br_t (k1 c1) (br_t c2 (br_f c3 h))
    · rw [if_pos c1, if_neg c2, if_pos c3] at h; exact br_t (k1 c1) (br_f c2 (br_t c3 h))
    · rw [if_pos c1, if_neg c2, if_neg c3] at h; exact br_t (k1 c1) (br_f c2 (br_f c3 h))
    · rw [if_neg c1, if_pos c2, if_pos c3] at h; exact br_f (k2 c1) (br_t c2 (br_t c3 h))
    · rw [if_neg c1, if_pos c2, if_neg c3] at h; exact br_f (k2 c1) (br_t c2 (br_f c3 h))
    · rw [if_neg c1, if_neg c2, if_pos c3] at h; exact br_f (k2 c1) (br_f c2 (br_t c3 h))
    · rw [if_neg c1, if_neg c2, if_neg c3] at h; exact br_f (k2 c1) (br_f c2 (br_f c3 h))
  · obtain ⟨hLen, hOp, hA, hB, hAn, hM, hSt, hR, hR0, hZ, hC, hAl, hAs, hHa, hRe, hOv, hPu, hSp, hT, hSe, hIn, hDa, hDi, hRs, hOu, hWa, hMa, hSg, hSo, hAd, hSA, hSr, hSC, hCv, hCw, hPe, hT0, hT1, hUs, hUc, hUb, hW, hD⟩ := F
    rcases tc_sr24 hSr with e | e | e | e <;> rw [e] <;> (repeat' split) <;> unfold tc_y8 <;> decide
theorem tc_inP {q : Nat} (hq : q < 32) (n0 : q ≠ 0) (n3 : q ≠ 3) (n15 : q ≠ 15) (hv : vp_in f_address 16) : ∃ rv, tc_IN q f_length f_inputs f_sp f_pc f_zero f_carry f_allowed f_asleep f_halted f_pending f_resets f_taken f_data f_serial f_divider f_sending f_dueSent f_received f_overrun f_sent f_converter f_result f_dueResult f_output f_watch f_dueWatch f_address f_storing f_storeAt f_storeControl f_dueStore f_mask f_edges f_due f_head f_headAt f_headFlags f_stop f_pure a_op a_opA a_opB a_vectors a_analogs a_r a_m a_stack a_count a_since a_control a_compare a_dueEqual a_dueOver a_line a_store a_headR rv := by
  by_cases h : 19 < q
  · exact tc_in20 h hq
  · have : q = 1 ∨ q = 2 ∨ q = 4 ∨ q = 5 ∨ q = 6 ∨ q = 7 ∨ q = 8 ∨ q = 9 ∨ q = 10 ∨ q = 11 ∨ q = 12 ∨ q = 13 ∨ q = 14 ∨ q = 16 ∨ q = 17 ∨ q = 18 ∨ q = 19 := by omega
    rcases this with rfl | rfl | rfl | rfl | rfl | rfl | rfl | rfl | rfl | rfl | rfl | rfl | rfl | rfl | rfl | rfl | rfl
    · exact tc_in1
    · exact tc_in2
    · exact tc_in4
    · exact tc_in5
    · exact tc_in6
    · exact tc_in7
    · exact tc_in8
    · exact tc_in9
    · exact tc_in10
    · exact tc_in11
    · exact tc_in12
    · exact tc_in13
    · exact tc_in14
    · exact tc_in16
    · exact tc_in17 hv
    · exact tc_in18
    · exact tc_in19
/-- any port, at one time -/
theorem tc_in {q : Nat} (hq : q < 32) (F : tc_FF T f_length f_inputs f_sp f_pc f_zero f_carry f_allowed f_asleep f_halted f_pending f_resets f_taken f_data f_serial f_divider f_sending f_dueSent f_received f_overrun f_sent f_converter f_result f_dueResult f_output f_watch f_dueWatch f_address f_storing f_storeAt f_storeControl f_dueStore f_mask f_edges f_due f_head f_headAt f_headFlags f_stop f_pure a_op a_opA a_opB a_vectors a_analogs a_r a_m a_stack a_count a_since a_control a_compare a_dueEqual a_dueOver a_line a_store a_headR g_passed g_converter g_since l_s l_c l_b b_opA b_opB b_store b_pending b_count) : ∃ rv, tc_y8 rv ∧ (∀ (pcx fp : Int32) (pz : Int32 → Prop), pz rv → wpX_in pz (f_length, f_inputs, f_sp, pcx, f_zero, f_carry, f_allowed, f_asleep, f_halted, f_pending, f_resets, f_taken, nI T, f_data, f_serial, f_divider, f_sending, f_dueSent, f_received, f_overrun, f_sent, f_converter, f_result, f_dueResult, f_output, f_watch, f_dueWatch, f_address, f_storing, f_storeAt, f_storeControl, f_dueStore, f_mask, f_edges, f_due, f_head, f_headAt, f_headFlags, f_stop, fp, a_op, a_opA, a_opB, a_vectors, a_analogs, a_r, a_m, a_stack, a_count, a_since, a_control, a_compare, a_dueEqual, a_dueOver, a_line, a_store, a_headR) (nI q)) ∧ (∀ (pcy : Int32) (pz : Int32 → Prop), pz rv → wpY_read pz (f_length, f_inputs, f_zero, f_carry, f_allowed, f_asleep, f_halted, f_sp, pcy, nI T, g_passed, f_taken, f_resets, f_edges, f_sent, f_data, f_serial, f_divider, g_converter, f_result, f_output, f_watch, f_address, f_storeControl, f_mask, g_since, f_received, f_overrun, nI l_s, f_sending, nI l_c, nI l_b, f_storing, f_storeAt, a_op, b_opA, b_opB, a_vectors, a_analogs, b_store, a_r, a_m, a_stack, a_line, b_pending, b_count, a_control, a_compare) (nI q)) := by
  have hF := F
  obtain ⟨hLen, hOp, hA, hB, hAn, hM, hSt, hR, hR0, hZ, hC, hAl, hAs, hHa, hRe, hOv, hPu, hSp, hT, hSe, hIn, hDa, hDi, hRs, hOu, hWa, hMa, hSg, hSo, hAd, hSA, hSr, hSC, hCv, hCw, hPe, hT0, hT1, hUs, hUc, hUb, hW, hD⟩ := F
  have hv : vp_in f_address 16 := by
    obtain ⟨k, hk, e⟩ := hAd
    rw [e]; exact vp_in_nI (by omega) (by decide)
  by_cases h15 : q = 15
  · subst h15
    refine ⟨nI T &&& 255, tc_y8_and _, fun pcx fp pz h => ?_, fun pcy pz h => ?_⟩
    · repeat refine br_f (by decide) ?_
      exact br_t rfl h
    · repeat refine br_f (by decide) ?_
      exact br_t rfl h
  · by_cases h0 : q = 0 ∨ q = 3
    · have ht : ∃ t, t < 2 ∧ q = 3 * t ∧ nI q / 3 = nI t := by
        rcases h0 with e | e
        · exact ⟨0, by omega, by omega, by rw [e]; decide +kernel⟩
        · exact ⟨1, by omega, by omega, by rw [e]; decide +kernel⟩
      obtain ⟨t, t2, eq, e3⟩ := ht
      have hF : tc_tF T (a_count t) (a_since t) (a_control t) (a_compare t) (a_dueEqual t) (a_dueOver t) (b_count t) := by
        have : t = 0 ∨ t = 1 := by omega
        rcases this with e | e <;> rw [e]
        · exact hT0
        · exact hT1
      obtain ⟨c, s, k, m, y, hc, hs, hk, hm, hy, c8, hsT, k8, m8, ey, eE, eO⟩ := hF
      have ec := nI_clamp (n := t) (by omega)
      have qX : ∀ (pcx fp : Int32) (pz : Int32 → Prop), pz (nI y) → wX_in_80 pz (nI q) f_length f_inputs f_sp pcx f_zero f_carry f_allowed f_asleep f_halted f_pending f_resets f_taken (nI T) f_data f_serial f_divider f_sending f_dueSent f_received f_overrun f_sent f_converter f_result f_dueResult f_output f_watch f_dueWatch f_address f_storing f_storeAt f_storeControl f_dueStore f_mask f_edges f_due f_head f_headAt f_headFlags f_stop fp a_op a_opA a_opB a_vectors a_analogs a_r a_m a_stack a_count a_since a_control a_compare a_dueEqual a_dueOver a_line a_store a_headR := by
        intro pcx fp pz h
        refine And.intro tc_d13 (nm_r (e' := nI t) e3 ?_)
        refine tc_ticks t2 hk k8 hs hsT (by omega) ?_
        refine tc_cAft t2 hk k8 hc c8 hm m8 (Nat.le_trans tm_n_le (by omega)) ?_
        rw [← ey]; exact h
      refine ⟨nI y, tc_y8_nI (by rw [ey]; exact tm_af_lt m8), fun pcx fp pz h => ?_, fun pcy pz h => ?_⟩
      · have q := qX pcx fp pz h
        rcases h0 with e | e
        · subst e
          repeat refine br_f (by decide) ?_
          exact br_t rfl q
        · subst e
          repeat refine br_f (by decide) ?_
          exact br_t rfl q
      · rcases h0 with e | e
        · subst e
          repeat refine br_f (by decide) ?_
          refine br_t rfl ?_
          rw [e3, ec, hy]
          exact ⟨tc_d13, vp_in_nI t2 (by decide), h⟩
        · subst e
          repeat refine br_f (by decide) ?_
          refine br_t rfl ?_
          rw [e3, ec, hy]
          exact ⟨tc_d13, vp_in_nI t2 (by decide), h⟩
    · obtain ⟨rv, r1, r2, r3⟩ := tc_inP (f_length := f_length) (f_inputs := f_inputs) (f_sp := f_sp) (f_pc := f_pc) (f_zero := f_zero) (f_carry := f_carry) (f_allowed := f_allowed) (f_asleep := f_asleep) (f_halted := f_halted) (f_pending := f_pending) (f_resets := f_resets) (f_taken := f_taken) (f_data := f_data) (f_serial := f_serial) (f_divider := f_divider) (f_sending := f_sending) (f_dueSent := f_dueSent) (f_received := f_received) (f_overrun := f_overrun) (f_sent := f_sent) (f_converter := f_converter) (f_result := f_result) (f_dueResult := f_dueResult) (f_output := f_output) (f_watch := f_watch) (f_dueWatch := f_dueWatch) (f_address := f_address) (f_storing := f_storing) (f_storeAt := f_storeAt) (f_storeControl := f_storeControl) (f_dueStore := f_dueStore) (f_mask := f_mask) (f_edges := f_edges) (f_due := f_due) (f_head := f_head) (f_headAt := f_headAt) (f_headFlags := f_headFlags) (f_stop := f_stop) (f_pure := f_pure) (a_op := a_op) (a_opA := a_opA) (a_opB := a_opB) (a_vectors := a_vectors) (a_analogs := a_analogs) (a_r := a_r) (a_m := a_m) (a_stack := a_stack) (a_count := a_count) (a_since := a_since) (a_control := a_control) (a_compare := a_compare) (a_dueEqual := a_dueEqual) (a_dueOver := a_dueOver) (a_line := a_line) (a_store := a_store) (a_headR := a_headR) hq (fun z => h0 (Or.inl z)) (fun z => h0 (Or.inr z)) h15 hv
      exact ⟨rv, r3 ⟨T, g_passed, g_converter, g_since, l_s, l_c, l_b, b_opA, b_opB, b_store, b_pending, b_count, hF⟩, fun pcx fp pz h => r1 T pcx fp pz h, fun pcy pz h => r2 T g_passed g_converter g_since l_s l_c l_b b_opA b_opB b_store b_pending b_count hF pcy pz h⟩
end
end
section
/-! one instruction: what is asked; the pure ones -/
def tc_s220 (post : SX → Prop) (x1 x2 x5 : Int32) (u : SX) : Prop := match u with
  | (f_length, f_inputs, f_sp, f_pc, f_zero, f_carry, f_allowed, f_asleep, f_halted, f_pending, f_resets, f_taken, f_now, f_data, f_serial, f_divider, f_sending, f_dueSent, f_received, f_overrun, f_sent, f_converter, f_result, f_dueResult, f_output, f_watch, f_dueWatch, f_address, f_storing, f_storeAt, f_storeControl, f_dueStore, f_mask, f_edges, f_due, f_head, f_headAt, f_headFlags, f_stop, f_pure, a_op, a_opA, a_opB, a_vectors, a_analogs, a_r, a_m, a_stack, a_count, a_since, a_control, a_compare, a_dueEqual, a_dueOver, a_line, a_store, a_headR) => wX_step_220 post x1 x2 x5 f_length f_inputs f_sp f_pc f_zero f_carry f_allowed f_asleep f_halted f_pending f_resets f_taken f_now f_data f_serial f_divider f_sending f_dueSent f_received f_overrun f_sent f_converter f_result f_dueResult f_output f_watch f_dueWatch f_address f_storing f_storeAt f_storeControl f_dueStore f_mask f_edges f_due f_head f_headAt f_headFlags f_stop f_pure a_op a_opA a_opB a_vectors a_analogs a_r a_m a_stack a_count a_since a_control a_compare a_dueEqual a_dueOver a_line a_store a_headR
def tc_yex (post : Int32 → SY → Prop) (v : SY) : Prop := match v with
  | (f_length, f_inputs, f_zero, f_carry, f_allowed, f_asleep, f_halted, f_sp, f_pc, f_now, g_passed, f_taken, f_resets, f_edges, f_sent, f_data, f_serial, f_divider, g_converter, f_result, f_output, f_watch, f_address, f_storeControl, f_mask, g_since, f_received, f_overrun, l_s, f_sending, l_c, l_b, f_storing, f_storeAt, a_op, b_opA, b_opB, a_vectors, a_analogs, b_store, a_r, a_m, a_stack, a_line, b_pending, b_count, a_control, a_compare) => wpY_execute post (f_length, f_inputs, f_zero, f_carry, f_allowed, f_asleep, f_halted, f_sp, f_pc, f_now, g_passed, f_taken, f_resets, f_edges, f_sent, f_data, f_serial, f_divider, g_converter, f_result, f_output, f_watch, f_address, f_storeControl, f_mask, g_since, f_received, f_overrun, l_s, f_sending, l_c, l_b, f_storing, f_storeAt, a_op, b_opA, b_opB, a_vectors, a_analogs, b_store, a_r, a_m, a_stack, a_line, b_pending, b_count, a_control, a_compare) (a_op f_pc.toNatClampNeg) ((b_opA f_pc.toNatClampNeg) &&& 7) (b_opB f_pc.toNatClampNeg)
def tc_xha (u : SX) : Int32 := match u with
  | (f_length, f_inputs, f_sp, f_pc, f_zero, f_carry, f_allowed, f_asleep, f_halted, f_pending, f_resets, f_taken, f_now, f_data, f_serial, f_divider, f_sending, f_dueSent, f_received, f_overrun, f_sent, f_converter, f_result, f_dueResult, f_output, f_watch, f_dueWatch, f_address, f_storing, f_storeAt, f_storeControl, f_dueStore, f_mask, f_edges, f_due, f_head, f_headAt, f_headFlags, f_stop, f_pure, a_op, a_opA, a_opB, a_vectors, a_analogs, a_r, a_m, a_stack, a_count, a_since, a_control, a_compare, a_dueEqual, a_dueOver, a_line, a_store, a_headR) => f_halted
def tc_XE (u : SX) (c : Nat) (u' : SX) : Prop := ∃ x1 x2 : Int32, ∀ post : SX → Prop, tc_s220 post x1 x2 (nI c) u' → wpX_step post u
def tc_YE (v : SY) (c : Nat) (v' : SY) : Prop := ∀ post : Int32 → SY → Prop, post (nI c) v' → tc_yex post v
def tc_PX (u : SX) (c : Nat) (u' : SX) : Prop := ∀ (T : Nat) (v : SY), tc_RR T (tc_sh T u) v → ∃ v', tc_YE v c v' ∧ tc_RR T (tc_sh T u') v' ∧ tc_yps v' = tc_yps v
def tc_CC (u u' : SX) : Prop := match u with
  | (f_length, f_inputs, f_sp, f_pc, f_zero, f_carry, f_allowed, f_asleep, f_halted, f_pending, f_resets, f_taken, f_now, f_data, f_serial, f_divider, f_sending, f_dueSent, f_received, f_overrun, f_sent, f_converter, f_result, f_dueResult, f_output, f_watch, f_dueWatch, f_address, f_storing, f_storeAt, f_storeControl, f_dueStore, f_mask, f_edges, f_due, f_head, f_headAt, f_headFlags, f_stop, f_pure, a_op, a_opA, a_opB, a_vectors, a_analogs, a_r, a_m, a_stack, a_count, a_since, a_control, a_compare, a_dueEqual, a_dueOver, a_line, a_store, a_headR) => ∃ (pc : Int32) (r : Nat → Int32) (z c : Int32), u' = (f_length, f_inputs, f_sp, pc, z, c, f_allowed, f_asleep, f_halted, f_pending, f_resets, f_taken, f_now, f_data, f_serial, f_divider, f_sending, f_dueSent, f_received, f_overrun, f_sent, f_converter, f_result, f_dueResult, f_output, f_watch, f_dueWatch, f_address, f_storing, f_storeAt, f_storeControl, f_dueStore, f_mask, f_edges, f_due, f_head, f_headAt, f_headFlags, f_stop, f_pure, a_op, a_opA, a_opB, a_vectors, a_analogs, r, a_m, a_stack, a_count, a_since, a_control, a_compare, a_dueEqual, a_dueOver, a_line, a_store, a_headR) ∧ (∀ i, 8 ≤ i → r i = 0) ∧ tc_bo z ∧ tc_bo c
def tc_E0 (T : Nat) (u : SX) (v : SY) : Prop := ∃ (u' : SX) (v' : SY), tc_RR T u' v' ∧ (∀ post : SX → Prop, post u' → wpX_step post u) ∧ tc_YE v 0 v' ∧ tc_xha u' = 1 ∧ tc_yps v' = tc_yps v
def tc_E1 (u : SX) : Prop := ∃ (u' : SX) (c : Nat), 1 ≤ c ∧ c ≤ 3 ∧ tc_XE u c u' ∧ tc_PX u c u' ∧ tc_CC u u'
def tc_E2 (T : Nat) (u : SX) (v : SY) : Prop := ∃ (u' : SX) (v' : SY) (c : Nat), 1 ≤ c ∧ c ≤ 3 ∧ tc_XE u c u' ∧ tc_YE v c v' ∧ tc_RR T u' v' ∧ tc_xpu u' = 0 ∧ tc_xst u' = tc_xst u ∧ tc_yps v' = tc_yps v
def tc_cy (o : Nat) : Nat := if (8 ≤ o ∧ o ≤ 11) ∨ o = 14 ∨ o = 19 ∨ o = 20 then 2 else if o = 17 ∨ o = 18 ∨ o = 21 then 3 else 1
section
variable {post : SX → Prop} {T i l o : Nat} {f_length f_inputs f_sp f_pc f_zero f_carry f_allowed f_asleep f_halted f_pending f_resets f_taken f_data f_serial f_divider f_sending f_dueSent f_received f_overrun f_sent f_converter f_result f_dueResult f_output f_watch f_dueWatch f_address f_storing f_storeAt f_storeControl f_dueStore f_mask f_edges f_due f_head f_headAt f_headFlags f_stop f_pure : Int32} {a_op a_opA a_opB a_vectors a_analogs a_r a_m a_stack a_count a_since a_control a_compare a_dueEqual a_dueOver a_line a_store a_headR : Nat → Int32}
theorem tc_X117 (hl : f_length = nI l) (hil : i < l) (l48 : l ≤ 48) (ho : a_op i = nI o) (o26 : o ≤ 26) (h : wX_step_117 post (nI i) (nI o) (a_opA i) (a_opB i) (nI (tc_cy o)) f_length f_inputs f_sp (nI i) f_zero f_carry f_allowed f_asleep f_halted f_pending f_resets f_taken (nI T) f_data f_serial f_divider f_sending f_dueSent f_received f_overrun f_sent f_converter f_result f_dueResult f_output f_watch f_dueWatch f_address f_storing f_storeAt f_storeControl f_dueStore f_mask f_edges f_due f_head f_headAt f_headFlags f_stop f_pure a_op a_opA a_opB a_vectors a_analogs a_r a_m a_stack a_count a_since a_control a_compare a_dueEqual a_dueOver a_line a_store a_headR) : wpX_step post (f_length, f_inputs, f_sp, nI i, f_zero, f_carry, f_allowed, f_asleep, f_halted, f_pending, f_resets, f_taken, nI T, f_data, f_serial, f_divider, f_sending, f_dueSent, f_received, f_overrun, f_sent, f_converter, f_result, f_dueResult, f_output, f_watch, f_dueWatch, f_address, f_storing, f_storeAt, f_storeControl, f_dueStore, f_mask, f_edges, f_due, f_head, f_headAt, f_headFlags, f_stop, f_pure, a_op, a_opA, a_opB, a_vectors, a_analogs, a_r, a_m, a_stack, a_count, a_since, a_control, a_compare, a_dueEqual, a_dueOver, a_line, a_store, a_headR) := by
  have e := nI_clamp (n := i) (by omega)
  have vi : vp_in (nI i) 48 := vp_in_nI (by omega) (by decide)
  have q72 : (o ≤ 7 ∨ 12 ≤ o) → wX_step_72 post (nI i) (nI o) (a_opA i) (a_opB i) f_length f_inputs f_sp (nI i) f_zero f_carry f_allowed f_asleep f_halted f_pending f_resets f_taken (nI T) f_data f_serial f_divider f_sending f_dueSent f_received f_overrun f_sent f_converter f_result f_dueResult f_output f_watch f_dueWatch f_address f_storing f_storeAt f_storeControl f_dueStore f_mask f_edges f_due f_head f_headAt f_headFlags f_stop f_pure a_op a_opA a_opB a_vectors a_analogs a_r a_m a_stack a_count a_since a_control a_compare a_dueEqual a_dueOver a_line a_store a_headR := by
    intro h7
    refine pk_eq o 14 (fun z => ?_) (fun n14 => pk_eq o 19 (fun z => ?_) (fun n19 => pk_eq o 20 (fun z => ?_) (fun n20 => pk_eq o 17 (fun z => ?_) (fun n17 => pk_eq o 18 (fun z => ?_) (fun n18 => pk_eq o 21 (fun z => ?_) (fun n21 => ?_))))))
    · subst z; exact h
    · subst z; exact h
    · subst z; exact h
    · subst z; exact h
    · subst z; exact h
    · subst z; exact h
    · have : tc_cy o = 1 := by unfold tc_cy; rw [if_neg (by omega), if_neg (by omega)]
      rw [this] at h; exact h
  refine br_f (nI_pos (by omega)) (br_t ?_ ?_)
  · rw [hl]; exact nI_lt hil (by omega)
  · rw [e, ho]
    refine ⟨vi, nm_e ⟨vi, nm_e ⟨vi, nm_e ?_⟩⟩⟩
    refine pk_le o 7 (fun h7 => q72 (Or.inl h7)) (fun h7 => pk_lt o 12 (fun h12 => ?_) (fun h12 => q72 (Or.inr h12)))
    have : tc_cy o = 2 := by unfold tc_cy; rw [if_pos (by omega)]
    rw [this] at h; exact h
theorem tc_X192n {x1 x5 : Int32} (ho : o < 14 ∨ (22 ≤ o ∧ o ≤ 25)) (h : wX_step_220 post x1 (nI o) x5 f_length f_inputs f_sp (f_pc + 1) f_zero f_carry f_allowed f_asleep f_halted f_pending f_resets f_taken (nI T) f_data f_serial f_divider f_sending f_dueSent f_received f_overrun f_sent f_converter f_result f_dueResult f_output f_watch f_dueWatch f_address f_storing f_storeAt f_storeControl f_dueStore f_mask f_edges f_due f_head f_headAt f_headFlags f_stop f_pure a_op a_opA a_opB a_vectors a_analogs a_r a_m a_stack a_count a_since a_control a_compare a_dueEqual a_dueOver a_line a_store a_headR) : wX_step_192 post x1 (nI o) x5 f_length f_inputs f_sp f_pc f_zero f_carry f_allowed f_asleep f_halted f_pending f_resets f_taken (nI T) f_data f_serial f_divider f_sending f_dueSent f_received f_overrun f_sent f_converter f_result f_dueResult f_output f_watch f_dueWatch f_address f_storing f_storeAt f_storeControl f_dueStore f_mask f_edges f_due f_head f_headAt f_headFlags f_stop f_pure a_op a_opA a_opB a_vectors a_analogs a_r a_m a_stack a_count a_since a_control a_compare a_dueEqual a_dueOver a_line a_store a_headR :=
  pk_lt o 14 (fun _ => nm_e h) (fun h14 => pk_le o 21 (fun z => absurd z (by omega)) (fun _ => pk_eq o 26 (fun z => absurd z (by omega)) (fun _ => nm_e h)))
theorem tc_X192j {x1 x5 : Int32} (ho : (14 ≤ o ∧ o ≤ 21) ∨ o = 26) (h : wX_step_220 post x1 (nI o) x5 f_length f_inputs f_sp f_pc f_zero f_carry f_allowed f_asleep f_halted f_pending f_resets f_taken (nI T) f_data f_serial f_divider f_sending f_dueSent f_received f_overrun f_sent f_converter f_result f_dueResult f_output f_watch f_dueWatch f_address f_storing f_storeAt f_storeControl f_dueStore f_mask f_edges f_due f_head f_headAt f_headFlags f_stop f_pure a_op a_opA a_opB a_vectors a_analogs a_r a_m a_stack a_count a_since a_control a_compare a_dueEqual a_dueOver a_line a_store a_headR) : wX_step_192 post x1 (nI o) x5 f_length f_inputs f_sp f_pc f_zero f_carry f_allowed f_asleep f_halted f_pending f_resets f_taken (nI T) f_data f_serial f_divider f_sending f_dueSent f_received f_overrun f_sent f_converter f_result f_dueResult f_output f_watch f_dueWatch f_address f_storing f_storeAt f_storeControl f_dueStore f_mask f_edges f_due f_head f_headAt f_headFlags f_stop f_pure a_op a_opA a_opB a_vectors a_analogs a_r a_m a_stack a_count a_since a_control a_compare a_dueEqual a_dueOver a_line a_store a_headR :=
  pk_lt o 14 (fun z => absurd z (by omega)) (fun h14 => pk_le o 21 (fun z => h) (fun _ => pk_eq o 26 (fun z => h) (fun _ => absurd ho (by omega))))
end
section
variable {post : Int32 → SY → Prop} {T i o : Nat} {f_length f_inputs f_sp f_pc f_zero f_carry f_allowed f_asleep f_halted f_pending f_resets f_taken f_data f_serial f_divider f_sending f_dueSent f_received f_overrun f_sent f_converter f_result f_dueResult f_output f_watch f_dueWatch f_address f_storing f_storeAt f_storeControl f_dueStore f_mask f_edges f_due f_head f_headAt f_headFlags f_stop f_pure : Int32} {a_op a_opA a_opB a_vectors a_analogs a_r a_m a_stack a_count a_since a_control a_compare a_dueEqual a_dueOver a_line a_store a_headR : Nat → Int32} {g_passed g_converter g_since : Int32} {l_s l_c l_b : Nat} {b_opA b_opB b_store b_pending b_count : Nat → Int32}
theorem tc_Y80 {p bb bx : Int32} (hp : vp_in p 8) (e7 : bb &&& 7 = bx &&& 7) (ho : o < 17 ∨ 21 < o) (o26 : o ≤ 26) (h : wY_execute_80 post (nI o) p bb (a_r p.toNatClampNeg) (a_r (bx &&& 7).toNatClampNeg) (f_pc + 1) f_length f_inputs f_zero f_carry f_allowed f_asleep f_halted f_sp f_pc (nI T) g_passed f_taken f_resets f_edges f_sent f_data f_serial f_divider g_converter f_result f_output f_watch f_address f_storeControl f_mask g_since f_received f_overrun (nI l_s) f_sending (nI l_c) (nI l_b) f_storing f_storeAt a_op b_opA b_opB a_vectors a_analogs b_store a_r a_m a_stack a_line b_pending b_count a_control a_compare) : wpY_execute post (f_length, f_inputs, f_zero, f_carry, f_allowed, f_asleep, f_halted, f_sp, f_pc, nI T, g_passed, f_taken, f_resets, f_edges, f_sent, f_data, f_serial, f_divider, g_converter, f_result, f_output, f_watch, f_address, f_storeControl, f_mask, g_since, f_received, f_overrun, nI l_s, f_sending, nI l_c, nI l_b, f_storing, f_storeAt, a_op, b_opA, b_opB, a_vectors, a_analogs, b_store, a_r, a_m, a_stack, a_line, b_pending, b_count, a_control, a_compare) (nI o) p bb := by
  refine And.intro hp (nm_e ?_)
  rw [e7]
  refine And.intro (tc_and7i _) (nm_e (nm_e ?_))
  exact pk_eq o 17 (fun z => absurd z (by omega)) (fun _ => pk_eq o 19 (fun z => absurd z (by omega)) (fun _ => pk_eq o 18 (fun z => absurd z (by omega)) (fun _ => pk_eq o 20 (fun z => absurd z (by omega)) (fun _ => pk_eq o 21 (fun z => absurd z (by omega)) (fun _ => h)))))
end
theorem tc_b7 (x : Int32) : (x &&& 255) &&& 7 = x &&& 7 := by
  apply b_ext
  intro i hi
  rw [b_and, b_and, b_and, Bool.and_assoc]
  refine congrArg (fun z => bt x i && z) ?_
  exact (by decide +kernel : ∀ i, i < 32 → (bt 255 i && bt 7 i) = bt 7 i) i hi
theorem tc_b31 (x : Int32) : (x &&& 255) &&& 31 = x &&& 31 := by
  apply b_ext
  intro i hi
  rw [b_and, b_and, b_and, Bool.and_assoc]
  refine congrArg (fun z => bt x i && z) ?_
  exact (by decide +kernel : ∀ i, i < 32 → (bt 255 i && bt 31 i) = bt 31 i) i hi
section
variable {T i o c : Nat} {f_length f_inputs f_sp f_pc f_zero f_carry f_allowed f_asleep f_halted f_pending f_resets f_taken f_data f_serial f_divider f_sending f_dueSent f_received f_overrun f_sent f_converter f_result f_dueResult f_output f_watch f_dueWatch f_address f_storing f_storeAt f_storeControl f_dueStore f_mask f_edges f_due f_head f_headAt f_headFlags f_stop f_pure : Int32} {a_op a_opA a_opB a_vectors a_analogs a_r a_m a_stack a_count a_since a_control a_compare a_dueEqual a_dueOver a_line a_store a_headR : Nat → Int32}
/-- a pure instruction: both sides at every time -/
theorem tc_exP {pc' : Int32} {r' : Nat → Int32} {z' c' : Int32} (i48 : i < 48) (c1 : 1 ≤ c) (c3 : c ≤ 3)
    (q1 : ∀ j, tc_y8 (r' j)) (q2 : ∀ j, 8 ≤ j → r' j = 0) (q3 : tc_bo z') (q4 : tc_bo c')
    (hX : ∀ post : SX → Prop, wX_step_220 post (nI i) (nI o) (nI c) f_length f_inputs f_sp pc' z' c' f_allowed f_asleep f_halted f_pending f_resets f_taken (nI T) f_data f_serial f_divider f_sending f_dueSent f_received f_overrun f_sent f_converter f_result f_dueResult f_output f_watch f_dueWatch f_address f_storing f_storeAt f_storeControl f_dueStore f_mask f_edges f_due f_head f_headAt f_headFlags f_stop f_pure a_op a_opA a_opB a_vectors a_analogs r' a_m a_stack a_count a_since a_control a_compare a_dueEqual a_dueOver a_line a_store a_headR → wpX_step post (f_length, f_inputs, f_sp, nI i, f_zero, f_carry, f_allowed, f_asleep, f_halted, f_pending, f_resets, f_taken, nI T, f_data, f_serial, f_divider, f_sending, f_dueSent, f_received, f_overrun, f_sent, f_converter, f_result, f_dueResult, f_output, f_watch, f_dueWatch, f_address, f_storing, f_storeAt, f_storeControl, f_dueStore, f_mask, f_edges, f_due, f_head, f_headAt, f_headFlags, f_stop, f_pure, a_op, a_opA, a_opB, a_vectors, a_analogs, a_r, a_m, a_stack, a_count, a_since, a_control, a_compare, a_dueEqual, a_dueOver, a_line, a_store, a_headR))
    (hY : ∀ (T : Nat) (g_passed g_converter g_since : Int32) (l_s l_c l_b : Nat) (b_opA b_opB b_store b_pending b_count : Nat → Int32), tc_FF T f_length f_inputs f_sp f_pc f_zero f_carry f_allowed f_asleep f_halted f_pending f_resets f_taken f_data f_serial f_divider f_sending f_dueSent f_received f_overrun f_sent f_converter f_result f_dueResult f_output f_watch f_dueWatch f_address f_storing f_storeAt f_storeControl f_dueStore f_mask f_edges f_due f_head f_headAt f_headFlags f_stop f_pure a_op a_opA a_opB a_vectors a_analogs a_r a_m a_stack a_count a_since a_control a_compare a_dueEqual a_dueOver a_line a_store a_headR g_passed g_converter g_since l_s l_c l_b b_opA b_opB b_store b_pending b_count → ∀ post : Int32 → SY → Prop, post (nI c) (f_length, f_inputs, z', c', f_allowed, f_asleep, f_halted, f_sp, pc', nI T, g_passed, f_taken, f_resets, f_edges, f_sent, f_data, f_serial, f_divider, g_converter, f_result, f_output, f_watch, f_address, f_storeControl, f_mask, g_since, f_received, f_overrun, nI l_s, f_sending, nI l_c, nI l_b, f_storing, f_storeAt, a_op, b_opA, b_opB, a_vectors, a_analogs, b_store, r', a_m, a_stack, a_line, b_pending, b_count, a_control, a_compare) → wpY_execute post (f_length, f_inputs, f_zero, f_carry, f_allowed, f_asleep, f_halted, f_sp, nI i, nI T, g_passed, f_taken, f_resets, f_edges, f_sent, f_data, f_serial, f_divider, g_converter, f_result, f_output, f_watch, f_address, f_storeControl, f_mask, g_since, f_received, f_overrun, nI l_s, f_sending, nI l_c, nI l_b, f_storing, f_storeAt, a_op, b_opA, b_opB, a_vectors, a_analogs, b_store, a_r, a_m, a_stack, a_line, b_pending, b_count, a_control, a_compare) (a_op i) (a_opA i) (b_opB i)) :
    tc_E1 (f_length, f_inputs, f_sp, nI i, f_zero, f_carry, f_allowed, f_asleep, f_halted, f_pending, f_resets, f_taken, nI T, f_data, f_serial, f_divider, f_sending, f_dueSent, f_received, f_overrun, f_sent, f_converter, f_result, f_dueResult, f_output, f_watch, f_dueWatch, f_address, f_storing, f_storeAt, f_storeControl, f_dueStore, f_mask, f_edges, f_due, f_head, f_headAt, f_headFlags, f_stop, f_pure, a_op, a_opA, a_opB, a_vectors, a_analogs, a_r, a_m, a_stack, a_count, a_since, a_control, a_compare, a_dueEqual, a_dueOver, a_line, a_store, a_headR) := by
  have e := nI_clamp (n := i) (by omega)
  refine ⟨(f_length, f_inputs, f_sp, pc', z', c', f_allowed, f_asleep, f_halted, f_pending, f_resets, f_taken, nI T, f_data, f_serial, f_divider, f_sending, f_dueSent, f_received, f_overrun, f_sent, f_converter, f_result, f_dueResult, f_output, f_watch, f_dueWatch, f_address, f_storing, f_storeAt, f_storeControl, f_dueStore, f_mask, f_edges, f_due, f_head, f_headAt, f_headFlags, f_stop, f_pure, a_op, a_opA, a_opB, a_vectors, a_analogs, r', a_m, a_stack, a_count, a_since, a_control, a_compare, a_dueEqual, a_dueOver, a_line, a_store, a_headR), c, c1, c3, ⟨nI i, nI o, hX⟩, fun T' v R => ?_, ⟨pc', r', z', c', rfl, q2, q3, q4⟩⟩
  obtain ⟨g_passed, g_converter, g_since, l_s, l_c, l_b, b_opA, b_opB, b_store, b_pending, b_count, -, rfl, hLen, hOp, hA, hB, hAn, hM, hSt, hR, hR0, hZ, hC, hAl, hAs, hHa, hRe, hOv, hPu, hSp, hT, hSe, hIn, hDa, hDi, hRs, hOu, hWa, hMa, hSg, hSo, hAd, hSA, hSr, hSC, hCv, hCw, hPe, hT0, hT1, hUs, hUc, hUb, hW, hD⟩ := R
  refine ⟨(f_length, f_inputs, z', c', f_allowed, f_asleep, f_halted, f_sp, pc', nI T', g_passed, f_taken, f_resets, f_edges, f_sent, f_data, f_serial, f_divider, g_converter, f_result, f_output, f_watch, f_address, f_storeControl, f_mask, g_since, f_received, f_overrun, nI l_s, f_sending, nI l_c, nI l_b, f_storing, f_storeAt, a_op, b_opA, b_opB, a_vectors, a_analogs, b_store, r', a_m, a_stack, a_line, b_pending, b_count, a_control, a_compare), fun post h => ?_, ?_, rfl⟩
  · show wpY_execute post (f_length, f_inputs, f_zero, f_carry, f_allowed, f_asleep, f_halted, f_sp, nI i, nI T', g_passed, f_taken, f_resets, f_edges, f_sent, f_data, f_serial, f_divider, g_converter, f_result, f_output, f_watch, f_address, f_storeControl, f_mask, g_since, f_received, f_overrun, nI l_s, f_sending, nI l_c, nI l_b, f_storing, f_storeAt, a_op, b_opA, b_opB, a_vectors, a_analogs, b_store, a_r, a_m, a_stack, a_line, b_pending, b_count, a_control, a_compare) (a_op (nI i).toNatClampNeg) ((b_opA (nI i).toNatClampNeg) &&& 7) (b_opB (nI i).toNatClampNeg)
    rw [e, ← hA i]
    exact hY T' g_passed g_converter g_since l_s l_c l_b b_opA b_opB b_store b_pending b_count ⟨hLen, hOp, hA, hB, hAn, hM, hSt, hR, hR0, hZ, hC, hAl, hAs, hHa, hRe, hOv, hPu, hSp, hT, hSe, hIn, hDa, hDi, hRs, hOu, hWa, hMa, hSg, hSo, hAd, hSA, hSr, hSC, hCv, hCw, hPe, hT0, hT1, hUs, hUc, hUb, hW, hD⟩ post h
  · exact tc_RRi (T := T') hLen hOp hA hB hAn hM hSt q1 q2 q3 q4 hAl hAs hHa hRe hOv hPu hSp hT hSe hIn hDa hDi hRs hOu hWa hMa hSg hSo hAd hSA hSr hSC hCv hCw hPe hT0 hT1 hUs hUc hUb hW hD
end
section
variable {T i l o : Nat} {f_length f_inputs f_sp f_pc f_zero f_carry f_allowed f_asleep f_halted f_pending f_resets f_taken f_data f_serial f_divider f_sending f_dueSent f_received f_overrun f_sent f_converter f_result f_dueResult f_output f_watch f_dueWatch f_address f_storing f_storeAt f_storeControl f_dueStore f_mask f_edges f_due f_head f_headAt f_headFlags f_stop f_pure : Int32} {a_op a_opA a_opB a_vectors a_analogs a_r a_m a_stack a_count a_since a_control a_compare a_dueEqual a_dueOver a_line a_store a_headR : Nat → Int32} {g_passed g_converter g_since : Int32} {l_s l_c l_b : Nat} {b_opA b_opB b_store b_pending b_count : Nat → Int32}
theorem tc_opA (hA : ∀ i, a_opA i = b_opA i &&& 7) (i : Nat) : vp_in (a_opA i) 8 := by rw [hA]; exact tc_and7i _
theorem tc_exCalc (F : tc_FF T f_length f_inputs f_sp f_pc f_zero f_carry f_allowed f_asleep f_halted f_pending f_resets f_taken f_data f_serial f_divider f_sending f_dueSent f_received f_overrun f_sent f_converter f_result f_dueResult f_output f_watch f_dueWatch f_address f_storing f_storeAt f_storeControl f_dueStore f_mask f_edges f_due f_head f_headAt f_headFlags f_stop f_pure a_op a_opA a_opB a_vectors a_analogs a_r a_m a_stack a_count a_since a_control a_compare a_dueEqual a_dueOver a_line a_store a_headR g_passed g_converter g_since l_s l_c l_b b_opA b_opB b_store b_pending b_count) (hl : f_length = nI l) (hil : i < l) (l48 : l ≤ 48) (ho : a_op i = nI o) (o8 : o < 8) : tc_E1 (f_length, f_inputs, f_sp, nI i, f_zero, f_carry, f_allowed, f_asleep, f_halted, f_pending, f_resets, f_taken, nI T, f_data, f_serial, f_divider, f_sending, f_dueSent, f_received, f_overrun, f_sent, f_converter, f_result, f_dueResult, f_output, f_watch, f_dueWatch, f_address, f_storing, f_storeAt, f_storeControl, f_dueStore, f_mask, f_edges, f_due, f_head, f_headAt, f_headFlags, f_stop, f_pure, a_op, a_opA, a_opB, a_vectors, a_analogs, a_r, a_m, a_stack, a_count, a_since, a_control, a_compare, a_dueEqual, a_dueOver, a_line, a_store, a_headR) := by
  obtain ⟨hLen, hOp, hA, hB, hAn, hM, hSt, hR, hR0, hZ, hC, hAl, hAs, hHa, hRe, hOv, hPu, hSp, hT, hSe, hIn, hDa, hDi, hRs, hOu, hWa, hMa, hSg, hSo, hAd, hSA, hSr, hSC, hCv, hCw, hPe, hT0, hT1, hUs, hUc, hUb, hW, hD⟩ := F
  have hp := tc_opA hA i
  have hb : tc_y8 (a_opB i) := by rw [hB]; exact tc_y8_and _
  obtain ⟨r', z', c', cX, cY, q1, q2, q3, q4⟩ := tc_calc (f_length := f_length) (f_inputs := f_inputs) (f_sp := f_sp) (f_pc := nI i) (f_zero := f_zero) (f_carry := f_carry) (f_allowed := f_allowed) (f_asleep := f_asleep) (f_halted := f_halted) (f_pending := f_pending) (f_resets := f_resets) (f_taken := f_taken) (f_data := f_data) (f_serial := f_serial) (f_divider := f_divider) (f_sending := f_sending) (f_dueSent := f_dueSent) (f_received := f_received) (f_overrun := f_overrun) (f_sent := f_sent) (f_converter := f_converter) (f_result := f_result) (f_dueResult := f_dueResult) (f_output := f_output) (f_watch := f_watch) (f_dueWatch := f_dueWatch) (f_address := f_address) (f_storing := f_storing) (f_storeAt := f_storeAt) (f_storeControl := f_storeControl) (f_dueStore := f_dueStore) (f_mask := f_mask) (f_edges := f_edges) (f_due := f_due) (f_head := f_head) (f_headAt := f_headAt) (f_headFlags := f_headFlags) (f_stop := f_stop) (f_pure := f_pure) (a_op := a_op) (a_opA := a_opA) (a_opB := a_opB) (a_vectors := a_vectors) (a_analogs := a_analogs) (a_r := a_r) (a_m := a_m) (a_stack := a_stack) (a_count := a_count) (a_since := a_since) (a_control := a_control) (a_compare := a_compare) (a_dueEqual := a_dueEqual) (a_dueOver := a_dueOver) (a_line := a_line) (a_store := a_store) (a_headR := a_headR) o8 hp hb hR hR0 hZ hC
  refine tc_exP (f_pc := f_pc) (pc' := nI i + 1) (o := o) (c := 1) (by omega) (by omega) (by omega) q1 q2 q3 q4 (fun post h => ?_) (fun T' g_passed g_converter g_since l_s l_c l_b b_opA b_opB b_store b_pending b_count F' post h => ?_)
  · have ec : tc_cy o = 1 := by unfold tc_cy; rw [if_neg (by omega), if_neg (by omega)]
    refine tc_X117 hl hil l48 ho (by omega) ?_
    rw [ec]
    refine br_f (nI_ge (b := 8) (by omega) (by decide)) ?_
    refine cX T _ ?_
    exact tc_X192n (by omega) h
  · obtain ⟨hLen, hOp, hA, hB, hAn, hM, hSt, hR, hR0, hZ, hC, hAl, hAs, hHa, hRe, hOv, hPu, hSp, hT, hSe, hIn, hDa, hDi, hRs, hOu, hWa, hMa, hSg, hSo, hAd, hSA, hSr, hSC, hCv, hCw, hPe, hT0, hT1, hUs, hUc, hUb, hW, hD⟩ := F'
    have eB : b_opB i &&& 255 = a_opB i := (hB i).symm
    have e7 : b_opB i &&& 7 = a_opB i &&& 7 := by rw [← eB, tc_b7]
    rw [ho]
    refine tc_Y80 hp e7 (by omega) (by omega) ?_
    have cY' := cY T' g_passed g_converter g_since l_s l_c l_b b_opA b_opB b_store b_pending b_count (nI i + 1) (fun u => post 1 u)
    refine br_f (nI_nlt (b := o) (a := 7) (by omega) (by decide)) ?_
    by_cases h0 : o = 0
    · subst h0
      rw [if_pos nI_0] at cY'
      refine br_t rfl ?_
      unfold wY_execute_109
      rw [eB]
      exact cY' h
    · have n0 : ¬ nI o = 0 := fun z => h0 ((nI_eq (b := 0) (by omega) (by decide)).mp z)
      rw [if_neg n0] at cY'
      refine br_f n0 ?_
      unfold wY_execute_109
      exact cY' h
theorem tc_ex8 (F : tc_FF T f_length f_inputs f_sp f_pc f_zero f_carry f_allowed f_asleep f_halted f_pending f_resets f_taken f_data f_serial f_divider f_sending f_dueSent f_received f_overrun f_sent f_converter f_result f_dueResult f_output f_watch f_dueWatch f_address f_storing f_storeAt f_storeControl f_dueStore f_mask f_edges f_due f_head f_headAt f_headFlags f_stop f_pure a_op a_opA a_opB a_vectors a_analogs a_r a_m a_stack a_count a_since a_control a_compare a_dueEqual a_dueOver a_line a_store a_headR g_passed g_converter g_since l_s l_c l_b b_opA b_opB b_store b_pending b_count) (hl : f_length = nI l) (hil : i < l) (l48 : l ≤ 48) (ho : a_op i = nI 8) : tc_E1 (f_length, f_inputs, f_sp, nI i, f_zero, f_carry, f_allowed, f_asleep, f_halted, f_pending, f_resets, f_taken, nI T, f_data, f_serial, f_divider, f_sending, f_dueSent, f_received, f_overrun, f_sent, f_converter, f_result, f_dueResult, f_output, f_watch, f_dueWatch, f_address, f_storing, f_storeAt, f_storeControl, f_dueStore, f_mask, f_edges, f_due, f_head, f_headAt, f_headFlags, f_stop, f_pure, a_op, a_opA, a_opB, a_vectors, a_analogs, a_r, a_m, a_stack, a_count, a_since, a_control, a_compare, a_dueEqual, a_dueOver, a_line, a_store, a_headR) := by
  obtain ⟨hLen, hOp, hA, hB, hAn, hM, hSt, hR, hR0, hZ, hC, hAl, hAs, hHa, hRe, hOv, hPu, hSp, hT, hSe, hIn, hDa, hDi, hRs, hOu, hWa, hMa, hSg, hSo, hAd, hSA, hSr, hSC, hCv, hCw, hPe, hT0, hT1, hUs, hUc, hUb, hW, hD⟩ := F
  have hp := tc_opA hA i
  obtain ⟨q1, q2⟩ := tc_rup hp hR hR0 (hM (a_opB i &&& 31).toNatClampNeg)
  refine tc_exP (f_pc := f_pc) (pc' := nI i + 1) (o := 8) (c := 2) (by omega) (by omega) (by omega) q1 q2 hZ hC (fun post h => ?_) (fun T' g_passed g_converter g_since l_s l_c l_b b_opA b_opB b_store b_pending b_count F' post h => ?_)
  · refine tc_X117 hl hil l48 ho (by omega) ?_
    refine br_t (by decide) (br_f (by decide) ?_)
    refine br_f (by decide) (br_f (by decide) (br_f (by decide) (br_f (by decide) (br_f (by decide) (br_f (by decide) (br_t rfl ?_))))))
    refine And.intro (tc_and31i _) (And.intro hp (nm_e ?_))
    exact tc_X192n (o := 8) (by omega) h
  · obtain ⟨hLen, hOp, hA, hB, hAn, hM, hSt, hR, hR0, hZ, hC, hAl, hAs, hHa, hRe, hOv, hPu, hSp, hT, hSe, hIn, hDa, hDi, hRs, hOu, hWa, hMa, hSg, hSo, hAd, hSA, hSr, hSC, hCv, hCw, hPe, hT0, hT1, hUs, hUc, hUb, hW, hD⟩ := F'
    have eB : b_opB i &&& 255 = a_opB i := (hB i).symm
    have e7 : b_opB i &&& 7 = a_opB i &&& 7 := by rw [← eB, tc_b7]
    have e31 : b_opB i &&& 31 = a_opB i &&& 31 := by rw [← eB, tc_b31]
    rw [ho]
    refine tc_Y80 hp e7 (by omega) (by omega) ?_
    refine br_t (by decide) (br_f (by decide) ?_)
    refine br_t rfl ?_
    unfold wY_move_12
    rw [e31]
    refine br_t rfl ?_
    refine And.intro (tc_and31i _) (And.intro hp (nm_e ?_))
    exact br_f (by decide) (br_f (by decide) (br_f (by decide) (br_f (by decide) (br_f (by decide) h))))
theorem tc_ex10 (F : tc_FF T f_length f_inputs f_sp f_pc f_zero f_carry f_allowed f_asleep f_halted f_pending f_resets f_taken f_data f_serial f_divider f_sending f_dueSent f_received f_overrun f_sent f_converter f_result f_dueResult f_output f_watch f_dueWatch f_address f_storing f_storeAt f_storeControl f_dueStore f_mask f_edges f_due f_head f_headAt f_headFlags f_stop f_pure a_op a_opA a_opB a_vectors a_analogs a_r a_m a_stack a_count a_since a_control a_compare a_dueEqual a_dueOver a_line a_store a_headR g_passed g_converter g_since l_s l_c l_b b_opA b_opB b_store b_pending b_count) (hl : f_length = nI l) (hil : i < l) (l48 : l ≤ 48) (ho : a_op i = nI 10) : tc_E1 (f_length, f_inputs, f_sp, nI i, f_zero, f_carry, f_allowed, f_asleep, f_halted, f_pending, f_resets, f_taken, nI T, f_data, f_serial, f_divider, f_sending, f_dueSent, f_received, f_overrun, f_sent, f_converter, f_result, f_dueResult, f_output, f_watch, f_dueWatch, f_address, f_storing, f_storeAt, f_storeControl, f_dueStore, f_mask, f_edges, f_due, f_head, f_headAt, f_headFlags, f_stop, f_pure, a_op, a_opA, a_opB, a_vectors, a_analogs, a_r, a_m, a_stack, a_count, a_since, a_control, a_compare, a_dueEqual, a_dueOver, a_line, a_store, a_headR) := by
  obtain ⟨hLen, hOp, hA, hB, hAn, hM, hSt, hR, hR0, hZ, hC, hAl, hAs, hHa, hRe, hOv, hPu, hSp, hT, hSe, hIn, hDa, hDi, hRs, hOu, hWa, hMa, hSg, hSo, hAd, hSA, hSr, hSC, hCv, hCw, hPe, hT0, hT1, hUs, hUc, hUb, hW, hD⟩ := F
  have hp := tc_opA hA i
  obtain ⟨q1, q2⟩ := tc_rup hp hR hR0 (hM (a_r (a_opB i &&& 7).toNatClampNeg &&& 31).toNatClampNeg)
  refine tc_exP (f_pc := f_pc) (pc' := nI i + 1) (o := 10) (c := 2) (by omega) (by omega) (by omega) q1 q2 hZ hC (fun post h => ?_) (fun T' g_passed g_converter g_since l_s l_c l_b b_opA b_opB b_store b_pending b_count F' post h => ?_)
  · refine tc_X117 hl hil l48 ho (by omega) ?_
    refine br_t (by decide) (br_f (by decide) ?_)
    refine br_f (by decide) (br_f (by decide) (br_f (by decide) (br_f (by decide) (br_f (by decide) (br_f (by decide) (br_f (by decide) (br_f (by decide) (br_t rfl ?_))))))))
    refine And.intro (tc_and7i _) (And.intro (tc_and31i _) (And.intro hp (nm_e ?_)))
    exact tc_X192n (o := 10) (by omega) h
  · obtain ⟨hLen, hOp, hA, hB, hAn, hM, hSt, hR, hR0, hZ, hC, hAl, hAs, hHa, hRe, hOv, hPu, hSp, hT, hSe, hIn, hDa, hDi, hRs, hOu, hWa, hMa, hSg, hSo, hAd, hSA, hSr, hSC, hCv, hCw, hPe, hT0, hT1, hUs, hUc, hUb, hW, hD⟩ := F'
    have eB : b_opB i &&& 255 = a_opB i := (hB i).symm
    have e7 : b_opB i &&& 7 = a_opB i &&& 7 := by rw [← eB, tc_b7]
    rw [ho]
    refine tc_Y80 hp e7 (by omega) (by omega) ?_
    refine br_t (by decide) (br_f (by decide) ?_)
    refine br_f (by decide) (br_f (by decide) ?_)
    rw [e7]
    refine And.intro (tc_and7i _) ?_
    refine br_f (by decide) (br_t rfl ?_)
    refine And.intro (tc_and31i _) (And.intro hp (nm_e ?_))
    exact br_f (by decide) (br_f (by decide) (br_f (by decide) (br_f (by decide) (br_f (by decide) h))))
/-- X's jump of an instruction that doesn't touch the stack, up to its flags -/
theorem tc_Xj {post : Int32 → SX → Prop} {p bx : Int32} (ho : o = 14 ∨ o = 15 ∨ o = 16 ∨ o = 26) (h : wX_jump_94 post (nI o) p bx f_length f_inputs f_sp f_pc f_zero f_carry f_allowed f_asleep f_halted f_pending f_resets f_taken (nI T) f_data f_serial f_divider f_sending f_dueSent f_received f_overrun f_sent f_converter f_result f_dueResult f_output f_watch f_dueWatch f_address f_storing f_storeAt f_storeControl f_dueStore f_mask f_edges f_due f_head f_headAt f_headFlags f_stop f_pure a_op a_opA a_opB a_vectors a_analogs a_r a_m a_stack a_count a_since a_control a_compare a_dueEqual a_dueOver a_line a_store a_headR) : wpX_jump post (f_length, f_inputs, f_sp, f_pc, f_zero, f_carry, f_allowed, f_asleep, f_halted, f_pending, f_resets, f_taken, nI T, f_data, f_serial, f_divider, f_sending, f_dueSent, f_received, f_overrun, f_sent, f_converter, f_result, f_dueResult, f_output, f_watch, f_dueWatch, f_address, f_storing, f_storeAt, f_storeControl, f_dueStore, f_mask, f_edges, f_due, f_head, f_headAt, f_headFlags, f_stop, f_pure, a_op, a_opA, a_opB, a_vectors, a_analogs, a_r, a_m, a_stack, a_count, a_since, a_control, a_compare, a_dueEqual, a_dueOver, a_line, a_store, a_headR) (nI o) p bx := by
  rcases ho with rfl | rfl | rfl | rfl
  · exact br_f (by decide) (br_f (by decide) (br_f (by decide) (br_f (by decide) (br_f (by decide) (br_t rfl (br_t rfl (br_t (by decide) h)))))))
  · exact br_f (by decide) (br_f (by decide) (br_f (by decide) (br_f (by decide) (br_f (by decide) (br_t rfl (br_t rfl (br_t (by decide) h)))))))
  · exact br_f (by decide) (br_f (by decide) (br_f (by decide) (br_f (by decide) (br_f (by decide) (br_t rfl (br_t rfl (br_t (by decide) h)))))))
  · exact br_f (by decide) (br_f (by decide) (br_f (by decide) (br_f (by decide) (br_f (by decide) (br_t rfl (br_t rfl (br_f (by decide) (br_t (by decide) h))))))))
theorem tc_Xj0 {post : Int32 → SX → Prop} {p bx : Int32} (ho : o = 15 ∨ o = 16 ∨ o = 26) (h : post 0 (f_length, f_inputs, f_sp, f_pc + 1, f_zero, f_carry, f_allowed, f_asleep, f_halted, f_pending, f_resets, f_taken, nI T, f_data, f_serial, f_divider, f_sending, f_dueSent, f_received, f_overrun, f_sent, f_converter, f_result, f_dueResult, f_output, f_watch, f_dueWatch, f_address, f_storing, f_storeAt, f_storeControl, f_dueStore, f_mask, f_edges, f_due, f_head, f_headAt, f_headFlags, f_stop, f_pure, a_op, a_opA, a_opB, a_vectors, a_analogs, a_r, a_m, a_stack, a_count, a_since, a_control, a_compare, a_dueEqual, a_dueOver, a_line, a_store, a_headR)) : wX_jump_163 post (nI o) p bx f_length f_inputs f_sp f_pc f_zero f_carry f_allowed f_asleep f_halted f_pending f_resets f_taken (nI T) f_data f_serial f_divider f_sending f_dueSent f_received f_overrun f_sent f_converter f_result f_dueResult f_output f_watch f_dueWatch f_address f_storing f_storeAt f_storeControl f_dueStore f_mask f_edges f_due f_head f_headAt f_headFlags f_stop f_pure a_op a_opA a_opB a_vectors a_analogs a_r a_m a_stack a_count a_since a_control a_compare a_dueEqual a_dueOver a_line a_store a_headR := by
  rcases ho with rfl | rfl | rfl
  · exact br_f (by decide) (br_f (by decide) (br_f (by decide) (br_f (by decide) (br_f (by decide) (br_f (by decide) (br_f (by decide) (br_f (by decide) (br_t rfl (nm_e ⟨tc_n0, h⟩)))))))))
  · exact br_f (by decide) (br_f (by decide) (br_f (by decide) (br_f (by decide) (br_f (by decide) (br_f (by decide) (br_f (by decide) (br_f (by decide) (br_t rfl (nm_e ⟨tc_n0, h⟩)))))))))
  · exact br_f (by decide) (br_f (by decide) (br_f (by decide) (br_f (by decide) (br_f (by decide) (br_f (by decide) (br_f (by decide) (br_f (by decide) (br_t rfl (nm_e ⟨tc_n0, h⟩)))))))))
theorem tc_Xj1 {post : Int32 → SX → Prop} {p bx : Int32} (ho : o = 15 ∨ o = 16 ∨ o = 26) (h : post 1 (f_length, f_inputs, f_sp, bx, f_zero, f_carry, f_allowed, f_asleep, f_halted, f_pending, f_resets, f_taken, nI T, f_data, f_serial, f_divider, f_sending, f_dueSent, f_received, f_overrun, f_sent, f_converter, f_result, f_dueResult, f_output, f_watch, f_dueWatch, f_address, f_storing, f_storeAt, f_storeControl, f_dueStore, f_mask, f_edges, f_due, f_head, f_headAt, f_headFlags, f_stop, f_pure, a_op, a_opA, a_opB, a_vectors, a_analogs, a_r, a_m, a_stack, a_count, a_since, a_control, a_compare, a_dueEqual, a_dueOver, a_line, a_store, a_headR)) : wX_jump_159 post (nI o) p bx f_length f_inputs f_sp f_pc f_zero f_carry f_allowed f_asleep f_halted f_pending f_resets f_taken (nI T) f_data f_serial f_divider f_sending f_dueSent f_received f_overrun f_sent f_converter f_result f_dueResult f_output f_watch f_dueWatch f_address f_storing f_storeAt f_storeControl f_dueStore f_mask f_edges f_due f_head f_headAt f_headFlags f_stop f_pure a_op a_opA a_opB a_vectors a_analogs a_r a_m a_stack a_count a_since a_control a_compare a_dueEqual a_dueOver a_line a_store a_headR := by
  rcases ho with rfl | rfl | rfl
  · exact br_f (by decide) (br_f (by decide) (br_f (by decide) (br_f (by decide) (br_f (by decide) (br_f (by decide) (br_f (by decide) (br_f (by decide) (br_f (by decide) ⟨tc_n1, h⟩))))))))
  · exact br_f (by decide) (br_f (by decide) (br_f (by decide) (br_f (by decide) (br_f (by decide) (br_f (by decide) (br_f (by decide) (br_f (by decide) (br_f (by decide) ⟨tc_n1, h⟩))))))))
  · exact br_f (by decide) (br_f (by decide) (br_f (by decide) (br_f (by decide) (br_f (by decide) (br_f (by decide) (br_f (by decide) (br_f (by decide) (br_f (by decide) ⟨tc_n1, h⟩))))))))
theorem tc_ex14 (F : tc_FF T f_length f_inputs f_sp f_pc f_zero f_carry f_allowed f_asleep f_halted f_pending f_resets f_taken f_data f_serial f_divider f_sending f_dueSent f_received f_overrun f_sent f_converter f_result f_dueResult f_output f_watch f_dueWatch f_address f_storing f_storeAt f_storeControl f_dueStore f_mask f_edges f_due f_head f_headAt f_headFlags f_stop f_pure a_op a_opA a_opB a_vectors a_analogs a_r a_m a_stack a_count a_since a_control a_compare a_dueEqual a_dueOver a_line a_store a_headR g_passed g_converter g_since l_s l_c l_b b_opA b_opB b_store b_pending b_count) (hl : f_length = nI l) (hil : i < l) (l48 : l ≤ 48) (h0 : f_halted = 0) (ho : a_op i = nI 14) : tc_E1 (f_length, f_inputs, f_sp, nI i, f_zero, f_carry, f_allowed, f_asleep, f_halted, f_pending, f_resets, f_taken, nI T, f_data, f_serial, f_divider, f_sending, f_dueSent, f_received, f_overrun, f_sent, f_converter, f_result, f_dueResult, f_output, f_watch, f_dueWatch, f_address, f_storing, f_storeAt, f_storeControl, f_dueStore, f_mask, f_edges, f_due, f_head, f_headAt, f_headFlags, f_stop, f_pure, a_op, a_opA, a_opB, a_vectors, a_analogs, a_r, a_m, a_stack, a_count, a_since, a_control, a_compare, a_dueEqual, a_dueOver, a_line, a_store, a_headR) := by
  obtain ⟨hLen, hOp, hA, hB, hAn, hM, hSt, hR, hR0, hZ, hC, hAl, hAs, hHa, hRe, hOv, hPu, hSp, hT, hSe, hIn, hDa, hDi, hRs, hOu, hWa, hMa, hSg, hSo, hAd, hSA, hSr, hSC, hCv, hCw, hPe, hT0, hT1, hUs, hUc, hUb, hW, hD⟩ := F
  have hp := tc_opA hA i
  refine tc_exP (f_pc := f_pc) (pc' := a_opB i) (o := 14) (c := 2) (by omega) (by omega) (by omega) hR hR0 hZ hC (fun post h => ?_) (fun T' g_passed g_converter g_since l_s l_c l_b b_opA b_opB b_store b_pending b_count F' post h => ?_)
  · refine tc_X117 hl hil l48 ho (by omega) ?_
    refine br_t (by decide) (br_t (by decide) (br_t (by decide) ?_))
    refine tc_Xj (o := 14) (by omega) ?_
    refine br_f (by decide) (br_f (by decide) (br_f (by decide) (br_f (by decide) (br_f (by decide) (br_f (by decide) (br_f (by decide) (br_f (by decide) (br_f (by decide) (br_f (by decide) (br_t rfl ⟨tc_n0, ?_⟩))))))))))
    exact br_t rfl (br_t h0 (tc_X192j (o := 14) (by omega) h))
  · obtain ⟨hLen, hOp, hA, hB, hAn, hM, hSt, hR, hR0, hZ, hC, hAl, hAs, hHa, hRe, hOv, hPu, hSp, hT, hSe, hIn, hDa, hDi, hRs, hOu, hWa, hMa, hSg, hSo, hAd, hSA, hSr, hSC, hCv, hCw, hPe, hT0, hT1, hUs, hUc, hUb, hW, hD⟩ := F'
    have eB : b_opB i &&& 255 = a_opB i := (hB i).symm
    have e7 : b_opB i &&& 7 = a_opB i &&& 7 := by rw [← eB, tc_b7]
    rw [ho]
    refine tc_Y80 hp e7 (by omega) (by omega) ?_
    refine br_t (by decide) (br_t (by decide) (br_f (by decide) (br_f (by decide) (br_t rfl ?_))))
    refine br_f (by decide) (nm_r (e' := a_opB i) eB (br_f (by decide) h))
theorem tc_ex15 (F : tc_FF T f_length f_inputs f_sp f_pc f_zero f_carry f_allowed f_asleep f_halted f_pending f_resets f_taken f_data f_serial f_divider f_sending f_dueSent f_received f_overrun f_sent f_converter f_result f_dueResult f_output f_watch f_dueWatch f_address f_storing f_storeAt f_storeControl f_dueStore f_mask f_edges f_due f_head f_headAt f_headFlags f_stop f_pure a_op a_opA a_opB a_vectors a_analogs a_r a_m a_stack a_count a_since a_control a_compare a_dueEqual a_dueOver a_line a_store a_headR g_passed g_converter g_since l_s l_c l_b b_opA b_opB b_store b_pending b_count) (hl : f_length = nI l) (hil : i < l) (l48 : l ≤ 48) (h0 : f_halted = 0) (ho : a_op i = nI 15) : tc_E1 (f_length, f_inputs, f_sp, nI i, f_zero, f_carry, f_allowed, f_asleep, f_halted, f_pending, f_resets, f_taken, nI T, f_data, f_serial, f_divider, f_sending, f_dueSent, f_received, f_overrun, f_sent, f_converter, f_result, f_dueResult, f_output, f_watch, f_dueWatch, f_address, f_storing, f_storeAt, f_storeControl, f_dueStore, f_mask, f_edges, f_due, f_head, f_headAt, f_headFlags, f_stop, f_pure, a_op, a_opA, a_opB, a_vectors, a_analogs, a_r, a_m, a_stack, a_count, a_since, a_control, a_compare, a_dueEqual, a_dueOver, a_line, a_store, a_headR) := by
  obtain ⟨hLen, hOp, hA, hB, hAn, hM, hSt, hR, hR0, hZ, hC, hAl, hAs, hHa, hRe, hOv, hPu, hSp, hT, hSe, hIn, hDa, hDi, hRs, hOu, hWa, hMa, hSg, hSo, hAd, hSA, hSr, hSC, hCv, hCw, hPe, hT0, hT1, hUs, hUc, hUb, hW, hD⟩ := F
  have hp := tc_opA hA i
  by_cases c : f_zero = 0
  · refine tc_exP (f_pc := f_pc) (pc' := nI i + 1) (o := 15) (c := 1) (by omega) (by omega) (by omega) hR hR0 hZ hC (fun post h => ?_) (fun T' g_passed g_converter g_since l_s l_c l_b b_opA b_opB b_store b_pending b_count F' post h => ?_)
    · refine tc_X117 hl hil l48 ho (by omega) ?_
      refine br_t (by decide) (br_t (by decide) (br_t (by decide) ?_))
      refine tc_Xj (o := 15) (by omega) ?_
      refine br_f (by decide) (br_t rfl (br_t c (br_f (by decide) (br_f (by decide) ?_))))
      refine tc_Xj0 (o := 15) (by omega) ?_
      exact br_t rfl (br_t h0 (tc_X192j (o := 15) (by omega) h))
    · obtain ⟨hLen, hOp, hA, hB, hAn, hM, hSt, hR, hR0, hZ, hC, hAl, hAs, hHa, hRe, hOv, hPu, hSp, hT, hSe, hIn, hDa, hDi, hRs, hOu, hWa, hMa, hSg, hSo, hAd, hSA, hSr, hSC, hCv, hCw, hPe, hT0, hT1, hUs, hUc, hUb, hW, hD⟩ := F'
      have e7 : b_opB i &&& 7 = a_opB i &&& 7 := by rw [hB i, tc_b7]
      rw [ho]
      refine tc_Y80 hp e7 (by omega) (by omega) ?_
      refine br_t (by decide) (br_t (by decide) (br_f (by decide) (br_f (by decide) (br_f (by decide) (br_t rfl (br_t c (br_f (by decide) ?_)))))))
      exact br_t rfl (br_t rfl h)
  · refine tc_exP (f_pc := f_pc) (pc' := a_opB i) (o := 15) (c := 2) (by omega) (by omega) (by omega) hR hR0 hZ hC (fun post h => ?_) (fun T' g_passed g_converter g_since l_s l_c l_b b_opA b_opB b_store b_pending b_count F' post h => ?_)
    · refine tc_X117 hl hil l48 ho (by omega) ?_
      refine br_t (by decide) (br_t (by decide) (br_t (by decide) ?_))
      refine tc_Xj (o := 15) (by omega) ?_
      refine br_f (by decide) (br_t rfl (br_f c ?_))
      refine tc_Xj1 (o := 15) (by omega) ?_
      exact br_f (by decide) (br_t h0 (tc_X192j (o := 15) (by omega) h))
    · obtain ⟨hLen, hOp, hA, hB, hAn, hM, hSt, hR, hR0, hZ, hC, hAl, hAs, hHa, hRe, hOv, hPu, hSp, hT, hSe, hIn, hDa, hDi, hRs, hOu, hWa, hMa, hSg, hSo, hAd, hSA, hSr, hSC, hCv, hCw, hPe, hT0, hT1, hUs, hUc, hUb, hW, hD⟩ := F'
      have eB : b_opB i &&& 255 = a_opB i := (hB i).symm
      have e7 : b_opB i &&& 7 = a_opB i &&& 7 := by rw [hB i, tc_b7]
      rw [ho]
      refine tc_Y80 hp e7 (by omega) (by omega) ?_
      refine br_t (by decide) (br_t (by decide) (br_f (by decide) (br_f (by decide) (br_f (by decide) (br_t rfl (br_f c ?_))))))
      exact br_f (by decide) (nm_r (e' := a_opB i) eB (br_f (by decide) h))
theorem tc_ex16 (F : tc_FF T f_length f_inputs f_sp f_pc f_zero f_carry f_allowed f_asleep f_halted f_pending f_resets f_taken f_data f_serial f_divider f_sending f_dueSent f_received f_overrun f_sent f_converter f_result f_dueResult f_output f_watch f_dueWatch f_address f_storing f_storeAt f_storeControl f_dueStore f_mask f_edges f_due f_head f_headAt f_headFlags f_stop f_pure a_op a_opA a_opB a_vectors a_analogs a_r a_m a_stack a_count a_since a_control a_compare a_dueEqual a_dueOver a_line a_store a_headR g_passed g_converter g_since l_s l_c l_b b_opA b_opB b_store b_pending b_count) (hl : f_length = nI l) (hil : i < l) (l48 : l ≤ 48) (h0 : f_halted = 0) (ho : a_op i = nI 16) : tc_E1 (f_length, f_inputs, f_sp, nI i, f_zero, f_carry, f_allowed, f_asleep, f_halted, f_pending, f_resets, f_taken, nI T, f_data, f_serial, f_divider, f_sending, f_dueSent, f_received, f_overrun, f_sent, f_converter, f_result, f_dueResult, f_output, f_watch, f_dueWatch, f_address, f_storing, f_storeAt, f_storeControl, f_dueStore, f_mask, f_edges, f_due, f_head, f_headAt, f_headFlags, f_stop, f_pure, a_op, a_opA, a_opB, a_vectors, a_analogs, a_r, a_m, a_stack, a_count, a_since, a_control, a_compare, a_dueEqual, a_dueOver, a_line, a_store, a_headR) := by
  obtain ⟨hLen, hOp, hA, hB, hAn, hM, hSt, hR, hR0, hZ, hC, hAl, hAs, hHa, hRe, hOv, hPu, hSp, hT, hSe, hIn, hDa, hDi, hRs, hOu, hWa, hMa, hSg, hSo, hAd, hSA, hSr, hSC, hCv, hCw, hPe, hT0, hT1, hUs, hUc, hUb, hW, hD⟩ := F
  have hp := tc_opA hA i
  by_cases c : f_carry = 0
  · refine tc_exP (f_pc := f_pc) (pc' := nI i + 1) (o := 16) (c := 1) (by omega) (by omega) (by omega) hR hR0 hZ hC (fun post h => ?_) (fun T' g_passed g_converter g_since l_s l_c l_b b_opA b_opB b_store b_pending b_count F' post h => ?_)
    · refine tc_X117 hl hil l48 ho (by omega) ?_
      refine br_t (by decide) (br_t (by decide) (br_t (by decide) ?_))
      refine tc_Xj (o := 16) (by omega) ?_
      refine br_f (by decide) (br_f (by decide) (br_t rfl (br_t c (br_f (by decide) ?_))))
      refine tc_Xj0 (o := 16) (by omega) ?_
      exact br_t rfl (br_t h0 (tc_X192j (o := 16) (by omega) h))
    · obtain ⟨hLen, hOp, hA, hB, hAn, hM, hSt, hR, hR0, hZ, hC, hAl, hAs, hHa, hRe, hOv, hPu, hSp, hT, hSe, hIn, hDa, hDi, hRs, hOu, hWa, hMa, hSg, hSo, hAd, hSA, hSr, hSC, hCv, hCw, hPe, hT0, hT1, hUs, hUc, hUb, hW, hD⟩ := F'
      have e7 : b_opB i &&& 7 = a_opB i &&& 7 := by rw [hB i, tc_b7]
      rw [ho]
      refine tc_Y80 hp e7 (by omega) (by omega) ?_
      refine br_t (by decide) (br_t (by decide) (br_f (by decide) (br_f (by decide) (br_f (by decide) (br_f (by decide) (br_t rfl (br_t c ?_)))))))
      exact br_t rfl (br_t rfl h)
  · refine tc_exP (f_pc := f_pc) (pc' := a_opB i) (o := 16) (c := 2) (by omega) (by omega) (by omega) hR hR0 hZ hC (fun post h => ?_) (fun T' g_passed g_converter g_since l_s l_c l_b b_opA b_opB b_store b_pending b_count F' post h => ?_)
    · refine tc_X117 hl hil l48 ho (by omega) ?_
      refine br_t (by decide) (br_t (by decide) (br_t (by decide) ?_))
      refine tc_Xj (o := 16) (by omega) ?_
      refine br_f (by decide) (br_f (by decide) (br_t rfl (br_f c ?_)))
      refine tc_Xj1 (o := 16) (by omega) ?_
      exact br_f (by decide) (br_t h0 (tc_X192j (o := 16) (by omega) h))
    · obtain ⟨hLen, hOp, hA, hB, hAn, hM, hSt, hR, hR0, hZ, hC, hAl, hAs, hHa, hRe, hOv, hPu, hSp, hT, hSe, hIn, hDa, hDi, hRs, hOu, hWa, hMa, hSg, hSo, hAd, hSA, hSr, hSC, hCv, hCw, hPe, hT0, hT1, hUs, hUc, hUb, hW, hD⟩ := F'
      have eB : b_opB i &&& 255 = a_opB i := (hB i).symm
      have e7 : b_opB i &&& 7 = a_opB i &&& 7 := by rw [hB i, tc_b7]
      rw [ho]
      refine tc_Y80 hp e7 (by omega) (by omega) ?_
      refine br_t (by decide) (br_t (by decide) (br_f (by decide) (br_f (by decide) (br_f (by decide) (br_f (by decide) (br_t rfl (br_f c ?_)))))))
      exact br_f (by decide) (nm_r (e' := a_opB i) eB (br_f (by decide) h))
theorem tc_ex26 (F : tc_FF T f_length f_inputs f_sp f_pc f_zero f_carry f_allowed f_asleep f_halted f_pending f_resets f_taken f_data f_serial f_divider f_sending f_dueSent f_received f_overrun f_sent f_converter f_result f_dueResult f_output f_watch f_dueWatch f_address f_storing f_storeAt f_storeControl f_dueStore f_mask f_edges f_due f_head f_headAt f_headFlags f_stop f_pure a_op a_opA a_opB a_vectors a_analogs a_r a_m a_stack a_count a_since a_control a_compare a_dueEqual a_dueOver a_line a_store a_headR g_passed g_converter g_since l_s l_c l_b b_opA b_opB b_store b_pending b_count) (hl : f_length = nI l) (hil : i < l) (l48 : l ≤ 48) (h0 : f_halted = 0) (ho : a_op i = nI 26) : tc_E1 (f_length, f_inputs, f_sp, nI i, f_zero, f_carry, f_allowed, f_asleep, f_halted, f_pending, f_resets, f_taken, nI T, f_data, f_serial, f_divider, f_sending, f_dueSent, f_received, f_overrun, f_sent, f_converter, f_result, f_dueResult, f_output, f_watch, f_dueWatch, f_address, f_storing, f_storeAt, f_storeControl, f_dueStore, f_mask, f_edges, f_due, f_head, f_headAt, f_headFlags, f_stop, f_pure, a_op, a_opA, a_opB, a_vectors, a_analogs, a_r, a_m, a_stack, a_count, a_since, a_control, a_compare, a_dueEqual, a_dueOver, a_line, a_store, a_headR) := by
  obtain ⟨hLen, hOp, hA, hB, hAn, hM, hSt, hR, hR0, hZ, hC, hAl, hAs, hHa, hRe, hOv, hPu, hSp, hT, hSe, hIn, hDa, hDi, hRs, hOu, hWa, hMa, hSg, hSo, hAd, hSA, hSr, hSC, hCv, hCw, hPe, hT0, hT1, hUs, hUc, hUb, hW, hD⟩ := F
  have hp := tc_opA hA i
  obtain ⟨q1, q2⟩ := tc_rup hp hR hR0 (tc_y8_and (a_r (a_opA i).toNatClampNeg - 1))
  by_cases c : (a_r (a_opA i).toNatClampNeg - 1) &&& 255 = 0
  · refine tc_exP (f_pc := f_pc) (pc' := nI i + 1) (o := 26) (c := 1) (by omega) (by omega) (by omega) q1 q2 hZ hC (fun post h => ?_) (fun T' g_passed g_converter g_since l_s l_c l_b b_opA b_opB b_store b_pending b_count F' post h => ?_)
    · refine tc_X117 hl hil l48 ho (by omega) ?_
      refine br_t (by decide) (br_t (by decide) (br_f (by decide) (br_t rfl ?_)))
      refine tc_Xj (o := 26) (by omega) ?_
      refine br_t rfl (And.intro hp (And.intro hp (nm_e ?_)))
      refine br_f (by decide) (br_f (by decide) (br_t rfl (And.intro hp (br_t (pk_us.trans c) ?_))))
      refine tc_Xj0 (o := 26) (by omega) ?_
      exact br_t rfl (br_t h0 (tc_X192j (o := 26) (by omega) h))
    · obtain ⟨hLen, hOp, hA, hB, hAn, hM, hSt, hR, hR0, hZ, hC, hAl, hAs, hHa, hRe, hOv, hPu, hSp, hT, hSe, hIn, hDa, hDi, hRs, hOu, hWa, hMa, hSg, hSo, hAd, hSA, hSr, hSC, hCv, hCw, hPe, hT0, hT1, hUs, hUc, hUb, hW, hD⟩ := F'
      have e7 : b_opB i &&& 7 = a_opB i &&& 7 := by rw [hB i, tc_b7]
      rw [ho]
      refine tc_Y80 hp e7 (by omega) (by omega) ?_
      refine br_t (by decide) (br_t (by decide) (br_t rfl (And.intro hp (nm_e (And.intro hp (br_t (pk_us.trans c) ?_))))))
      exact br_t rfl (br_t rfl h)
  · refine tc_exP (f_pc := f_pc) (pc' := a_opB i) (o := 26) (c := 2) (by omega) (by omega) (by omega) q1 q2 hZ hC (fun post h => ?_) (fun T' g_passed g_converter g_since l_s l_c l_b b_opA b_opB b_store b_pending b_count F' post h => ?_)
    · refine tc_X117 hl hil l48 ho (by omega) ?_
      refine br_t (by decide) (br_t (by decide) (br_f (by decide) (br_t rfl ?_)))
      refine tc_Xj (o := 26) (by omega) ?_
      refine br_t rfl (And.intro hp (And.intro hp (nm_e ?_)))
      refine br_f (by decide) (br_f (by decide) (br_t rfl (And.intro hp (br_f (fun z => c (pk_us.symm.trans z)) ?_))))
      refine tc_Xj1 (o := 26) (by omega) ?_
      exact br_f (by decide) (br_t h0 (tc_X192j (o := 26) (by omega) h))
    · obtain ⟨hLen, hOp, hA, hB, hAn, hM, hSt, hR, hR0, hZ, hC, hAl, hAs, hHa, hRe, hOv, hPu, hSp, hT, hSe, hIn, hDa, hDi, hRs, hOu, hWa, hMa, hSg, hSo, hAd, hSA, hSr, hSC, hCv, hCw, hPe, hT0, hT1, hUs, hUc, hUb, hW, hD⟩ := F'
      have eB : b_opB i &&& 255 = a_opB i := (hB i).symm
      have e7 : b_opB i &&& 7 = a_opB i &&& 7 := by rw [hB i, tc_b7]
      rw [ho]
      refine tc_Y80 hp e7 (by omega) (by omega) ?_
      refine br_t (by decide) (br_t (by decide) (br_t rfl (And.intro hp (nm_e (And.intro hp (br_f (fun z => c (pk_us.symm.trans z)) ?_))))))
      exact br_f (by decide) (nm_r (e' := a_opB i) eB (br_f (by decide) h))
end
end
section
/-! IN, stores into the memory, the stack, the special ones -/
section
variable {post : SX → Prop} {pz : Int32 → Prop} {T q : Nat} {f_length f_inputs f_sp f_pc f_zero f_carry f_allowed f_asleep f_halted f_pending f_resets f_taken f_data f_serial f_divider f_sending f_dueSent f_received f_overrun f_sent f_converter f_result f_dueResult f_output f_watch f_dueWatch f_address f_storing f_storeAt f_storeControl f_dueStore f_mask f_edges f_due f_head f_headAt f_headFlags f_stop f_pure : Int32} {a_op a_opA a_opB a_vectors a_analogs a_r a_m a_stack a_count a_since a_control a_compare a_dueEqual a_dueOver a_line a_store a_headR : Nat → Int32}
theorem tc_flt0 (hq : q < 32) (n0 : q ≠ 0) (n3 : q ≠ 3) (n15 : q ≠ 15) (n6 : q = 6 → f_received = 0) (n7 : q = 7 → f_overrun = 0) (h : pz 0) : wpX_fleeting pz (f_length, f_inputs, f_sp, f_pc, f_zero, f_carry, f_allowed, f_asleep, f_halted, f_pending, f_resets, f_taken, nI T, f_data, f_serial, f_divider, f_sending, f_dueSent, f_received, f_overrun, f_sent, f_converter, f_result, f_dueResult, f_output, f_watch, f_dueWatch, f_address, f_storing, f_storeAt, f_storeControl, f_dueStore, f_mask, f_edges, f_due, f_head, f_headAt, f_headFlags, f_stop, f_pure, a_op, a_opA, a_opB, a_vectors, a_analogs, a_r, a_m, a_stack, a_count, a_since, a_control, a_compare, a_dueEqual, a_dueOver, a_line, a_store, a_headR) (nI q) := by
  have q28 : wX_fleeting_28 pz (nI q) f_length f_inputs f_sp f_pc f_zero f_carry f_allowed f_asleep f_halted f_pending f_resets f_taken (nI T) f_data f_serial f_divider f_sending f_dueSent f_received f_overrun f_sent f_converter f_result f_dueResult f_output f_watch f_dueWatch f_address f_storing f_storeAt f_storeControl f_dueStore f_mask f_edges f_due f_head f_headAt f_headFlags f_stop f_pure a_op a_opA a_opB a_vectors a_analogs a_r a_m a_stack a_count a_since a_control a_compare a_dueEqual a_dueOver a_line a_store a_headR := pk_eq q 7 (fun z => br_t (n7 z) h) (fun _ => h)
  exact pk_eq q 0 (fun z => absurd z n0) (fun _ => pk_eq q 3 (fun z => absurd z n3) (fun _ => pk_eq q 15 (fun z => absurd z n15) (fun _ => pk_eq q 6 (fun z => br_t (n6 z) q28) (fun _ => q28))))
theorem tc_flt1 (hq : q < 32) (hy : q = 0 ∨ q = 3 ∨ q = 15 ∨ (q = 6 ∧ ¬ f_received = 0) ∨ (q = 7 ∧ ¬ f_overrun = 0)) (h : pz 1) : wpX_fleeting pz (f_length, f_inputs, f_sp, f_pc, f_zero, f_carry, f_allowed, f_asleep, f_halted, f_pending, f_resets, f_taken, nI T, f_data, f_serial, f_divider, f_sending, f_dueSent, f_received, f_overrun, f_sent, f_converter, f_result, f_dueResult, f_output, f_watch, f_dueWatch, f_address, f_storing, f_storeAt, f_storeControl, f_dueStore, f_mask, f_edges, f_due, f_head, f_headAt, f_headFlags, f_stop, f_pure, a_op, a_opA, a_opB, a_vectors, a_analogs, a_r, a_m, a_stack, a_count, a_since, a_control, a_compare, a_dueEqual, a_dueOver, a_line, a_store, a_headR) (nI q) := by
  refine pk_eq q 0 (fun z => h) (fun n0 => pk_eq q 3 (fun z => h) (fun n3 => pk_eq q 15 (fun z => h) (fun n15 => ?_)))
  have hy : (q = 6 ∧ ¬ f_received = 0) ∨ (q = 7 ∧ ¬ f_overrun = 0) := by
    rcases hy with e | e | e | e
    · exact absurd e n0
    · exact absurd e n3
    · exact absurd e n15
    · exact e
  rcases hy with ⟨e, c⟩ | ⟨e, c⟩
  · subst e; exact br_t rfl (br_f c h)
  · subst e; exact br_f (by decide) (br_t rfl (br_f c h))
theorem tc_X40i {p bx rv : Int32} (hx : bx &&& 31 = nI q) (hq : q < 32) (hr : ∀ pz : Int32 → Prop, pz rv → wpX_in pz (f_length, f_inputs, f_sp, f_pc, f_zero, f_carry, f_allowed, f_asleep, f_halted, f_pending, f_resets, f_taken, nI T, f_data, f_serial, f_divider, f_sending, f_dueSent, f_received, f_overrun, f_sent, f_converter, f_result, f_dueResult, f_output, f_watch, f_dueWatch, f_address, f_storing, f_storeAt, f_storeControl, f_dueStore, f_mask, f_edges, f_due, f_head, f_headAt, f_headFlags, f_stop, f_pure, a_op, a_opA, a_opB, a_vectors, a_analogs, a_r, a_m, a_stack, a_count, a_since, a_control, a_compare, a_dueEqual, a_dueOver, a_line, a_store, a_headR) (nI q)) (hp : vp_in p 8)
    (h : post (f_length, f_inputs, f_sp, f_pc, f_zero, f_carry, f_allowed, f_asleep, f_halted, f_pending, f_resets, f_taken, nI T, f_data, f_serial, f_divider, f_sending, f_dueSent, if q = 6 then 0 else f_received, if q = 7 then 0 else f_overrun, f_sent, f_converter, f_result, f_dueResult, f_output, f_watch, f_dueWatch, f_address, f_storing, f_storeAt, f_storeControl, f_dueStore, f_mask, f_edges, f_due, f_head, f_headAt, f_headFlags, f_stop, f_pure, a_op, a_opA, a_opB, a_vectors, a_analogs, upd a_r p.toNatClampNeg rv, a_m, a_stack, a_count, a_since, a_control, a_compare, a_dueEqual, a_dueOver, a_line, a_store, a_headR)) : wX_transfer_40 post (nI 12) p bx f_length f_inputs f_sp f_pc f_zero f_carry f_allowed f_asleep f_halted f_pending f_resets f_taken (nI T) f_data f_serial f_divider f_sending f_dueSent f_received f_overrun f_sent f_converter f_result f_dueResult f_output f_watch f_dueWatch f_address f_storing f_storeAt f_storeControl f_dueStore f_mask f_edges f_due f_head f_headAt f_headFlags f_stop f_pure a_op a_opA a_opB a_vectors a_analogs a_r a_m a_stack a_count a_since a_control a_compare a_dueEqual a_dueOver a_line a_store a_headR := by
  refine br_f (by decide) (br_f (by decide) (br_f (by decide) (br_f (by decide) (br_f (by decide) (br_f (by decide) (br_t rfl ?_))))))
  rw [hx]
  refine hr _ ?_
  refine And.intro hp (nm_e ?_)
  unfold wX_transfer_192
  rw [hx]
  by_cases h6 : q = 6
  · subst h6
    exact br_t rfl (br_f (by decide) h)
  · rw [if_neg h6] at h
    refine br_f (fun z => h6 ((nI_eq (b := 6) (by omega) (by decide)).mp z)) ?_
    by_cases h7 : q = 7
    · subst h7
      exact br_t rfl h
    · rw [if_neg h7] at h
      exact br_f (fun z => h7 ((nI_eq (b := 7) (by omega) (by decide)).mp z)) h
end
section
variable {post : SY → Prop} {T q : Nat} {f_length f_inputs f_sp f_pc f_zero f_carry f_allowed f_asleep f_halted f_pending f_resets f_taken f_data f_serial f_divider f_sending f_dueSent f_received f_overrun f_sent f_converter f_result f_dueResult f_output f_watch f_dueWatch f_address f_storing f_storeAt f_storeControl f_dueStore f_mask f_edges f_due f_head f_headAt f_headFlags f_stop f_pure : Int32} {a_op a_opA a_opB a_vectors a_analogs a_r a_m a_stack a_count a_since a_control a_compare a_dueEqual a_dueOver a_line a_store a_headR : Nat → Int32} {g_passed g_converter g_since : Int32} {l_s l_c l_b : Nat} {b_opA b_opB b_store b_pending b_count : Nat → Int32}
theorem tc_Y83i {p bb rv : Int32} (hx : bb &&& 31 = nI q) (hq : q < 32) (hr : ∀ pz : Int32 → Prop, pz rv → wpY_read pz (f_length, f_inputs, f_zero, f_carry, f_allowed, f_asleep, f_halted, f_sp, f_pc, nI T, g_passed, f_taken, f_resets, f_edges, f_sent, f_data, f_serial, f_divider, g_converter, f_result, f_output, f_watch, f_address, f_storeControl, f_mask, g_since, f_received, f_overrun, nI l_s, f_sending, nI l_c, nI l_b, f_storing, f_storeAt, a_op, b_opA, b_opB, a_vectors, a_analogs, b_store, a_r, a_m, a_stack, a_line, b_pending, b_count, a_control, a_compare) (nI q)) (hp : vp_in p 8)
    (h : post (f_length, f_inputs, f_zero, f_carry, f_allowed, f_asleep, f_halted, f_sp, f_pc, nI T, g_passed, f_taken, f_resets, f_edges, f_sent, f_data, f_serial, f_divider, g_converter, f_result, f_output, f_watch, f_address, f_storeControl, f_mask, g_since, if q = 6 then 0 else f_received, if q = 7 then 0 else f_overrun, nI l_s, f_sending, nI l_c, nI l_b, f_storing, f_storeAt, a_op, b_opA, b_opB, a_vectors, a_analogs, b_store, upd a_r p.toNatClampNeg rv, a_m, a_stack, a_line, b_pending, b_count, a_control, a_compare)) : wY_move_83 post (nI 12) p bb f_length f_inputs f_zero f_carry f_allowed f_asleep f_halted f_sp f_pc (nI T) g_passed f_taken f_resets f_edges f_sent f_data f_serial f_divider g_converter f_result f_output f_watch f_address f_storeControl f_mask g_since f_received f_overrun (nI l_s) f_sending (nI l_c) (nI l_b) f_storing f_storeAt a_op b_opA b_opB a_vectors a_analogs b_store a_r a_m a_stack a_line b_pending b_count a_control a_compare := by
  refine br_t rfl (nm_r (e' := nI q) hx ?_)
  refine hr _ ?_
  refine And.intro hp (nm_e ?_)
  by_cases h6 : q = 6
  · subst h6
    exact br_t rfl (br_f (by decide) (br_f (by decide) h))
  · rw [if_neg h6] at h
    refine br_f (fun z => h6 ((nI_eq (b := 6) (by omega) (by decide)).mp z)) ?_
    by_cases h7 : q = 7
    · subst h7
      exact br_t rfl (br_f (by decide) h)
    · rw [if_neg h7] at h
      exact br_f (fun z => h7 ((nI_eq (b := 7) (by omega) (by decide)).mp z)) (br_f (by decide) h)
theorem tc_yexI {post : Int32 → SY → Prop} {i : Nat} (i48 : i < 48) (hA : ∀ i, a_opA i = b_opA i &&& 7) (h : wpY_execute post (f_length, f_inputs, f_zero, f_carry, f_allowed, f_asleep, f_halted, f_sp, nI i, nI T, g_passed, f_taken, f_resets, f_edges, f_sent, f_data, f_serial, f_divider, g_converter, f_result, f_output, f_watch, f_address, f_storeControl, f_mask, g_since, f_received, f_overrun, nI l_s, f_sending, nI l_c, nI l_b, f_storing, f_storeAt, a_op, b_opA, b_opB, a_vectors, a_analogs, b_store, a_r, a_m, a_stack, a_line, b_pending, b_count, a_control, a_compare) (a_op i) (a_opA i) (b_opB i)) : tc_yex post (f_length, f_inputs, f_zero, f_carry, f_allowed, f_asleep, f_halted, f_sp, nI i, nI T, g_passed, f_taken, f_resets, f_edges, f_sent, f_data, f_serial, f_divider, g_converter, f_result, f_output, f_watch, f_address, f_storeControl, f_mask, g_since, f_received, f_overrun, nI l_s, f_sending, nI l_c, nI l_b, f_storing, f_storeAt, a_op, b_opA, b_opB, a_vectors, a_analogs, b_store, a_r, a_m, a_stack, a_line, b_pending, b_count, a_control, a_compare) := by
  have e := nI_clamp (n := i) (by omega)
  show wpY_execute post (f_length, f_inputs, f_zero, f_carry, f_allowed, f_asleep, f_halted, f_sp, nI i, nI T, g_passed, f_taken, f_resets, f_edges, f_sent, f_data, f_serial, f_divider, g_converter, f_result, f_output, f_watch, f_address, f_storeControl, f_mask, g_since, f_received, f_overrun, nI l_s, f_sending, nI l_c, nI l_b, f_storing, f_storeAt, a_op, b_opA, b_opB, a_vectors, a_analogs, b_store, a_r, a_m, a_stack, a_line, b_pending, b_count, a_control, a_compare) (a_op (nI i).toNatClampNeg) ((b_opA (nI i).toNatClampNeg) &&& 7) (b_opB (nI i).toNatClampNeg)
  rw [e, ← hA i]; exact h
end
section
variable {T i l o : Nat} {f_length f_inputs f_sp f_pc f_zero f_carry f_allowed f_asleep f_halted f_pending f_resets f_taken f_data f_serial f_divider f_sending f_dueSent f_received f_overrun f_sent f_converter f_result f_dueResult f_output f_watch f_dueWatch f_address f_storing f_storeAt f_storeControl f_dueStore f_mask f_edges f_due f_head f_headAt f_headFlags f_stop f_pure : Int32} {a_op a_opA a_opB a_vectors a_analogs a_r a_m a_stack a_count a_since a_control a_compare a_dueEqual a_dueOver a_line a_store a_headR : Nat → Int32} {g_passed g_converter g_since : Int32} {l_s l_c l_b : Nat} {b_opA b_opB b_store b_pending b_count : Nat → Int32}
theorem tc_ex12 (F : tc_FF T f_length f_inputs f_sp f_pc f_zero f_carry f_allowed f_asleep f_halted f_pending f_resets f_taken f_data f_serial f_divider f_sending f_dueSent f_received f_overrun f_sent f_converter f_result f_dueResult f_output f_watch f_dueWatch f_address f_storing f_storeAt f_storeControl f_dueStore f_mask f_edges f_due f_head f_headAt f_headFlags f_stop f_pure a_op a_opA a_opB a_vectors a_analogs a_r a_m a_stack a_count a_since a_control a_compare a_dueEqual a_dueOver a_line a_store a_headR g_passed g_converter g_since l_s l_c l_b b_opA b_opB b_store b_pending b_count) (hl : f_length = nI l) (hil : i < l) (l48 : l ≤ 48) (ho : a_op i = nI 12) : tc_E1 (f_length, f_inputs, f_sp, nI i, f_zero, f_carry, f_allowed, f_asleep, f_halted, f_pending, f_resets, f_taken, nI T, f_data, f_serial, f_divider, f_sending, f_dueSent, f_received, f_overrun, f_sent, f_converter, f_result, f_dueResult, f_output, f_watch, f_dueWatch, f_address, f_storing, f_storeAt, f_storeControl, f_dueStore, f_mask, f_edges, f_due, f_head, f_headAt, f_headFlags, f_stop, f_pure, a_op, a_opA, a_opB, a_vectors, a_analogs, a_r, a_m, a_stack, a_count, a_since, a_control, a_compare, a_dueEqual, a_dueOver, a_line, a_store, a_headR) ∨ tc_E2 T (f_length, f_inputs, f_sp, nI i, f_zero, f_carry, f_allowed, f_asleep, f_halted, f_pending, f_resets, f_taken, nI T, f_data, f_serial, f_divider, f_sending, f_dueSent, f_received, f_overrun, f_sent, f_converter, f_result, f_dueResult, f_output, f_watch, f_dueWatch, f_address, f_storing, f_storeAt, f_storeControl, f_dueStore, f_mask, f_edges, f_due, f_head, f_headAt, f_headFlags, f_stop, f_pure, a_op, a_opA, a_opB, a_vectors, a_analogs, a_r, a_m, a_stack, a_count, a_since, a_control, a_compare, a_dueEqual, a_dueOver, a_line, a_store, a_headR) (f_length, f_inputs, f_zero, f_carry, f_allowed, f_asleep, f_halted, f_sp, nI i, nI T, g_passed, f_taken, f_resets, f_edges, f_sent, f_data, f_serial, f_divider, g_converter, f_result, f_output, f_watch, f_address, f_storeControl, f_mask, g_since, f_received, f_overrun, nI l_s, f_sending, nI l_c, nI l_b, f_storing, f_storeAt, a_op, b_opA, b_opB, a_vectors, a_analogs, b_store, a_r, a_m, a_stack, a_line, b_pending, b_count, a_control, a_compare) := by
  have hF := F
  obtain ⟨hLen, hOp, hA, hB, hAn, hM, hSt, hR, hR0, hZ, hC, hAl, hAs, hHa, hRe, hOv, hPu, hSp, hT, hSe, hIn, hDa, hDi, hRs, hOu, hWa, hMa, hSg, hSo, hAd, hSA, hSr, hSC, hCv, hCw, hPe, hT0, hT1, hUs, hUc, hUb, hW, hD⟩ := F
  have hp := tc_opA hA i
  obtain ⟨q, hq, hx⟩ := pk_andE (a_opB i) (m := 31) 5 (by decide)
  have hq : q < 32 := hq
  have hv : vp_in f_address 16 := by
    obtain ⟨k, hk, e⟩ := hAd
    rw [e]; exact vp_in_nI (by omega) (by decide)
  by_cases hy : q = 0 ∨ q = 3 ∨ q = 15 ∨ (q = 6 ∧ ¬ f_received = 0) ∨ (q = 7 ∧ ¬ f_overrun = 0)
  · right
    obtain ⟨rv, r8, rX, rY⟩ := tc_in (T := T) (f_length := f_length) (f_inputs := f_inputs) (f_sp := f_sp) (f_pc := f_pc) (f_zero := f_zero) (f_carry := f_carry) (f_allowed := f_allowed) (f_asleep := f_asleep) (f_halted := f_halted) (f_pending := f_pending) (f_resets := f_resets) (f_taken := f_taken) (f_data := f_data) (f_serial := f_serial) (f_divider := f_divider) (f_sending := f_sending) (f_dueSent := f_dueSent) (f_received := f_received) (f_overrun := f_overrun) (f_sent := f_sent) (f_converter := f_converter) (f_result := f_result) (f_dueResult := f_dueResult) (f_output := f_output) (f_watch := f_watch) (f_dueWatch := f_dueWatch) (f_address := f_address) (f_storing := f_storing) (f_storeAt := f_storeAt) (f_storeControl := f_storeControl) (f_dueStore := f_dueStore) (f_mask := f_mask) (f_edges := f_edges) (f_due := f_due) (f_head := f_head) (f_headAt := f_headAt) (f_headFlags := f_headFlags) (f_stop := f_stop) (f_pure := f_pure) (a_op := a_op) (a_opA := a_opA) (a_opB := a_opB) (a_vectors := a_vectors) (a_analogs := a_analogs) (a_r := a_r) (a_m := a_m) (a_stack := a_stack) (a_count := a_count) (a_since := a_since) (a_control := a_control) (a_compare := a_compare) (a_dueEqual := a_dueEqual) (a_dueOver := a_dueOver) (a_line := a_line) (a_store := a_store) (a_headR := a_headR) (g_passed := g_passed) (g_converter := g_converter) (g_since := g_since) (l_s := l_s) (l_c := l_c) (l_b := l_b) (b_opA := b_opA) (b_opB := b_opB) (b_store := b_store) (b_pending := b_pending) (b_count := b_count) hq hF
    obtain ⟨q1, q2⟩ := tc_rup hp hR hR0 r8
    refine ⟨(f_length, f_inputs, f_sp, nI i + 1, f_zero, f_carry, f_allowed, f_asleep, f_halted, f_pending, f_resets, f_taken, nI T, f_data, f_serial, f_divider, f_sending, f_dueSent, if q = 6 then 0 else f_received, if q = 7 then 0 else f_overrun, f_sent, f_converter, f_result, f_dueResult, f_output, f_watch, f_dueWatch, f_address, f_storing, f_storeAt, f_storeControl, f_dueStore, f_mask, f_edges, f_due, f_head, f_headAt, f_headFlags, f_stop, 0, a_op, a_opA, a_opB, a_vectors, a_analogs, upd a_r (a_opA i).toNatClampNeg rv, a_m, a_stack, a_count, a_since, a_control, a_compare, a_dueEqual, a_dueOver, a_line, a_store, a_headR),
      (f_length, f_inputs, f_zero, f_carry, f_allowed, f_asleep, f_halted, f_sp, nI i + 1, nI T, g_passed, f_taken, f_resets, f_edges, f_sent, f_data, f_serial, f_divider, g_converter, f_result, f_output, f_watch, f_address, f_storeControl, f_mask, g_since, if q = 6 then 0 else f_received, if q = 7 then 0 else f_overrun, nI l_s, f_sending, nI l_c, nI l_b, f_storing, f_storeAt, a_op, b_opA, b_opB, a_vectors, a_analogs, b_store, upd a_r (a_opA i).toNatClampNeg rv, a_m, a_stack, a_line, b_pending, b_count, a_control, a_compare), 1, by omega, by omega, ⟨nI i, nI 12, fun post h => ?_⟩, fun post h => tc_yexI (by omega) hA ?_, ?_, rfl, rfl, rfl⟩
    · refine tc_X117 hl hil l48 ho (by omega) ?_
      refine br_t (by decide) (br_f (by decide) ?_)
      refine br_f (by decide) (br_f (by decide) (br_f (by decide) (br_t rfl ?_)))
      rw [hx]
      refine tc_flt1 hq hy ?_
      refine br_f (by decide) ?_
      unfold wX_transfer_35
      refine tc_X40i hx hq (rX (nI i) 0) hp ?_
      exact tc_X192n (o := 12) (by omega) h
    · have e7 : b_opB i &&& 7 = a_opB i &&& 7 := by rw [hB i, tc_b7]
      have e31 : b_opB i &&& 31 = nI q := by rw [← hx, hB i, tc_b31]
      rw [ho]
      refine tc_Y80 hp e7 (by omega) (by omega) ?_
      refine br_t (by decide) (br_f (by decide) ?_)
      refine br_f (by decide) (br_f (by decide) (And.intro (tc_and7i _) ?_))
      refine br_f (by decide) (br_f (by decide) (br_f (by decide) (br_f (by decide) ?_)))
      refine tc_Y83i e31 hq (rY (nI i + 1)) hp ?_
      exact br_t (by decide) h
    · refine tc_RRi hLen hOp hA hB hAn hM hSt q1 q2 hZ hC hAl hAs hHa (?_) (?_) tc_bo0 hSp hT hSe hIn hDa hDi hRs hOu hWa hMa hSg hSo hAd hSA hSr hSC hCv hCw hPe hT0 hT1 hUs hUc hUb hW hD
      · split
        · exact tc_bo0
        · exact hRe
      · split
        · exact tc_bo0
        · exact hOv
  · left
    obtain ⟨rv, r1, r2, r3⟩ := tc_inP (f_length := f_length) (f_inputs := f_inputs) (f_sp := f_sp) (f_pc := f_pc) (f_zero := f_zero) (f_carry := f_carry) (f_allowed := f_allowed) (f_asleep := f_asleep) (f_halted := f_halted) (f_pending := f_pending) (f_resets := f_resets) (f_taken := f_taken) (f_data := f_data) (f_serial := f_serial) (f_divider := f_divider) (f_sending := f_sending) (f_dueSent := f_dueSent) (f_received := f_received) (f_overrun := f_overrun) (f_sent := f_sent) (f_converter := f_converter) (f_result := f_result) (f_dueResult := f_dueResult) (f_output := f_output) (f_watch := f_watch) (f_dueWatch := f_dueWatch) (f_address := f_address) (f_storing := f_storing) (f_storeAt := f_storeAt) (f_storeControl := f_storeControl) (f_dueStore := f_dueStore) (f_mask := f_mask) (f_edges := f_edges) (f_due := f_due) (f_head := f_head) (f_headAt := f_headAt) (f_headFlags := f_headFlags) (f_stop := f_stop) (f_pure := f_pure) (a_op := a_op) (a_opA := a_opA) (a_opB := a_opB) (a_vectors := a_vectors) (a_analogs := a_analogs) (a_r := a_r) (a_m := a_m) (a_stack := a_stack) (a_count := a_count) (a_since := a_since) (a_control := a_control) (a_compare := a_compare) (a_dueEqual := a_dueEqual) (a_dueOver := a_dueOver) (a_line := a_line) (a_store := a_store) (a_headR := a_headR) hq (fun z => hy (Or.inl z)) (fun z => hy (Or.inr (Or.inl z))) (fun z => hy (Or.inr (Or.inr (Or.inl z)))) hv
    have e6 : (if q = 6 then 0 else f_received) = f_received := by
      split
      · next z => exact (Classical.byContradiction fun w => hy (Or.inr (Or.inr (Or.inr (Or.inl ⟨z, fun y => w y.symm⟩)))))
      · rfl
    have e7o : (if q = 7 then 0 else f_overrun) = f_overrun := by
      split
      · next z => exact (Classical.byContradiction fun w => hy (Or.inr (Or.inr (Or.inr (Or.inr ⟨z, fun y => w y.symm⟩)))))
      · rfl
    obtain ⟨q1, q2⟩ := tc_rup hp hR hR0 (r3 ⟨T, g_passed, g_converter, g_since, l_s, l_c, l_b, b_opA, b_opB, b_store, b_pending, b_count, hF⟩)
    refine tc_exP (f_pc := f_pc) (pc' := nI i + 1) (o := 12) (c := 1) (by omega) (by omega) (by omega) q1 q2 hZ hC (fun post h => ?_) (fun T' g_passed g_converter g_since l_s l_c l_b b_opA b_opB b_store b_pending b_count F' post h => ?_)
    · refine tc_X117 hl hil l48 ho (by omega) ?_
      refine br_t (by decide) (br_f (by decide) ?_)
      refine br_f (by decide) (br_f (by decide) (br_f (by decide) (br_t rfl ?_)))
      rw [hx]
      refine tc_flt0 hq (fun z => hy (Or.inl z)) (fun z => hy (Or.inr (Or.inl z))) (fun z => hy (Or.inr (Or.inr (Or.inl z)))) (fun z => Classical.byContradiction fun w => hy (Or.inr (Or.inr (Or.inr (Or.inl ⟨z, w⟩))))) (fun z => Classical.byContradiction fun w => hy (Or.inr (Or.inr (Or.inr (Or.inr ⟨z, w⟩))))) ?_
      refine br_t rfl ?_
      refine tc_X40i hx hq (r1 T (nI i) f_pure) hp ?_
      rw [e6, e7o]
      exact tc_X192n (o := 12) (by omega) h
    · have hF' := F'
      obtain ⟨hLen, hOp, hA, hB, hAn, hM, hSt, hR, hR0, hZ, hC, hAl, hAs, hHa, hRe, hOv, hPu, hSp, hT, hSe, hIn, hDa, hDi, hRs, hOu, hWa, hMa, hSg, hSo, hAd, hSA, hSr, hSC, hCv, hCw, hPe, hT0, hT1, hUs, hUc, hUb, hW, hD⟩ := F'
      have e7 : b_opB i &&& 7 = a_opB i &&& 7 := by rw [hB i, tc_b7]
      have e31 : b_opB i &&& 31 = nI q := by rw [← hx, hB i, tc_b31]
      rw [ho]
      refine tc_Y80 hp e7 (by omega) (by omega) ?_
      refine br_t (by decide) (br_f (by decide) ?_)
      refine br_f (by decide) (br_f (by decide) (And.intro (tc_and7i _) ?_))
      refine br_f (by decide) (br_f (by decide) (br_f (by decide) (br_f (by decide) ?_)))
      refine tc_Y83i e31 hq (r2 T' g_passed g_converter g_since l_s l_c l_b b_opA b_opB b_store b_pending b_count hF' (nI i + 1)) hp ?_
      rw [e6, e7o]
      exact br_t (by decide) h
end
end
section
/-! stores, the stack, the special instructions -/
section
variable {T i l o : Nat} {f_length f_inputs f_sp f_pc f_zero f_carry f_allowed f_asleep f_halted f_pending f_resets f_taken f_data f_serial f_divider f_sending f_dueSent f_received f_overrun f_sent f_converter f_result f_dueResult f_output f_watch f_dueWatch f_address f_storing f_storeAt f_storeControl f_dueStore f_mask f_edges f_due f_head f_headAt f_headFlags f_stop f_pure : Int32} {a_op a_opA a_opB a_vectors a_analogs a_r a_m a_stack a_count a_since a_control a_compare a_dueEqual a_dueOver a_line a_store a_headR : Nat → Int32} {g_passed g_converter g_since : Int32} {l_s l_c l_b : Nat} {b_opA b_opB b_store b_pending b_count : Nat → Int32}
theorem tc_mup {m : Nat → Int32} {k : Nat} {v : Int32} (h : ∀ i, tc_y8 (m i)) (hv : tc_y8 v) : ∀ i, tc_y8 (upd m k v i) := by
  intro i
  by_cases q : i = k
  · rw [q, pk_us]; exact hv
  · rw [pk_un q]; exact h i
theorem tc_ex9 (F : tc_FF T f_length f_inputs f_sp f_pc f_zero f_carry f_allowed f_asleep f_halted f_pending f_resets f_taken f_data f_serial f_divider f_sending f_dueSent f_received f_overrun f_sent f_converter f_result f_dueResult f_output f_watch f_dueWatch f_address f_storing f_storeAt f_storeControl f_dueStore f_mask f_edges f_due f_head f_headAt f_headFlags f_stop f_pure a_op a_opA a_opB a_vectors a_analogs a_r a_m a_stack a_count a_since a_control a_compare a_dueEqual a_dueOver a_line a_store a_headR g_passed g_converter g_since l_s l_c l_b b_opA b_opB b_store b_pending b_count) (hl : f_length = nI l) (hil : i < l) (l48 : l ≤ 48) (ho : a_op i = nI 9) : tc_E2 T (f_length, f_inputs, f_sp, nI i, f_zero, f_carry, f_allowed, f_asleep, f_halted, f_pending, f_resets, f_taken, nI T, f_data, f_serial, f_divider, f_sending, f_dueSent, f_received, f_overrun, f_sent, f_converter, f_result, f_dueResult, f_output, f_watch, f_dueWatch, f_address, f_storing, f_storeAt, f_storeControl, f_dueStore, f_mask, f_edges, f_due, f_head, f_headAt, f_headFlags, f_stop, f_pure, a_op, a_opA, a_opB, a_vectors, a_analogs, a_r, a_m, a_stack, a_count, a_since, a_control, a_compare, a_dueEqual, a_dueOver, a_line, a_store, a_headR) (f_length, f_inputs, f_zero, f_carry, f_allowed, f_asleep, f_halted, f_sp, nI i, nI T, g_passed, f_taken, f_resets, f_edges, f_sent, f_data, f_serial, f_divider, g_converter, f_result, f_output, f_watch, f_address, f_storeControl, f_mask, g_since, f_received, f_overrun, nI l_s, f_sending, nI l_c, nI l_b, f_storing, f_storeAt, a_op, b_opA, b_opB, a_vectors, a_analogs, b_store, a_r, a_m, a_stack, a_line, b_pending, b_count, a_control, a_compare) := by
  obtain ⟨hLen, hOp, hA, hB, hAn, hM, hSt, hR, hR0, hZ, hC, hAl, hAs, hHa, hRe, hOv, hPu, hSp, hT, hSe, hIn, hDa, hDi, hRs, hOu, hWa, hMa, hSg, hSo, hAd, hSA, hSr, hSC, hCv, hCw, hPe, hT0, hT1, hUs, hUc, hUb, hW, hD⟩ := F
  have hp := tc_opA hA i
  refine ⟨(f_length, f_inputs, f_sp, nI i + 1, f_zero, f_carry, f_allowed, f_asleep, f_halted, f_pending, f_resets, f_taken, nI T, f_data, f_serial, f_divider, f_sending, f_dueSent, f_received, f_overrun, f_sent, f_converter, f_result, f_dueResult, f_output, f_watch, f_dueWatch, f_address, f_storing, f_storeAt, f_storeControl, f_dueStore, f_mask, f_edges, f_due, f_head, f_headAt, f_headFlags, f_stop, 0, a_op, a_opA, a_opB, a_vectors, a_analogs, a_r, upd a_m (a_opB i &&& 31).toNatClampNeg (a_r (a_opA i).toNatClampNeg), a_stack, a_count, a_since, a_control, a_compare, a_dueEqual, a_dueOver, a_line, a_store, a_headR), (f_length, f_inputs, f_zero, f_carry, f_allowed, f_asleep, f_halted, f_sp, nI i + 1, nI T, g_passed, f_taken, f_resets, f_edges, f_sent, f_data, f_serial, f_divider, g_converter, f_result, f_output, f_watch, f_address, f_storeControl, f_mask, g_since, f_received, f_overrun, nI l_s, f_sending, nI l_c, nI l_b, f_storing, f_storeAt, a_op, b_opA, b_opB, a_vectors, a_analogs, b_store, a_r, upd a_m (a_opB i &&& 31).toNatClampNeg (a_r (a_opA i).toNatClampNeg), a_stack, a_line, b_pending, b_count, a_control, a_compare), 2, by omega, by omega, ⟨nI i, nI 9, fun post h => ?_⟩, fun post h => tc_yexI (by omega) hA ?_, ?_, rfl, rfl, rfl⟩
  · refine tc_X117 hl hil l48 ho (by omega) ?_
    refine br_t (by decide) (br_f (by decide) (br_t rfl ?_))
    refine br_f (by decide) (br_f (by decide) (br_f (by decide) (br_t rfl ?_)))
    refine And.intro hp (And.intro (tc_and31i _) (nm_e ?_))
    exact tc_X192n (o := 9) (by omega) h
  · have e7 : b_opB i &&& 7 = a_opB i &&& 7 := by rw [hB i, tc_b7]
    have e31 : b_opB i &&& 31 = a_opB i &&& 31 := by rw [hB i, tc_b31]
    rw [ho]
    refine tc_Y80 hp e7 (by omega) (by omega) ?_
    refine br_t (by decide) (br_f (by decide) ?_)
    refine br_f (by decide) (br_t rfl ?_)
    unfold wY_move_12
    rw [e31]
    refine br_f (by decide) (br_f (by decide) (br_t rfl ?_))
    refine And.intro hp (And.intro (tc_and31i _) (nm_e ?_))
    exact br_f (by decide) (br_f (by decide) (br_f (by decide) h))
  · exact tc_RRi hLen hOp hA hB hAn (tc_mup hM (hR _)) hSt hR hR0 hZ hC hAl hAs hHa hRe hOv tc_bo0 hSp hT hSe hIn hDa hDi hRs hOu hWa hMa hSg hSo hAd hSA hSr hSC hCv hCw hPe hT0 hT1 hUs hUc hUb hW hD
theorem tc_ex11 (F : tc_FF T f_length f_inputs f_sp f_pc f_zero f_carry f_allowed f_asleep f_halted f_pending f_resets f_taken f_data f_serial f_divider f_sending f_dueSent f_received f_overrun f_sent f_converter f_result f_dueResult f_output f_watch f_dueWatch f_address f_storing f_storeAt f_storeControl f_dueStore f_mask f_edges f_due f_head f_headAt f_headFlags f_stop f_pure a_op a_opA a_opB a_vectors a_analogs a_r a_m a_stack a_count a_since a_control a_compare a_dueEqual a_dueOver a_line a_store a_headR g_passed g_converter g_since l_s l_c l_b b_opA b_opB b_store b_pending b_count) (hl : f_length = nI l) (hil : i < l) (l48 : l ≤ 48) (ho : a_op i = nI 11) : tc_E2 T (f_length, f_inputs, f_sp, nI i, f_zero, f_carry, f_allowed, f_asleep, f_halted, f_pending, f_resets, f_taken, nI T, f_data, f_serial, f_divider, f_sending, f_dueSent, f_received, f_overrun, f_sent, f_converter, f_result, f_dueResult, f_output, f_watch, f_dueWatch, f_address, f_storing, f_storeAt, f_storeControl, f_dueStore, f_mask, f_edges, f_due, f_head, f_headAt, f_headFlags, f_stop, f_pure, a_op, a_opA, a_opB, a_vectors, a_analogs, a_r, a_m, a_stack, a_count, a_since, a_control, a_compare, a_dueEqual, a_dueOver, a_line, a_store, a_headR) (f_length, f_inputs, f_zero, f_carry, f_allowed, f_asleep, f_halted, f_sp, nI i, nI T, g_passed, f_taken, f_resets, f_edges, f_sent, f_data, f_serial, f_divider, g_converter, f_result, f_output, f_watch, f_address, f_storeControl, f_mask, g_since, f_received, f_overrun, nI l_s, f_sending, nI l_c, nI l_b, f_storing, f_storeAt, a_op, b_opA, b_opB, a_vectors, a_analogs, b_store, a_r, a_m, a_stack, a_line, b_pending, b_count, a_control, a_compare) := by
  obtain ⟨hLen, hOp, hA, hB, hAn, hM, hSt, hR, hR0, hZ, hC, hAl, hAs, hHa, hRe, hOv, hPu, hSp, hT, hSe, hIn, hDa, hDi, hRs, hOu, hWa, hMa, hSg, hSo, hAd, hSA, hSr, hSC, hCv, hCw, hPe, hT0, hT1, hUs, hUc, hUb, hW, hD⟩ := F
  have hp := tc_opA hA i
  refine ⟨(f_length, f_inputs, f_sp, nI i + 1, f_zero, f_carry, f_allowed, f_asleep, f_halted, f_pending, f_resets, f_taken, nI T, f_data, f_serial, f_divider, f_sending, f_dueSent, f_received, f_overrun, f_sent, f_converter, f_result, f_dueResult, f_output, f_watch, f_dueWatch, f_address, f_storing, f_storeAt, f_storeControl, f_dueStore, f_mask, f_edges, f_due, f_head, f_headAt, f_headFlags, f_stop, 0, a_op, a_opA, a_opB, a_vectors, a_analogs, a_r, upd a_m (a_r (a_opB i &&& 7).toNatClampNeg &&& 31).toNatClampNeg (a_r (a_opA i).toNatClampNeg), a_stack, a_count, a_since, a_control, a_compare, a_dueEqual, a_dueOver, a_line, a_store, a_headR), (f_length, f_inputs, f_zero, f_carry, f_allowed, f_asleep, f_halted, f_sp, nI i + 1, nI T, g_passed, f_taken, f_resets, f_edges, f_sent, f_data, f_serial, f_divider, g_converter, f_result, f_output, f_watch, f_address, f_storeControl, f_mask, g_since, f_received, f_overrun, nI l_s, f_sending, nI l_c, nI l_b, f_storing, f_storeAt, a_op, b_opA, b_opB, a_vectors, a_analogs, b_store, a_r, upd a_m (a_r (a_opB i &&& 7).toNatClampNeg &&& 31).toNatClampNeg (a_r (a_opA i).toNatClampNeg), a_stack, a_line, b_pending, b_count, a_control, a_compare), 2, by omega, by omega, ⟨nI i, nI 11, fun post h => ?_⟩, fun post h => tc_yexI (by omega) hA ?_, ?_, rfl, rfl, rfl⟩
  · refine tc_X117 hl hil l48 ho (by omega) ?_
    refine br_t (by decide) (br_f (by decide) (br_f (by decide) (br_t rfl ?_)))
    refine br_f (by decide) (br_f (by decide) (br_f (by decide) (br_f (by decide) (br_f (by decide) (br_t rfl ?_)))))
    refine And.intro (tc_and7i _) (And.intro hp (And.intro (tc_and31i _) (nm_e ?_)))
    exact tc_X192n (o := 11) (by omega) h
  · have e7 : b_opB i &&& 7 = a_opB i &&& 7 := by rw [hB i, tc_b7]
    rw [ho]
    refine tc_Y80 hp e7 (by omega) (by omega) ?_
    refine br_t (by decide) (br_f (by decide) ?_)
    refine br_f (by decide) (br_f (by decide) ?_)
    rw [e7]
    refine And.intro (tc_and7i _) ?_
    refine br_f (by decide) (br_f (by decide) (br_f (by decide) (br_t rfl ?_)))
    refine And.intro hp (And.intro (tc_and31i _) (nm_e ?_))
    exact br_f (by decide) (br_f (by decide) (br_f (by decide) h))
  · exact tc_RRi hLen hOp hA hB hAn (tc_mup hM (hR _)) hSt hR hR0 hZ hC hAl hAs hHa hRe hOv tc_bo0 hSp hT hSe hIn hDa hDi hRs hOu hWa hMa hSg hSo hAd hSA hSr hSC hCv hCw hPe hT0 hT1 hUs hUc hUb hW hD
end
section
variable {post : Int32 → SX → Prop} {T s o : Nat} {f_length f_inputs f_sp f_pc f_zero f_carry f_allowed f_asleep f_halted f_pending f_resets f_taken f_data f_serial f_divider f_sending f_dueSent f_received f_overrun f_sent f_converter f_result f_dueResult f_output f_watch f_dueWatch f_address f_storing f_storeAt f_storeControl f_dueStore f_mask f_edges f_due f_head f_headAt f_headFlags f_stop f_pure : Int32} {a_op a_opA a_opB a_vectors a_analogs a_r a_m a_stack a_count a_since a_control a_compare a_dueEqual a_dueOver a_line a_store a_headR : Nat → Int32}
/-- X's jump of a stack instruction: it halts, or comes to row 94 with pure off -/
theorem tc_XsF {p bx : Int32} (ho : o = 17 ∨ o = 19) (hs : f_sp = 16) (h : post 0 (f_length, f_inputs, f_sp, f_pc, f_zero, f_carry, f_allowed, f_asleep, 1, f_pending, f_resets, f_taken, nI T, f_data, f_serial, f_divider, f_sending, f_dueSent, f_received, f_overrun, f_sent, f_converter, f_result, f_dueResult, f_output, f_watch, f_dueWatch, f_address, f_storing, f_storeAt, f_storeControl, f_dueStore, f_mask, f_edges, f_due, f_head, f_headAt, f_headFlags, f_stop, f_pure, a_op, a_opA, a_opB, a_vectors, a_analogs, a_r, a_m, a_stack, a_count, a_since, a_control, a_compare, a_dueEqual, a_dueOver, a_line, a_store, a_headR)) : wpX_jump post (f_length, f_inputs, f_sp, f_pc, f_zero, f_carry, f_allowed, f_asleep, f_halted, f_pending, f_resets, f_taken, nI T, f_data, f_serial, f_divider, f_sending, f_dueSent, f_received, f_overrun, f_sent, f_converter, f_result, f_dueResult, f_output, f_watch, f_dueWatch, f_address, f_storing, f_storeAt, f_storeControl, f_dueStore, f_mask, f_edges, f_due, f_head, f_headAt, f_headFlags, f_stop, f_pure, a_op, a_opA, a_opB, a_vectors, a_analogs, a_r, a_m, a_stack, a_count, a_since, a_control, a_compare, a_dueEqual, a_dueOver, a_line, a_store, a_headR) (nI o) p bx := by
  rcases ho with rfl | rfl
  · exact br_t rfl (br_t hs (br_f (by decide) (br_f (by decide) (br_f (by decide) (br_f (by decide) h)))))
  · exact br_f (by decide) (br_t rfl (br_t hs (br_f (by decide) (br_f (by decide) (br_f (by decide) (br_f (by decide) h))))))
theorem tc_XsE {p bx : Int32} (ho : o = 18 ∨ o = 20 ∨ o = 21) (hs : f_sp = 0) (h : post 0 (f_length, f_inputs, f_sp, f_pc, f_zero, f_carry, f_allowed, f_asleep, 1, f_pending, f_resets, f_taken, nI T, f_data, f_serial, f_divider, f_sending, f_dueSent, f_received, f_overrun, f_sent, f_converter, f_result, f_dueResult, f_output, f_watch, f_dueWatch, f_address, f_storing, f_storeAt, f_storeControl, f_dueStore, f_mask, f_edges, f_due, f_head, f_headAt, f_headFlags, f_stop, f_pure, a_op, a_opA, a_opB, a_vectors, a_analogs, a_r, a_m, a_stack, a_count, a_since, a_control, a_compare, a_dueEqual, a_dueOver, a_line, a_store, a_headR)) : wpX_jump post (f_length, f_inputs, f_sp, f_pc, f_zero, f_carry, f_allowed, f_asleep, f_halted, f_pending, f_resets, f_taken, nI T, f_data, f_serial, f_divider, f_sending, f_dueSent, f_received, f_overrun, f_sent, f_converter, f_result, f_dueResult, f_output, f_watch, f_dueWatch, f_address, f_storing, f_storeAt, f_storeControl, f_dueStore, f_mask, f_edges, f_due, f_head, f_headAt, f_headFlags, f_stop, f_pure, a_op, a_opA, a_opB, a_vectors, a_analogs, a_r, a_m, a_stack, a_count, a_since, a_control, a_compare, a_dueEqual, a_dueOver, a_line, a_store, a_headR) (nI o) p bx := by
  rcases ho with rfl | rfl | rfl
  · exact br_f (by decide) (br_f (by decide) (br_t rfl (br_t hs (br_t rfl (br_f (by decide) h)))))
  · exact br_f (by decide) (br_f (by decide) (br_f (by decide) (br_t rfl (br_t hs (br_t rfl (br_f (by decide) h))))))
  · exact br_f (by decide) (br_f (by decide) (br_f (by decide) (br_f (by decide) (br_t rfl (br_t hs (br_t rfl (br_f (by decide) h)))))))
theorem tc_Xs94 {p bx : Int32} (ho : 17 ≤ o ∧ o ≤ 21) (hF : (o = 17 ∨ o = 19) → ¬ f_sp = 16) (hE : (o = 18 ∨ o = 20 ∨ o = 21) → ¬ f_sp = 0) (h : wX_jump_164 post (nI o) p bx 0 f_length f_inputs f_sp f_pc f_zero f_carry f_allowed f_asleep f_halted f_pending f_resets f_taken (nI T) f_data f_serial f_divider f_sending f_dueSent f_received f_overrun f_sent f_converter f_result f_dueResult f_output f_watch f_dueWatch f_address f_storing f_storeAt f_storeControl f_dueStore f_mask f_edges f_due f_head f_headAt f_headFlags f_stop 0 a_op a_opA a_opB a_vectors a_analogs a_r a_m a_stack a_count a_since a_control a_compare a_dueEqual a_dueOver a_line a_store a_headR) : wpX_jump post (f_length, f_inputs, f_sp, f_pc, f_zero, f_carry, f_allowed, f_asleep, f_halted, f_pending, f_resets, f_taken, nI T, f_data, f_serial, f_divider, f_sending, f_dueSent, f_received, f_overrun, f_sent, f_converter, f_result, f_dueResult, f_output, f_watch, f_dueWatch, f_address, f_storing, f_storeAt, f_storeControl, f_dueStore, f_mask, f_edges, f_due, f_head, f_headAt, f_headFlags, f_stop, f_pure, a_op, a_opA, a_opB, a_vectors, a_analogs, a_r, a_m, a_stack, a_count, a_since, a_control, a_compare, a_dueEqual, a_dueOver, a_line, a_store, a_headR) (nI o) p bx := by
  have : o = 17 ∨ o = 18 ∨ o = 19 ∨ o = 20 ∨ o = 21 := by omega
  rcases this with rfl | rfl | rfl | rfl | rfl
  · exact br_t rfl (br_f (hF (by omega)) (br_f (by decide) (br_f (by decide) (br_f (by decide) (br_t rfl (br_t rfl (br_f (by decide) (br_f (by decide) (br_f (by decide) (br_f (by decide) (br_f (by decide) (br_f (by decide) (h)))))))))))))
  · exact br_f (by decide) (br_f (by decide) (br_t rfl (br_f (hE (by omega)) (br_t rfl (br_t rfl (br_f (by decide) (br_f (by decide) (br_f (by decide) (br_f (by decide) (br_f (by decide) (br_f (by decide) (h))))))))))))
  · exact br_f (by decide) (br_t rfl (br_f (hF (by omega)) (br_f (by decide) (br_f (by decide) (br_f (by decide) (br_t rfl (br_t rfl (br_f (by decide) (br_f (by decide) (br_f (by decide) (br_f (by decide) (br_f (by decide) (br_f (by decide) (h))))))))))))))
  · exact br_f (by decide) (br_f (by decide) (br_f (by decide) (br_t rfl (br_f (hE (by omega)) (br_t rfl (br_t rfl (br_f (by decide) (br_f (by decide) (br_f (by decide) (br_f (by decide) (br_f (by decide) (br_f (by decide) (h)))))))))))))
  · exact br_f (by decide) (br_f (by decide) (br_f (by decide) (br_f (by decide) (br_t rfl (br_f (hE (by omega)) (br_t rfl (br_t rfl (br_f (by decide) (br_f (by decide) (br_f (by decide) (br_f (by decide) (br_f (by decide) (br_f (by decide) (h))))))))))))))
end
section
variable {T i l o : Nat} {f_length f_inputs f_sp f_pc f_zero f_carry f_allowed f_asleep f_halted f_pending f_resets f_taken f_data f_serial f_divider f_sending f_dueSent f_received f_overrun f_sent f_converter f_result f_dueResult f_output f_watch f_dueWatch f_address f_storing f_storeAt f_storeControl f_dueStore f_mask f_edges f_due f_head f_headAt f_headFlags f_stop f_pure : Int32} {a_op a_opA a_opB a_vectors a_analogs a_r a_m a_stack a_count a_since a_control a_compare a_dueEqual a_dueOver a_line a_store a_headR : Nat → Int32} {g_passed g_converter g_since : Int32} {l_s l_c l_b : Nat} {b_opA b_opB b_store b_pending b_count : Nat → Int32}
/-- Y's way of a stack or special instruction to row 255 -/
theorem tc_Ys {post : Int32 → SY → Prop} {p bb bx : Int32} (hp : vp_in p 8) (e7 : bb &&& 7 = bx &&& 7) (ho : 17 ≤ o ∧ o ≤ 21) (hF : (o = 17 ∨ o = 19) → ¬ f_sp = 16) (hE : (o = 18 ∨ o = 20 ∨ o = 21) → ¬ f_sp = 0)
    (h : wY_execute_80 post (nI o) p bb (a_r p.toNatClampNeg) (a_r (bx &&& 7).toNatClampNeg) (f_pc + 1) f_length f_inputs f_zero f_carry f_allowed f_asleep f_halted f_sp f_pc (nI T) g_passed f_taken f_resets f_edges f_sent f_data f_serial f_divider g_converter f_result f_output f_watch f_address f_storeControl f_mask g_since f_received f_overrun (nI l_s) f_sending (nI l_c) (nI l_b) f_storing f_storeAt a_op b_opA b_opB a_vectors a_analogs b_store a_r a_m a_stack a_line b_pending b_count a_control a_compare) : wpY_execute post (f_length, f_inputs, f_zero, f_carry, f_allowed, f_asleep, f_halted, f_sp, f_pc, nI T, g_passed, f_taken, f_resets, f_edges, f_sent, f_data, f_serial, f_divider, g_converter, f_result, f_output, f_watch, f_address, f_storeControl, f_mask, g_since, f_received, f_overrun, nI l_s, f_sending, nI l_c, nI l_b, f_storing, f_storeAt, a_op, b_opA, b_opB, a_vectors, a_analogs, b_store, a_r, a_m, a_stack, a_line, b_pending, b_count, a_control, a_compare) (nI o) p bb := by
  refine And.intro hp (nm_e ?_)
  rw [e7]
  refine And.intro (tc_and7i _) (nm_e (nm_e ?_))
  have : o = 17 ∨ o = 18 ∨ o = 19 ∨ o = 20 ∨ o = 21 := by omega
  rcases this with rfl | rfl | rfl | rfl | rfl
  · exact br_t rfl (br_f (hF (by omega)) (br_f (by decide) (br_f (by decide) (br_f (by decide) h))))
  · exact br_f (by decide) (br_f (by decide) (br_t rfl (br_f (hE (by omega)) h)))
  · exact br_f (by decide) (br_t rfl (br_f (hF (by omega)) (br_f (by decide) (br_f (by decide) (br_f (by decide) h)))))
  · exact br_f (by decide) (br_f (by decide) (br_f (by decide) (br_t rfl (br_f (hE (by omega)) h))))
  · exact br_f (by decide) (br_f (by decide) (br_f (by decide) (br_f (by decide) (br_t rfl (br_f (hE (by omega)) h)))))
theorem tc_YsH {post : Int32 → SY → Prop} {p bb : Int32} (hp : vp_in p 8) (ho : ((o = 17 ∨ o = 19) ∧ f_sp = 16) ∨ ((o = 18 ∨ o = 20 ∨ o = 21) ∧ f_sp = 0))
    (h : post 0 (f_length, f_inputs, f_zero, f_carry, f_allowed, f_asleep, 1, f_sp, f_pc, nI T, g_passed, f_taken, f_resets, f_edges, f_sent, f_data, f_serial, f_divider, g_converter, f_result, f_output, f_watch, f_address, f_storeControl, f_mask, g_since, f_received, f_overrun, nI l_s, f_sending, nI l_c, nI l_b, f_storing, f_storeAt, a_op, b_opA, b_opB, a_vectors, a_analogs, b_store, a_r, a_m, a_stack, a_line, b_pending, b_count, a_control, a_compare)) : wpY_execute post (f_length, f_inputs, f_zero, f_carry, f_allowed, f_asleep, f_halted, f_sp, f_pc, nI T, g_passed, f_taken, f_resets, f_edges, f_sent, f_data, f_serial, f_divider, g_converter, f_result, f_output, f_watch, f_address, f_storeControl, f_mask, g_since, f_received, f_overrun, nI l_s, f_sending, nI l_c, nI l_b, f_storing, f_storeAt, a_op, b_opA, b_opB, a_vectors, a_analogs, b_store, a_r, a_m, a_stack, a_line, b_pending, b_count, a_control, a_compare) (nI o) p bb := by
  refine And.intro hp (nm_e (And.intro (tc_and7i _) (nm_e (nm_e ?_))))
  rcases ho with ⟨rfl | rfl, hs⟩ | ⟨rfl | rfl | rfl, hs⟩
  · exact br_t rfl (br_t hs h)
  · exact br_f (by decide) (br_t rfl (br_t hs h))
  · exact br_f (by decide) (br_f (by decide) (br_t rfl (br_t hs h)))
  · exact br_f (by decide) (br_f (by decide) (br_f (by decide) (br_t rfl (br_t hs h))))
  · exact br_f (by decide) (br_f (by decide) (br_f (by decide) (br_f (by decide) (br_t rfl (br_t hs h)))))
theorem tc_exH (F : tc_FF T f_length f_inputs f_sp f_pc f_zero f_carry f_allowed f_asleep f_halted f_pending f_resets f_taken f_data f_serial f_divider f_sending f_dueSent f_received f_overrun f_sent f_converter f_result f_dueResult f_output f_watch f_dueWatch f_address f_storing f_storeAt f_storeControl f_dueStore f_mask f_edges f_due f_head f_headAt f_headFlags f_stop f_pure a_op a_opA a_opB a_vectors a_analogs a_r a_m a_stack a_count a_since a_control a_compare a_dueEqual a_dueOver a_line a_store a_headR g_passed g_converter g_since l_s l_c l_b b_opA b_opB b_store b_pending b_count) (hl : f_length = nI l) (hil : i < l) (l48 : l ≤ 48) (h0 : f_halted = 0) (ho : a_op i = nI o) (hh : ((o = 17 ∨ o = 19) ∧ f_sp = 16) ∨ ((o = 18 ∨ o = 20 ∨ o = 21) ∧ f_sp = 0)) : tc_E0 T (f_length, f_inputs, f_sp, nI i, f_zero, f_carry, f_allowed, f_asleep, f_halted, f_pending, f_resets, f_taken, nI T, f_data, f_serial, f_divider, f_sending, f_dueSent, f_received, f_overrun, f_sent, f_converter, f_result, f_dueResult, f_output, f_watch, f_dueWatch, f_address, f_storing, f_storeAt, f_storeControl, f_dueStore, f_mask, f_edges, f_due, f_head, f_headAt, f_headFlags, f_stop, f_pure, a_op, a_opA, a_opB, a_vectors, a_analogs, a_r, a_m, a_stack, a_count, a_since, a_control, a_compare, a_dueEqual, a_dueOver, a_line, a_store, a_headR) (f_length, f_inputs, f_zero, f_carry, f_allowed, f_asleep, f_halted, f_sp, nI i, nI T, g_passed, f_taken, f_resets, f_edges, f_sent, f_data, f_serial, f_divider, g_converter, f_result, f_output, f_watch, f_address, f_storeControl, f_mask, g_since, f_received, f_overrun, nI l_s, f_sending, nI l_c, nI l_b, f_storing, f_storeAt, a_op, b_opA, b_opB, a_vectors, a_analogs, b_store, a_r, a_m, a_stack, a_line, b_pending, b_count, a_control, a_compare) := by
  obtain ⟨hLen, hOp, hA, hB, hAn, hM, hSt, hR, hR0, hZ, hC, hAl, hAs, hHa, hRe, hOv, hPu, hSp, hT, hSe, hIn, hDa, hDi, hRs, hOu, hWa, hMa, hSg, hSo, hAd, hSA, hSr, hSC, hCv, hCw, hPe, hT0, hT1, hUs, hUc, hUb, hW, hD⟩ := F
  have hp := tc_opA hA i
  refine ⟨(f_length, f_inputs, f_sp, nI i, f_zero, f_carry, f_allowed, f_asleep, 1, f_pending, f_resets, f_taken, nI T, f_data, f_serial, f_divider, f_sending, f_dueSent, f_received, f_overrun, f_sent, f_converter, f_result, f_dueResult, f_output, f_watch, f_dueWatch, f_address, f_storing, f_storeAt, f_storeControl, f_dueStore, f_mask, f_edges, f_due, f_head, f_headAt, f_headFlags, f_stop, f_pure, a_op, a_opA, a_opB, a_vectors, a_analogs, a_r, a_m, a_stack, a_count, a_since, a_control, a_compare, a_dueEqual, a_dueOver, a_line, a_store, a_headR), (f_length, f_inputs, f_zero, f_carry, f_allowed, f_asleep, 1, f_sp, nI i, nI T, g_passed, f_taken, f_resets, f_edges, f_sent, f_data, f_serial, f_divider, g_converter, f_result, f_output, f_watch, f_address, f_storeControl, f_mask, g_since, f_received, f_overrun, nI l_s, f_sending, nI l_c, nI l_b, f_storing, f_storeAt, a_op, b_opA, b_opB, a_vectors, a_analogs, b_store, a_r, a_m, a_stack, a_line, b_pending, b_count, a_control, a_compare), tc_RRi hLen hOp hA hB hAn hM hSt hR hR0 hZ hC hAl hAs tc_bo1 hRe hOv hPu hSp hT hSe hIn hDa hDi hRs hOu hWa hMa hSg hSo hAd hSA hSr hSC hCv hCw hPe hT0 hT1 hUs hUc hUb hW hD, fun post h => ?_, fun post h => tc_yexI (by omega) hA ?_, rfl, rfl⟩
  · refine tc_X117 hl hil l48 ho (by omega) ?_
    refine br_t (nI_le (a := 8) (by omega) (by omega)) (br_t (nI_le (a := 14) (by omega) (by omega)) (br_t (nI_lt (b := 22) (by omega) (by decide)) ?_))
    unfold wX_step_165
    rcases hh with ⟨ho, hs⟩ | ⟨ho, hs⟩
    · refine tc_XsF ho hs ?_
      exact br_t rfl (br_f (by decide) h)
    · refine tc_XsE ho hs ?_
      exact br_t rfl (br_f (by decide) h)
  · rw [ho]
    exact tc_YsH hp hh h
theorem tc_ex17 (F : tc_FF T f_length f_inputs f_sp f_pc f_zero f_carry f_allowed f_asleep f_halted f_pending f_resets f_taken f_data f_serial f_divider f_sending f_dueSent f_received f_overrun f_sent f_converter f_result f_dueResult f_output f_watch f_dueWatch f_address f_storing f_storeAt f_storeControl f_dueStore f_mask f_edges f_due f_head f_headAt f_headFlags f_stop f_pure a_op a_opA a_opB a_vectors a_analogs a_r a_m a_stack a_count a_since a_control a_compare a_dueEqual a_dueOver a_line a_store a_headR g_passed g_converter g_since l_s l_c l_b b_opA b_opB b_store b_pending b_count) (hl : f_length = nI l) (hil : i < l) (l48 : l ≤ 48) (h0 : f_halted = 0) (ho : a_op i = nI 17) : tc_E0 T (f_length, f_inputs, f_sp, nI i, f_zero, f_carry, f_allowed, f_asleep, f_halted, f_pending, f_resets, f_taken, nI T, f_data, f_serial, f_divider, f_sending, f_dueSent, f_received, f_overrun, f_sent, f_converter, f_result, f_dueResult, f_output, f_watch, f_dueWatch, f_address, f_storing, f_storeAt, f_storeControl, f_dueStore, f_mask, f_edges, f_due, f_head, f_headAt, f_headFlags, f_stop, f_pure, a_op, a_opA, a_opB, a_vectors, a_analogs, a_r, a_m, a_stack, a_count, a_since, a_control, a_compare, a_dueEqual, a_dueOver, a_line, a_store, a_headR) (f_length, f_inputs, f_zero, f_carry, f_allowed, f_asleep, f_halted, f_sp, nI i, nI T, g_passed, f_taken, f_resets, f_edges, f_sent, f_data, f_serial, f_divider, g_converter, f_result, f_output, f_watch, f_address, f_storeControl, f_mask, g_since, f_received, f_overrun, nI l_s, f_sending, nI l_c, nI l_b, f_storing, f_storeAt, a_op, b_opA, b_opB, a_vectors, a_analogs, b_store, a_r, a_m, a_stack, a_line, b_pending, b_count, a_control, a_compare) ∨ tc_E2 T (f_length, f_inputs, f_sp, nI i, f_zero, f_carry, f_allowed, f_asleep, f_halted, f_pending, f_resets, f_taken, nI T, f_data, f_serial, f_divider, f_sending, f_dueSent, f_received, f_overrun, f_sent, f_converter, f_result, f_dueResult, f_output, f_watch, f_dueWatch, f_address, f_storing, f_storeAt, f_storeControl, f_dueStore, f_mask, f_edges, f_due, f_head, f_headAt, f_headFlags, f_stop, f_pure, a_op, a_opA, a_opB, a_vectors, a_analogs, a_r, a_m, a_stack, a_count, a_since, a_control, a_compare, a_dueEqual, a_dueOver, a_line, a_store, a_headR) (f_length, f_inputs, f_zero, f_carry, f_allowed, f_asleep, f_halted, f_sp, nI i, nI T, g_passed, f_taken, f_resets, f_edges, f_sent, f_data, f_serial, f_divider, g_converter, f_result, f_output, f_watch, f_address, f_storeControl, f_mask, g_since, f_received, f_overrun, nI l_s, f_sending, nI l_c, nI l_b, f_storing, f_storeAt, a_op, b_opA, b_opB, a_vectors, a_analogs, b_store, a_r, a_m, a_stack, a_line, b_pending, b_count, a_control, a_compare) := by
  by_cases hs : f_sp = 16
  · exact Or.inl (tc_exH F hl hil l48 h0 ho (by left; exact ⟨by omega, hs⟩))
  · right
    obtain ⟨hLen, hOp, hA, hB, hAn, hM, hSt, hR, hR0, hZ, hC, hAl, hAs, hHa, hRe, hOv, hPu, hSp, hT, hSe, hIn, hDa, hDi, hRs, hOu, hWa, hMa, hSg, hSo, hAd, hSA, hSr, hSC, hCv, hCw, hPe, hT0, hT1, hUs, hUc, hUb, hW, hD⟩ := F
    have hp := tc_opA hA i
    have hSp' := hSp
    obtain ⟨s, s16, rfl⟩ := hSp'
    have es : (nI s).toNatClampNeg = s := nI_clamp (by omega)
    have s15 : s < 16 := by
      refine Classical.byContradiction fun z => hs ?_
      rw [show s = 16 by omega]; rfl
    have vs : vp_in (nI s) 16 := vp_in_nI s15 (by decide)
    have hS1 : tc_rg (nI s + 1) 16 := ⟨s + 1, by omega, nI_1 s⟩
    refine ⟨(f_length, f_inputs, nI s + 1, a_opB i, f_zero, f_carry, f_allowed, f_asleep, f_halted, f_pending, f_resets, f_taken, nI T, f_data, f_serial, f_divider, f_sending, f_dueSent, f_received, f_overrun, f_sent, f_converter, f_result, f_dueResult, f_output, f_watch, f_dueWatch, f_address, f_storing, f_storeAt, f_storeControl, f_dueStore, f_mask, f_edges, f_due, f_head, f_headAt, f_headFlags, f_stop, 0, a_op, a_opA, a_opB, a_vectors, a_analogs, a_r, a_m, upd a_stack (nI s).toNatClampNeg (nI i + 1), a_count, a_since, a_control, a_compare, a_dueEqual, a_dueOver, a_line, a_store, a_headR), (f_length, f_inputs, f_zero, f_carry, f_allowed, f_asleep, f_halted, nI s + 1, a_opB i, nI T, g_passed, f_taken, f_resets, f_edges, f_sent, f_data, f_serial, f_divider, g_converter, f_result, f_output, f_watch, f_address, f_storeControl, f_mask, g_since, f_received, f_overrun, nI l_s, f_sending, nI l_c, nI l_b, f_storing, f_storeAt, a_op, b_opA, b_opB, a_vectors, a_analogs, b_store, a_r, a_m, upd a_stack (nI s).toNatClampNeg (nI i + 1), a_line, b_pending, b_count, a_control, a_compare), 3, by omega, by omega, ⟨nI i, nI 17, fun post h => ?_⟩, fun post h => tc_yexI (by omega) hA ?_, ?_, rfl, rfl, rfl⟩
    · refine tc_X117 hl hil l48 ho (by omega) ?_
      refine br_t (by decide) (br_t (by decide) (br_t (by decide) ?_))
      unfold wX_step_165
      refine tc_Xs94 (o := 17) (by omega) (fun z => ?_) (fun z => ?_) ?_
      · exact hs
      · omega
      refine br_t rfl (nm_e (And.intro vs (nm_e (br_f (by decide) (br_f (by decide) (br_f (by decide) (br_f (by decide) (br_f (by decide) (br_f (by decide) (br_t rfl (And.intro tc_n0 ?_)))))))))))
      exact br_t rfl (br_t h0 (tc_X192j (o := 17) (by omega) h))
    · have eB : b_opB i &&& 255 = a_opB i := (hB i).symm
      have e7 : b_opB i &&& 7 = a_opB i &&& 7 := by rw [hB i, tc_b7]
      rw [ho]
      refine tc_Ys hp e7 (o := 17) (by omega) (fun z => ?_) (fun z => ?_) ?_
      · exact hs
      · omega
      refine br_t (by decide) (br_t (by decide) (br_f (by decide) (br_t (by decide) ?_)))
      refine br_t rfl ?_
      refine And.intro vs (nm_e (nm_e (nm_r (e' := a_opB i) eB ?_)))
      exact br_f (by decide) (br_f (by decide) (br_f (by decide) (br_f (by decide) (br_f (by decide) (br_f (by decide) (br_f (by decide) (br_f (by decide) (br_f (by decide) (br_t rfl h)))))))))
    · exact tc_RRi hLen hOp hA hB hAn hM hSt hR hR0 hZ hC hAl hAs hHa hRe hOv tc_bo0 hS1 hT hSe hIn hDa hDi hRs hOu hWa hMa hSg hSo hAd hSA hSr hSC hCv hCw hPe hT0 hT1 hUs hUc hUb hW hD
theorem tc_ex19 (F : tc_FF T f_length f_inputs f_sp f_pc f_zero f_carry f_allowed f_asleep f_halted f_pending f_resets f_taken f_data f_serial f_divider f_sending f_dueSent f_received f_overrun f_sent f_converter f_result f_dueResult f_output f_watch f_dueWatch f_address f_storing f_storeAt f_storeControl f_dueStore f_mask f_edges f_due f_head f_headAt f_headFlags f_stop f_pure a_op a_opA a_opB a_vectors a_analogs a_r a_m a_stack a_count a_since a_control a_compare a_dueEqual a_dueOver a_line a_store a_headR g_passed g_converter g_since l_s l_c l_b b_opA b_opB b_store b_pending b_count) (hl : f_length = nI l) (hil : i < l) (l48 : l ≤ 48) (h0 : f_halted = 0) (ho : a_op i = nI 19) : tc_E0 T (f_length, f_inputs, f_sp, nI i, f_zero, f_carry, f_allowed, f_asleep, f_halted, f_pending, f_resets, f_taken, nI T, f_data, f_serial, f_divider, f_sending, f_dueSent, f_received, f_overrun, f_sent, f_converter, f_result, f_dueResult, f_output, f_watch, f_dueWatch, f_address, f_storing, f_storeAt, f_storeControl, f_dueStore, f_mask, f_edges, f_due, f_head, f_headAt, f_headFlags, f_stop, f_pure, a_op, a_opA, a_opB, a_vectors, a_analogs, a_r, a_m, a_stack, a_count, a_since, a_control, a_compare, a_dueEqual, a_dueOver, a_line, a_store, a_headR) (f_length, f_inputs, f_zero, f_carry, f_allowed, f_asleep, f_halted, f_sp, nI i, nI T, g_passed, f_taken, f_resets, f_edges, f_sent, f_data, f_serial, f_divider, g_converter, f_result, f_output, f_watch, f_address, f_storeControl, f_mask, g_since, f_received, f_overrun, nI l_s, f_sending, nI l_c, nI l_b, f_storing, f_storeAt, a_op, b_opA, b_opB, a_vectors, a_analogs, b_store, a_r, a_m, a_stack, a_line, b_pending, b_count, a_control, a_compare) ∨ tc_E2 T (f_length, f_inputs, f_sp, nI i, f_zero, f_carry, f_allowed, f_asleep, f_halted, f_pending, f_resets, f_taken, nI T, f_data, f_serial, f_divider, f_sending, f_dueSent, f_received, f_overrun, f_sent, f_converter, f_result, f_dueResult, f_output, f_watch, f_dueWatch, f_address, f_storing, f_storeAt, f_storeControl, f_dueStore, f_mask, f_edges, f_due, f_head, f_headAt, f_headFlags, f_stop, f_pure, a_op, a_opA, a_opB, a_vectors, a_analogs, a_r, a_m, a_stack, a_count, a_since, a_control, a_compare, a_dueEqual, a_dueOver, a_line, a_store, a_headR) (f_length, f_inputs, f_zero, f_carry, f_allowed, f_asleep, f_halted, f_sp, nI i, nI T, g_passed, f_taken, f_resets, f_edges, f_sent, f_data, f_serial, f_divider, g_converter, f_result, f_output, f_watch, f_address, f_storeControl, f_mask, g_since, f_received, f_overrun, nI l_s, f_sending, nI l_c, nI l_b, f_storing, f_storeAt, a_op, b_opA, b_opB, a_vectors, a_analogs, b_store, a_r, a_m, a_stack, a_line, b_pending, b_count, a_control, a_compare) := by
  by_cases hs : f_sp = 16
  · exact Or.inl (tc_exH F hl hil l48 h0 ho (by left; exact ⟨by omega, hs⟩))
  · right
    obtain ⟨hLen, hOp, hA, hB, hAn, hM, hSt, hR, hR0, hZ, hC, hAl, hAs, hHa, hRe, hOv, hPu, hSp, hT, hSe, hIn, hDa, hDi, hRs, hOu, hWa, hMa, hSg, hSo, hAd, hSA, hSr, hSC, hCv, hCw, hPe, hT0, hT1, hUs, hUc, hUb, hW, hD⟩ := F
    have hp := tc_opA hA i
    have hSp' := hSp
    obtain ⟨s, s16, rfl⟩ := hSp'
    have es : (nI s).toNatClampNeg = s := nI_clamp (by omega)
    have s15 : s < 16 := by
      refine Classical.byContradiction fun z => hs ?_
      rw [show s = 16 by omega]; rfl
    have vs : vp_in (nI s) 16 := vp_in_nI s15 (by decide)
    have hS1 : tc_rg (nI s + 1) 16 := ⟨s + 1, by omega, nI_1 s⟩
    refine ⟨(f_length, f_inputs, nI s + 1, nI i + 1, f_zero, f_carry, f_allowed, f_asleep, f_halted, f_pending, f_resets, f_taken, nI T, f_data, f_serial, f_divider, f_sending, f_dueSent, f_received, f_overrun, f_sent, f_converter, f_result, f_dueResult, f_output, f_watch, f_dueWatch, f_address, f_storing, f_storeAt, f_storeControl, f_dueStore, f_mask, f_edges, f_due, f_head, f_headAt, f_headFlags, f_stop, 0, a_op, a_opA, a_opB, a_vectors, a_analogs, a_r, a_m, upd a_stack (nI s).toNatClampNeg (a_r (a_opA i).toNatClampNeg), a_count, a_since, a_control, a_compare, a_dueEqual, a_dueOver, a_line, a_store, a_headR), (f_length, f_inputs, f_zero, f_carry, f_allowed, f_asleep, f_halted, nI s + 1, nI i + 1, nI T, g_passed, f_taken, f_resets, f_edges, f_sent, f_data, f_serial, f_divider, g_converter, f_result, f_output, f_watch, f_address, f_storeControl, f_mask, g_since, f_received, f_overrun, nI l_s, f_sending, nI l_c, nI l_b, f_storing, f_storeAt, a_op, b_opA, b_opB, a_vectors, a_analogs, b_store, a_r, a_m, upd a_stack (nI s).toNatClampNeg (a_r (a_opA i).toNatClampNeg), a_line, b_pending, b_count, a_control, a_compare), 2, by omega, by omega, ⟨nI i, nI 19, fun post h => ?_⟩, fun post h => tc_yexI (by omega) hA ?_, ?_, rfl, rfl, rfl⟩
    · refine tc_X117 hl hil l48 ho (by omega) ?_
      refine br_t (by decide) (br_t (by decide) (br_t (by decide) ?_))
      unfold wX_step_165
      refine tc_Xs94 (o := 19) (by omega) (fun z => ?_) (fun z => ?_) ?_
      · exact hs
      · omega
      refine br_f (by decide) (br_t rfl (nm_e (And.intro hp (And.intro vs (nm_e (br_f (by decide) (br_f (by decide) (br_f (by decide) (br_f (by decide) (br_f (by decide) (br_f (by decide) (br_t rfl (nm_e (And.intro tc_n0 ?_))))))))))))))
      exact br_t rfl (br_t h0 (tc_X192j (o := 19) (by omega) h))
    · have eB : b_opB i &&& 255 = a_opB i := (hB i).symm
      have e7 : b_opB i &&& 7 = a_opB i &&& 7 := by rw [hB i, tc_b7]
      rw [ho]
      refine tc_Ys hp e7 (o := 19) (by omega) (fun z => ?_) (fun z => ?_) ?_
      · exact hs
      · omega
      refine br_t (by decide) (br_t (by decide) (br_f (by decide) (br_t (by decide) ?_)))
      refine br_f (by decide) ?_
      refine br_f (by decide) (br_f (by decide) (br_t rfl ?_))
      refine And.intro vs (nm_e (nm_e ?_))
      exact br_f (by decide) (br_f (by decide) (br_f (by decide) (br_f (by decide) (br_f (by decide) (br_f (by decide) (br_f (by decide) (br_f (by decide) (br_f (by decide) (br_t rfl h)))))))))
    · exact tc_RRi hLen hOp hA hB hAn hM hSt hR hR0 hZ hC hAl hAs hHa hRe hOv tc_bo0 hS1 hT hSe hIn hDa hDi hRs hOu hWa hMa hSg hSo hAd hSA hSr hSC hCv hCw hPe hT0 hT1 hUs hUc hUb hW hD
theorem tc_ex18 (F : tc_FF T f_length f_inputs f_sp f_pc f_zero f_carry f_allowed f_asleep f_halted f_pending f_resets f_taken f_data f_serial f_divider f_sending f_dueSent f_received f_overrun f_sent f_converter f_result f_dueResult f_output f_watch f_dueWatch f_address f_storing f_storeAt f_storeControl f_dueStore f_mask f_edges f_due f_head f_headAt f_headFlags f_stop f_pure a_op a_opA a_opB a_vectors a_analogs a_r a_m a_stack a_count a_since a_control a_compare a_dueEqual a_dueOver a_line a_store a_headR g_passed g_converter g_since l_s l_c l_b b_opA b_opB b_store b_pending b_count) (hl : f_length = nI l) (hil : i < l) (l48 : l ≤ 48) (h0 : f_halted = 0) (ho : a_op i = nI 18) : tc_E0 T (f_length, f_inputs, f_sp, nI i, f_zero, f_carry, f_allowed, f_asleep, f_halted, f_pending, f_resets, f_taken, nI T, f_data, f_serial, f_divider, f_sending, f_dueSent, f_received, f_overrun, f_sent, f_converter, f_result, f_dueResult, f_output, f_watch, f_dueWatch, f_address, f_storing, f_storeAt, f_storeControl, f_dueStore, f_mask, f_edges, f_due, f_head, f_headAt, f_headFlags, f_stop, f_pure, a_op, a_opA, a_opB, a_vectors, a_analogs, a_r, a_m, a_stack, a_count, a_since, a_control, a_compare, a_dueEqual, a_dueOver, a_line, a_store, a_headR) (f_length, f_inputs, f_zero, f_carry, f_allowed, f_asleep, f_halted, f_sp, nI i, nI T, g_passed, f_taken, f_resets, f_edges, f_sent, f_data, f_serial, f_divider, g_converter, f_result, f_output, f_watch, f_address, f_storeControl, f_mask, g_since, f_received, f_overrun, nI l_s, f_sending, nI l_c, nI l_b, f_storing, f_storeAt, a_op, b_opA, b_opB, a_vectors, a_analogs, b_store, a_r, a_m, a_stack, a_line, b_pending, b_count, a_control, a_compare) ∨ tc_E2 T (f_length, f_inputs, f_sp, nI i, f_zero, f_carry, f_allowed, f_asleep, f_halted, f_pending, f_resets, f_taken, nI T, f_data, f_serial, f_divider, f_sending, f_dueSent, f_received, f_overrun, f_sent, f_converter, f_result, f_dueResult, f_output, f_watch, f_dueWatch, f_address, f_storing, f_storeAt, f_storeControl, f_dueStore, f_mask, f_edges, f_due, f_head, f_headAt, f_headFlags, f_stop, f_pure, a_op, a_opA, a_opB, a_vectors, a_analogs, a_r, a_m, a_stack, a_count, a_since, a_control, a_compare, a_dueEqual, a_dueOver, a_line, a_store, a_headR) (f_length, f_inputs, f_zero, f_carry, f_allowed, f_asleep, f_halted, f_sp, nI i, nI T, g_passed, f_taken, f_resets, f_edges, f_sent, f_data, f_serial, f_divider, g_converter, f_result, f_output, f_watch, f_address, f_storeControl, f_mask, g_since, f_received, f_overrun, nI l_s, f_sending, nI l_c, nI l_b, f_storing, f_storeAt, a_op, b_opA, b_opB, a_vectors, a_analogs, b_store, a_r, a_m, a_stack, a_line, b_pending, b_count, a_control, a_compare) := by
  by_cases hs : f_sp = 0
  · exact Or.inl (tc_exH F hl hil l48 h0 ho (by right; exact ⟨by omega, hs⟩))
  · right
    obtain ⟨hLen, hOp, hA, hB, hAn, hM, hSt, hR, hR0, hZ, hC, hAl, hAs, hHa, hRe, hOv, hPu, hSp, hT, hSe, hIn, hDa, hDi, hRs, hOu, hWa, hMa, hSg, hSo, hAd, hSA, hSr, hSC, hCv, hCw, hPe, hT0, hT1, hUs, hUc, hUb, hW, hD⟩ := F
    have hp := tc_opA hA i
    have hSp' := hSp
    obtain ⟨s, s16, rfl⟩ := hSp'
    have es : (nI s).toNatClampNeg = s := nI_clamp (by omega)
    have s0 : 0 < s := by
      refine Classical.byContradiction fun z => hs ?_
      rw [show s = 0 by omega]; rfl
    have em : nI s - 1 = nI (s - 1) := pk_sub (b := 1) (by omega)
    have vs : vp_in (nI s - 1) 16 := by rw [em]; exact vp_in_nI (by omega) (by decide)
    have hS1 : tc_rg (nI s - 1) 16 := ⟨s - 1, by omega, em⟩
    refine ⟨(f_length, f_inputs, nI s - 1, a_stack (nI s - 1).toNatClampNeg, f_zero, f_carry, f_allowed, f_asleep, f_halted, f_pending, f_resets, f_taken, nI T, f_data, f_serial, f_divider, f_sending, f_dueSent, f_received, f_overrun, f_sent, f_converter, f_result, f_dueResult, f_output, f_watch, f_dueWatch, f_address, f_storing, f_storeAt, f_storeControl, f_dueStore, f_mask, f_edges, f_due, f_head, f_headAt, f_headFlags, f_stop, 0, a_op, a_opA, a_opB, a_vectors, a_analogs, a_r, a_m, a_stack, a_count, a_since, a_control, a_compare, a_dueEqual, a_dueOver, a_line, a_store, a_headR), (f_length, f_inputs, f_zero, f_carry, f_allowed, f_asleep, f_halted, nI s - 1, a_stack (nI s - 1).toNatClampNeg, nI T, g_passed, f_taken, f_resets, f_edges, f_sent, f_data, f_serial, f_divider, g_converter, f_result, f_output, f_watch, f_address, f_storeControl, f_mask, g_since, f_received, f_overrun, nI l_s, f_sending, nI l_c, nI l_b, f_storing, f_storeAt, a_op, b_opA, b_opB, a_vectors, a_analogs, b_store, a_r, a_m, a_stack, a_line, b_pending, b_count, a_control, a_compare), 3, by omega, by omega, ⟨nI i, nI 18, fun post h => ?_⟩, fun post h => tc_yexI (by omega) hA ?_, ?_, rfl, rfl, rfl⟩
    · refine tc_X117 hl hil l48 ho (by omega) ?_
      refine br_t (by decide) (br_t (by decide) (br_t (by decide) ?_))
      unfold wX_step_165
      refine tc_Xs94 (o := 18) (by omega) (fun z => ?_) (fun z => ?_) ?_
      · omega
      · exact hs
      refine br_f (by decide) (br_f (by decide) (br_f (by decide) (br_f (by decide) (br_t rfl (nm_e (And.intro vs (nm_e (And.intro tc_n0 ?_))))))))
      exact br_t rfl (br_t h0 (tc_X192j (o := 18) (by omega) h))
    · have eB : b_opB i &&& 255 = a_opB i := (hB i).symm
      have e7 : b_opB i &&& 7 = a_opB i &&& 7 := by rw [hB i, tc_b7]
      rw [ho]
      refine tc_Ys hp e7 (o := 18) (by omega) (fun z => ?_) (fun z => ?_) ?_
      · omega
      · exact hs
      refine br_t (by decide) (br_t (by decide) (br_f (by decide) (br_t (by decide) ?_)))
      refine br_f (by decide) (br_t rfl ?_)
      refine nm_e (And.intro vs ?_)
      exact br_f (by decide) (br_f (by decide) (br_f (by decide) (br_f (by decide) (br_f (by decide) (br_f (by decide) (br_f (by decide) (br_f (by decide) (br_t rfl h))))))))
    · exact tc_RRi hLen hOp hA hB hAn hM hSt hR hR0 hZ hC hAl hAs hHa hRe hOv tc_bo0 hS1 hT hSe hIn hDa hDi hRs hOu hWa hMa hSg hSo hAd hSA hSr hSC hCv hCw hPe hT0 hT1 hUs hUc hUb hW hD
theorem tc_ex20 (F : tc_FF T f_length f_inputs f_sp f_pc f_zero f_carry f_allowed f_asleep f_halted f_pending f_resets f_taken f_data f_serial f_divider f_sending f_dueSent f_received f_overrun f_sent f_converter f_result f_dueResult f_output f_watch f_dueWatch f_address f_storing f_storeAt f_storeControl f_dueStore f_mask f_edges f_due f_head f_headAt f_headFlags f_stop f_pure a_op a_opA a_opB a_vectors a_analogs a_r a_m a_stack a_count a_since a_control a_compare a_dueEqual a_dueOver a_line a_store a_headR g_passed g_converter g_since l_s l_c l_b b_opA b_opB b_store b_pending b_count) (hl : f_length = nI l) (hil : i < l) (l48 : l ≤ 48) (h0 : f_halted = 0) (ho : a_op i = nI 20) : tc_E0 T (f_length, f_inputs, f_sp, nI i, f_zero, f_carry, f_allowed, f_asleep, f_halted, f_pending, f_resets, f_taken, nI T, f_data, f_serial, f_divider, f_sending, f_dueSent, f_received, f_overrun, f_sent, f_converter, f_result, f_dueResult, f_output, f_watch, f_dueWatch, f_address, f_storing, f_storeAt, f_storeControl, f_dueStore, f_mask, f_edges, f_due, f_head, f_headAt, f_headFlags, f_stop, f_pure, a_op, a_opA, a_opB, a_vectors, a_analogs, a_r, a_m, a_stack, a_count, a_since, a_control, a_compare, a_dueEqual, a_dueOver, a_line, a_store, a_headR) (f_length, f_inputs, f_zero, f_carry, f_allowed, f_asleep, f_halted, f_sp, nI i, nI T, g_passed, f_taken, f_resets, f_edges, f_sent, f_data, f_serial, f_divider, g_converter, f_result, f_output, f_watch, f_address, f_storeControl, f_mask, g_since, f_received, f_overrun, nI l_s, f_sending, nI l_c, nI l_b, f_storing, f_storeAt, a_op, b_opA, b_opB, a_vectors, a_analogs, b_store, a_r, a_m, a_stack, a_line, b_pending, b_count, a_control, a_compare) ∨ tc_E2 T (f_length, f_inputs, f_sp, nI i, f_zero, f_carry, f_allowed, f_asleep, f_halted, f_pending, f_resets, f_taken, nI T, f_data, f_serial, f_divider, f_sending, f_dueSent, f_received, f_overrun, f_sent, f_converter, f_result, f_dueResult, f_output, f_watch, f_dueWatch, f_address, f_storing, f_storeAt, f_storeControl, f_dueStore, f_mask, f_edges, f_due, f_head, f_headAt, f_headFlags, f_stop, f_pure, a_op, a_opA, a_opB, a_vectors, a_analogs, a_r, a_m, a_stack, a_count, a_since, a_control, a_compare, a_dueEqual, a_dueOver, a_line, a_store, a_headR) (f_length, f_inputs, f_zero, f_carry, f_allowed, f_asleep, f_halted, f_sp, nI i, nI T, g_passed, f_taken, f_resets, f_edges, f_sent, f_data, f_serial, f_divider, g_converter, f_result, f_output, f_watch, f_address, f_storeControl, f_mask, g_since, f_received, f_overrun, nI l_s, f_sending, nI l_c, nI l_b, f_storing, f_storeAt, a_op, b_opA, b_opB, a_vectors, a_analogs, b_store, a_r, a_m, a_stack, a_line, b_pending, b_count, a_control, a_compare) := by
  by_cases hs : f_sp = 0
  · exact Or.inl (tc_exH F hl hil l48 h0 ho (by right; exact ⟨by omega, hs⟩))
  · right
    obtain ⟨hLen, hOp, hA, hB, hAn, hM, hSt, hR, hR0, hZ, hC, hAl, hAs, hHa, hRe, hOv, hPu, hSp, hT, hSe, hIn, hDa, hDi, hRs, hOu, hWa, hMa, hSg, hSo, hAd, hSA, hSr, hSC, hCv, hCw, hPe, hT0, hT1, hUs, hUc, hUb, hW, hD⟩ := F
    have hp := tc_opA hA i
    have hSp' := hSp
    obtain ⟨s, s16, rfl⟩ := hSp'
    have es : (nI s).toNatClampNeg = s := nI_clamp (by omega)
    have s0 : 0 < s := by
      refine Classical.byContradiction fun z => hs ?_
      rw [show s = 0 by omega]; rfl
    have em : nI s - 1 = nI (s - 1) := pk_sub (b := 1) (by omega)
    have vs : vp_in (nI s - 1) 16 := by rw [em]; exact vp_in_nI (by omega) (by decide)
    have hS1 : tc_rg (nI s - 1) 16 := ⟨s - 1, by omega, em⟩
    refine ⟨(f_length, f_inputs, nI s - 1, nI i + 1, f_zero, f_carry, f_allowed, f_asleep, f_halted, f_pending, f_resets, f_taken, nI T, f_data, f_serial, f_divider, f_sending, f_dueSent, f_received, f_overrun, f_sent, f_converter, f_result, f_dueResult, f_output, f_watch, f_dueWatch, f_address, f_storing, f_storeAt, f_storeControl, f_dueStore, f_mask, f_edges, f_due, f_head, f_headAt, f_headFlags, f_stop, 0, a_op, a_opA, a_opB, a_vectors, a_analogs, upd a_r (a_opA i).toNatClampNeg (a_stack (nI s - 1).toNatClampNeg &&& 255), a_m, a_stack, a_count, a_since, a_control, a_compare, a_dueEqual, a_dueOver, a_line, a_store, a_headR), (f_length, f_inputs, f_zero, f_carry, f_allowed, f_asleep, f_halted, nI s - 1, nI i + 1, nI T, g_passed, f_taken, f_resets, f_edges, f_sent, f_data, f_serial, f_divider, g_converter, f_result, f_output, f_watch, f_address, f_storeControl, f_mask, g_since, f_received, f_overrun, nI l_s, f_sending, nI l_c, nI l_b, f_storing, f_storeAt, a_op, b_opA, b_opB, a_vectors, a_analogs, b_store, upd a_r (a_opA i).toNatClampNeg (a_stack (nI s - 1).toNatClampNeg &&& 255), a_m, a_stack, a_line, b_pending, b_count, a_control, a_compare), 2, by omega, by omega, ⟨nI i, nI 20, fun post h => ?_⟩, fun post h => tc_yexI (by omega) hA ?_, ?_, rfl, rfl, rfl⟩
    · refine tc_X117 hl hil l48 ho (by omega) ?_
      refine br_t (by decide) (br_t (by decide) (br_t (by decide) ?_))
      unfold wX_step_165
      refine tc_Xs94 (o := 20) (by omega) (fun z => ?_) (fun z => ?_) ?_
      · omega
      · exact hs
      refine br_f (by decide) (br_f (by decide) (br_t rfl (nm_e (And.intro vs (And.intro hp (nm_e (br_f (by decide) (br_f (by decide) (br_f (by decide) (br_f (by decide) (br_f (by decide) (br_t rfl (nm_e (And.intro tc_n0 ?_))))))))))))))
      exact br_t rfl (br_t h0 (tc_X192j (o := 20) (by omega) h))
    · have eB : b_opB i &&& 255 = a_opB i := (hB i).symm
      have e7 : b_opB i &&& 7 = a_opB i &&& 7 := by rw [hB i, tc_b7]
      rw [ho]
      refine tc_Ys hp e7 (o := 20) (by omega) (fun z => ?_) (fun z => ?_) ?_
      · omega
      · exact hs
      refine br_t (by decide) (br_t (by decide) (br_f (by decide) (br_t (by decide) ?_)))
      refine br_f (by decide) ?_
      refine br_f (by decide) (br_f (by decide) (br_f (by decide) (br_t rfl ?_)))
      refine nm_e (And.intro vs (And.intro hp (nm_e ?_)))
      exact br_f (by decide) (br_f (by decide) (br_f (by decide) (br_f (by decide) (br_f (by decide) (br_f (by decide) (br_f (by decide) (br_f (by decide) (br_f (by decide) (br_t rfl h)))))))))
    · exact tc_RRi hLen hOp hA hB hAn hM hSt ((tc_rup hp hR hR0 (tc_y8_and _)).1) ((tc_rup hp hR hR0 (tc_y8_and _)).2) hZ hC hAl hAs hHa hRe hOv tc_bo0 hS1 hT hSe hIn hDa hDi hRs hOu hWa hMa hSg hSo hAd hSA hSr hSC hCv hCw hPe hT0 hT1 hUs hUc hUb hW hD
theorem tc_ex21 (F : tc_FF T f_length f_inputs f_sp f_pc f_zero f_carry f_allowed f_asleep f_halted f_pending f_resets f_taken f_data f_serial f_divider f_sending f_dueSent f_received f_overrun f_sent f_converter f_result f_dueResult f_output f_watch f_dueWatch f_address f_storing f_storeAt f_storeControl f_dueStore f_mask f_edges f_due f_head f_headAt f_headFlags f_stop f_pure a_op a_opA a_opB a_vectors a_analogs a_r a_m a_stack a_count a_since a_control a_compare a_dueEqual a_dueOver a_line a_store a_headR g_passed g_converter g_since l_s l_c l_b b_opA b_opB b_store b_pending b_count) (hl : f_length = nI l) (hil : i < l) (l48 : l ≤ 48) (h0 : f_halted = 0) (ho : a_op i = nI 21) : tc_E0 T (f_length, f_inputs, f_sp, nI i, f_zero, f_carry, f_allowed, f_asleep, f_halted, f_pending, f_resets, f_taken, nI T, f_data, f_serial, f_divider, f_sending, f_dueSent, f_received, f_overrun, f_sent, f_converter, f_result, f_dueResult, f_output, f_watch, f_dueWatch, f_address, f_storing, f_storeAt, f_storeControl, f_dueStore, f_mask, f_edges, f_due, f_head, f_headAt, f_headFlags, f_stop, f_pure, a_op, a_opA, a_opB, a_vectors, a_analogs, a_r, a_m, a_stack, a_count, a_since, a_control, a_compare, a_dueEqual, a_dueOver, a_line, a_store, a_headR) (f_length, f_inputs, f_zero, f_carry, f_allowed, f_asleep, f_halted, f_sp, nI i, nI T, g_passed, f_taken, f_resets, f_edges, f_sent, f_data, f_serial, f_divider, g_converter, f_result, f_output, f_watch, f_address, f_storeControl, f_mask, g_since, f_received, f_overrun, nI l_s, f_sending, nI l_c, nI l_b, f_storing, f_storeAt, a_op, b_opA, b_opB, a_vectors, a_analogs, b_store, a_r, a_m, a_stack, a_line, b_pending, b_count, a_control, a_compare) ∨ tc_E2 T (f_length, f_inputs, f_sp, nI i, f_zero, f_carry, f_allowed, f_asleep, f_halted, f_pending, f_resets, f_taken, nI T, f_data, f_serial, f_divider, f_sending, f_dueSent, f_received, f_overrun, f_sent, f_converter, f_result, f_dueResult, f_output, f_watch, f_dueWatch, f_address, f_storing, f_storeAt, f_storeControl, f_dueStore, f_mask, f_edges, f_due, f_head, f_headAt, f_headFlags, f_stop, f_pure, a_op, a_opA, a_opB, a_vectors, a_analogs, a_r, a_m, a_stack, a_count, a_since, a_control, a_compare, a_dueEqual, a_dueOver, a_line, a_store, a_headR) (f_length, f_inputs, f_zero, f_carry, f_allowed, f_asleep, f_halted, f_sp, nI i, nI T, g_passed, f_taken, f_resets, f_edges, f_sent, f_data, f_serial, f_divider, g_converter, f_result, f_output, f_watch, f_address, f_storeControl, f_mask, g_since, f_received, f_overrun, nI l_s, f_sending, nI l_c, nI l_b, f_storing, f_storeAt, a_op, b_opA, b_opB, a_vectors, a_analogs, b_store, a_r, a_m, a_stack, a_line, b_pending, b_count, a_control, a_compare) := by
  by_cases hs : f_sp = 0
  · exact Or.inl (tc_exH F hl hil l48 h0 ho (by right; exact ⟨by omega, hs⟩))
  · right
    obtain ⟨hLen, hOp, hA, hB, hAn, hM, hSt, hR, hR0, hZ, hC, hAl, hAs, hHa, hRe, hOv, hPu, hSp, hT, hSe, hIn, hDa, hDi, hRs, hOu, hWa, hMa, hSg, hSo, hAd, hSA, hSr, hSC, hCv, hCw, hPe, hT0, hT1, hUs, hUc, hUb, hW, hD⟩ := F
    have hp := tc_opA hA i
    have hSp' := hSp
    obtain ⟨s, s16, rfl⟩ := hSp'
    have es : (nI s).toNatClampNeg = s := nI_clamp (by omega)
    have s0 : 0 < s := by
      refine Classical.byContradiction fun z => hs ?_
      rw [show s = 0 by omega]; rfl
    have em : nI s - 1 = nI (s - 1) := pk_sub (b := 1) (by omega)
    have vs : vp_in (nI s - 1) 16 := by rw [em]; exact vp_in_nI (by omega) (by decide)
    have hS1 : tc_rg (nI s - 1) 16 := ⟨s - 1, by omega, em⟩
    refine ⟨(f_length, f_inputs, nI s - 1, a_stack (nI s - 1).toNatClampNeg, f_zero, f_carry, 1, f_asleep, f_halted, f_pending, f_resets, f_taken, nI T, f_data, f_serial, f_divider, f_sending, f_dueSent, f_received, f_overrun, f_sent, f_converter, f_result, f_dueResult, f_output, f_watch, f_dueWatch, f_address, f_storing, f_storeAt, f_storeControl, f_dueStore, f_mask, f_edges, f_due, f_head, f_headAt, f_headFlags, f_stop, 0, a_op, a_opA, a_opB, a_vectors, a_analogs, a_r, a_m, a_stack, a_count, a_since, a_control, a_compare, a_dueEqual, a_dueOver, a_line, a_store, a_headR), (f_length, f_inputs, f_zero, f_carry, 1, f_asleep, f_halted, nI s - 1, a_stack (nI s - 1).toNatClampNeg, nI T, g_passed, f_taken, f_resets, f_edges, f_sent, f_data, f_serial, f_divider, g_converter, f_result, f_output, f_watch, f_address, f_storeControl, f_mask, g_since, f_received, f_overrun, nI l_s, f_sending, nI l_c, nI l_b, f_storing, f_storeAt, a_op, b_opA, b_opB, a_vectors, a_analogs, b_store, a_r, a_m, a_stack, a_line, b_pending, b_count, a_control, a_compare), 3, by omega, by omega, ⟨nI i, nI 21, fun post h => ?_⟩, fun post h => tc_yexI (by omega) hA ?_, ?_, rfl, rfl, rfl⟩
    · refine tc_X117 hl hil l48 ho (by omega) ?_
      refine br_t (by decide) (br_t (by decide) (br_t (by decide) ?_))
      unfold wX_step_165
      refine tc_Xs94 (o := 21) (by omega) (fun z => ?_) (fun z => ?_) ?_
      · omega
      · exact hs
      refine br_f (by decide) (br_f (by decide) (br_f (by decide) (br_t rfl (br_f (by decide) (br_t rfl (nm_e (And.intro vs (nm_e (And.intro tc_n0 ?_)))))))))
      exact br_t rfl (br_t h0 (tc_X192j (o := 21) (by omega) h))
    · have eB : b_opB i &&& 255 = a_opB i := (hB i).symm
      have e7 : b_opB i &&& 7 = a_opB i &&& 7 := by rw [hB i, tc_b7]
      rw [ho]
      refine tc_Ys hp e7 (o := 21) (by omega) (fun z => ?_) (fun z => ?_) ?_
      · omega
      · exact hs
      refine br_t (by decide) (br_t (by decide) (br_f (by decide) (br_t (by decide) ?_)))
      refine br_f (by decide) (br_f (by decide) (br_t rfl ?_))
      refine nm_e (And.intro vs ?_)
      exact br_f (by decide) (br_f (by decide) (br_t rfl (br_f (by decide) (br_f (by decide) (br_f (by decide) (br_f (by decide) (br_f (by decide) (br_t rfl h))))))))
    · exact tc_RRi hLen hOp hA hB hAn hM hSt hR hR0 hZ hC tc_bo1 hAs hHa hRe hOv tc_bo0 hS1 hT hSe hIn hDa hDi hRs hOu hWa hMa hSg hSo hAd hSA hSr hSC hCv hCw hPe hT0 hT1 hUs hUc hUb hW hD
end
section
variable {T i l o : Nat} {f_length f_inputs f_sp f_pc f_zero f_carry f_allowed f_asleep f_halted f_pending f_resets f_taken f_data f_serial f_divider f_sending f_dueSent f_received f_overrun f_sent f_converter f_result f_dueResult f_output f_watch f_dueWatch f_address f_storing f_storeAt f_storeControl f_dueStore f_mask f_edges f_due f_head f_headAt f_headFlags f_stop f_pure : Int32} {a_op a_opA a_opB a_vectors a_analogs a_r a_m a_stack a_count a_since a_control a_compare a_dueEqual a_dueOver a_line a_store a_headR : Nat → Int32} {g_passed g_converter g_since : Int32} {l_s l_c l_b : Nat} {b_opA b_opB b_store b_pending b_count : Nat → Int32}
theorem tc_feed {post : SX → Prop} (hT : T ≤ 1100000000) : ∃ d : Int32, tc_wF T f_watch 0 d ∧ (∀ post : SX → Prop, post (f_length, f_inputs, f_sp, f_pc, f_zero, f_carry, f_allowed, f_asleep, f_halted, f_pending, f_resets, f_taken, nI T, f_data, f_serial, f_divider, f_sending, f_dueSent, f_received, f_overrun, f_sent, f_converter, f_result, f_dueResult, f_output, f_watch, d, f_address, f_storing, f_storeAt, f_storeControl, f_dueStore, f_mask, f_edges, tc_du f_dueSent f_dueResult d f_dueStore a_dueEqual a_dueOver, f_head, f_headAt, f_headFlags, f_stop, f_pure, a_op, a_opA, a_opB, a_vectors, a_analogs, a_r, a_m, a_stack, a_count, a_since, a_control, a_compare, a_dueEqual, a_dueOver, a_line, a_store, a_headR) → wpX_feed post (f_length, f_inputs, f_sp, f_pc, f_zero, f_carry, f_allowed, f_asleep, f_halted, f_pending, f_resets, f_taken, nI T, f_data, f_serial, f_divider, f_sending, f_dueSent, f_received, f_overrun, f_sent, f_converter, f_result, f_dueResult, f_output, f_watch, f_dueWatch, f_address, f_storing, f_storeAt, f_storeControl, f_dueStore, f_mask, f_edges, f_due, f_head, f_headAt, f_headFlags, f_stop, f_pure, a_op, a_opA, a_opB, a_vectors, a_analogs, a_r, a_m, a_stack, a_count, a_since, a_control, a_compare, a_dueEqual, a_dueOver, a_line, a_store, a_headR)) := by
  obtain ⟨k, hk, e⟩ := pk_andE f_watch (m := 7) 3 (by decide)
  have hk : k < 8 := hk
  by_cases k0 : k = 0
  · refine ⟨2147483647, Or.inl ⟨by rw [e, k0]; rfl, rfl⟩, fun post h => ?_⟩
    refine nm_r (e' := 0) (by rw [e, k0]; rfl) (br_t rfl ?_)
    unfold wX_feed_27
    exact tc_soon h
  · refine ⟨nI (T + 16 * 2 ^ k), Or.inr ⟨k, 0, by omega, hk, e, rfl, Nat.mul_pos (by decide) (Nat.pow_pos (by decide)), rfl⟩, fun post h => ?_⟩
    refine nm_r (e' := nI k) e (br_f (nI_ne0 (by omega) (by omega)) ?_)
    rw [tc_16k k hk, nI_add]
    unfold wX_feed_27
    exact tc_soon h
theorem tc_ex22 (F : tc_FF T f_length f_inputs f_sp f_pc f_zero f_carry f_allowed f_asleep f_halted f_pending f_resets f_taken f_data f_serial f_divider f_sending f_dueSent f_received f_overrun f_sent f_converter f_result f_dueResult f_output f_watch f_dueWatch f_address f_storing f_storeAt f_storeControl f_dueStore f_mask f_edges f_due f_head f_headAt f_headFlags f_stop f_pure a_op a_opA a_opB a_vectors a_analogs a_r a_m a_stack a_count a_since a_control a_compare a_dueEqual a_dueOver a_line a_store a_headR g_passed g_converter g_since l_s l_c l_b b_opA b_opB b_store b_pending b_count) (hl : f_length = nI l) (hil : i < l) (l48 : l ≤ 48) (ho : a_op i = nI 22) : tc_E2 T (f_length, f_inputs, f_sp, nI i, f_zero, f_carry, f_allowed, f_asleep, f_halted, f_pending, f_resets, f_taken, nI T, f_data, f_serial, f_divider, f_sending, f_dueSent, f_received, f_overrun, f_sent, f_converter, f_result, f_dueResult, f_output, f_watch, f_dueWatch, f_address, f_storing, f_storeAt, f_storeControl, f_dueStore, f_mask, f_edges, f_due, f_head, f_headAt, f_headFlags, f_stop, f_pure, a_op, a_opA, a_opB, a_vectors, a_analogs, a_r, a_m, a_stack, a_count, a_since, a_control, a_compare, a_dueEqual, a_dueOver, a_line, a_store, a_headR) (f_length, f_inputs, f_zero, f_carry, f_allowed, f_asleep, f_halted, f_sp, nI i, nI T, g_passed, f_taken, f_resets, f_edges, f_sent, f_data, f_serial, f_divider, g_converter, f_result, f_output, f_watch, f_address, f_storeControl, f_mask, g_since, f_received, f_overrun, nI l_s, f_sending, nI l_c, nI l_b, f_storing, f_storeAt, a_op, b_opA, b_opB, a_vectors, a_analogs, b_store, a_r, a_m, a_stack, a_line, b_pending, b_count, a_control, a_compare) := by
  obtain ⟨hLen, hOp, hA, hB, hAn, hM, hSt, hR, hR0, hZ, hC, hAl, hAs, hHa, hRe, hOv, hPu, hSp, hT, hSe, hIn, hDa, hDi, hRs, hOu, hWa, hMa, hSg, hSo, hAd, hSA, hSr, hSC, hCv, hCw, hPe, hT0, hT1, hUs, hUc, hUb, hW, hD⟩ := F
  have hp := tc_opA hA i
  refine ⟨(f_length, f_inputs, f_sp, nI i + 1, f_zero, f_carry, 1, f_asleep, f_halted, f_pending, f_resets, f_taken, nI T, f_data, f_serial, f_divider, f_sending, f_dueSent, f_received, f_overrun, f_sent, f_converter, f_result, f_dueResult, f_output, f_watch, f_dueWatch, f_address, f_storing, f_storeAt, f_storeControl, f_dueStore, f_mask, f_edges, f_due, f_head, f_headAt, f_headFlags, f_stop, 0, a_op, a_opA, a_opB, a_vectors, a_analogs, a_r, a_m, a_stack, a_count, a_since, a_control, a_compare, a_dueEqual, a_dueOver, a_line, a_store, a_headR), (f_length, f_inputs, f_zero, f_carry, 1, f_asleep, f_halted, f_sp, nI i + 1, nI T, g_passed, f_taken, f_resets, f_edges, f_sent, f_data, f_serial, f_divider, g_converter, f_result, f_output, f_watch, f_address, f_storeControl, f_mask, g_since, f_received, f_overrun, nI l_s, f_sending, nI l_c, nI l_b, f_storing, f_storeAt, a_op, b_opA, b_opB, a_vectors, a_analogs, b_store, a_r, a_m, a_stack, a_line, b_pending, b_count, a_control, a_compare), 1, by omega, by omega, ⟨nI i, nI 22, fun post h => ?_⟩, fun post h => tc_yexI (by omega) hA ?_, ?_, rfl, rfl, rfl⟩
  · refine tc_X117 hl hil l48 ho (by omega) ?_
    refine br_t (by decide) (br_t (by decide) (br_f (by decide) (br_f (by decide) ?_)))
    refine br_t rfl (br_f (by decide) (br_f (by decide) (br_f (by decide) (?_))))
    exact tc_X192n (o := 22) (by omega) h
  · have e7 : b_opB i &&& 7 = a_opB i &&& 7 := by rw [hB i, tc_b7]
    rw [ho]
    refine tc_Y80 hp e7 (by omega) (by omega) ?_
    refine br_t (by decide) (br_t (by decide) (br_f (by decide) (br_t (by decide) (br_f (by decide) ?_))))
    exact br_f (by decide) (br_f (by decide) (br_f (by decide) (br_f (by decide) (br_f (by decide) (br_t rfl (br_f (by decide) (br_f (by decide) (br_f (by decide) (br_f (by decide) (br_f (by decide) (br_f (by decide) (br_f (by decide) (br_f (by decide) (h))))))))))))))
  · exact tc_RRi hLen hOp hA hB hAn hM hSt hR hR0 hZ hC tc_bo1 hAs hHa hRe hOv tc_bo0 hSp hT hSe hIn hDa hDi hRs hOu hWa hMa hSg hSo hAd hSA hSr hSC hCv hCw hPe hT0 hT1 hUs hUc hUb hW hD
theorem tc_ex23 (F : tc_FF T f_length f_inputs f_sp f_pc f_zero f_carry f_allowed f_asleep f_halted f_pending f_resets f_taken f_data f_serial f_divider f_sending f_dueSent f_received f_overrun f_sent f_converter f_result f_dueResult f_output f_watch f_dueWatch f_address f_storing f_storeAt f_storeControl f_dueStore f_mask f_edges f_due f_head f_headAt f_headFlags f_stop f_pure a_op a_opA a_opB a_vectors a_analogs a_r a_m a_stack a_count a_since a_control a_compare a_dueEqual a_dueOver a_line a_store a_headR g_passed g_converter g_since l_s l_c l_b b_opA b_opB b_store b_pending b_count) (hl : f_length = nI l) (hil : i < l) (l48 : l ≤ 48) (ho : a_op i = nI 23) : tc_E2 T (f_length, f_inputs, f_sp, nI i, f_zero, f_carry, f_allowed, f_asleep, f_halted, f_pending, f_resets, f_taken, nI T, f_data, f_serial, f_divider, f_sending, f_dueSent, f_received, f_overrun, f_sent, f_converter, f_result, f_dueResult, f_output, f_watch, f_dueWatch, f_address, f_storing, f_storeAt, f_storeControl, f_dueStore, f_mask, f_edges, f_due, f_head, f_headAt, f_headFlags, f_stop, f_pure, a_op, a_opA, a_opB, a_vectors, a_analogs, a_r, a_m, a_stack, a_count, a_since, a_control, a_compare, a_dueEqual, a_dueOver, a_line, a_store, a_headR) (f_length, f_inputs, f_zero, f_carry, f_allowed, f_asleep, f_halted, f_sp, nI i, nI T, g_passed, f_taken, f_resets, f_edges, f_sent, f_data, f_serial, f_divider, g_converter, f_result, f_output, f_watch, f_address, f_storeControl, f_mask, g_since, f_received, f_overrun, nI l_s, f_sending, nI l_c, nI l_b, f_storing, f_storeAt, a_op, b_opA, b_opB, a_vectors, a_analogs, b_store, a_r, a_m, a_stack, a_line, b_pending, b_count, a_control, a_compare) := by
  obtain ⟨hLen, hOp, hA, hB, hAn, hM, hSt, hR, hR0, hZ, hC, hAl, hAs, hHa, hRe, hOv, hPu, hSp, hT, hSe, hIn, hDa, hDi, hRs, hOu, hWa, hMa, hSg, hSo, hAd, hSA, hSr, hSC, hCv, hCw, hPe, hT0, hT1, hUs, hUc, hUb, hW, hD⟩ := F
  have hp := tc_opA hA i
  refine ⟨(f_length, f_inputs, f_sp, nI i + 1, f_zero, f_carry, 0, f_asleep, f_halted, f_pending, f_resets, f_taken, nI T, f_data, f_serial, f_divider, f_sending, f_dueSent, f_received, f_overrun, f_sent, f_converter, f_result, f_dueResult, f_output, f_watch, f_dueWatch, f_address, f_storing, f_storeAt, f_storeControl, f_dueStore, f_mask, f_edges, f_due, f_head, f_headAt, f_headFlags, f_stop, 0, a_op, a_opA, a_opB, a_vectors, a_analogs, a_r, a_m, a_stack, a_count, a_since, a_control, a_compare, a_dueEqual, a_dueOver, a_line, a_store, a_headR), (f_length, f_inputs, f_zero, f_carry, 0, f_asleep, f_halted, f_sp, nI i + 1, nI T, g_passed, f_taken, f_resets, f_edges, f_sent, f_data, f_serial, f_divider, g_converter, f_result, f_output, f_watch, f_address, f_storeControl, f_mask, g_since, f_received, f_overrun, nI l_s, f_sending, nI l_c, nI l_b, f_storing, f_storeAt, a_op, b_opA, b_opB, a_vectors, a_analogs, b_store, a_r, a_m, a_stack, a_line, b_pending, b_count, a_control, a_compare), 1, by omega, by omega, ⟨nI i, nI 23, fun post h => ?_⟩, fun post h => tc_yexI (by omega) hA ?_, ?_, rfl, rfl, rfl⟩
  · refine tc_X117 hl hil l48 ho (by omega) ?_
    refine br_t (by decide) (br_t (by decide) (br_f (by decide) (br_f (by decide) ?_)))
    refine br_f (by decide) (br_t rfl (br_f (by decide) (br_f (by decide) (?_))))
    exact tc_X192n (o := 23) (by omega) h
  · have e7 : b_opB i &&& 7 = a_opB i &&& 7 := by rw [hB i, tc_b7]
    rw [ho]
    refine tc_Y80 hp e7 (by omega) (by omega) ?_
    refine br_t (by decide) (br_t (by decide) (br_f (by decide) (br_t (by decide) (br_f (by decide) ?_))))
    exact br_f (by decide) (br_f (by decide) (br_f (by decide) (br_f (by decide) (br_f (by decide) (br_f (by decide) (br_t rfl (br_f (by decide) (br_f (by decide) (br_f (by decide) (br_f (by decide) (br_f (by decide) (br_f (by decide) (br_f (by decide) (h))))))))))))))
  · exact tc_RRi hLen hOp hA hB hAn hM hSt hR hR0 hZ hC tc_bo0 hAs hHa hRe hOv tc_bo0 hSp hT hSe hIn hDa hDi hRs hOu hWa hMa hSg hSo hAd hSA hSr hSC hCv hCw hPe hT0 hT1 hUs hUc hUb hW hD
theorem tc_ex24 (F : tc_FF T f_length f_inputs f_sp f_pc f_zero f_carry f_allowed f_asleep f_halted f_pending f_resets f_taken f_data f_serial f_divider f_sending f_dueSent f_received f_overrun f_sent f_converter f_result f_dueResult f_output f_watch f_dueWatch f_address f_storing f_storeAt f_storeControl f_dueStore f_mask f_edges f_due f_head f_headAt f_headFlags f_stop f_pure a_op a_opA a_opB a_vectors a_analogs a_r a_m a_stack a_count a_since a_control a_compare a_dueEqual a_dueOver a_line a_store a_headR g_passed g_converter g_since l_s l_c l_b b_opA b_opB b_store b_pending b_count) (hl : f_length = nI l) (hil : i < l) (l48 : l ≤ 48) (ho : a_op i = nI 24) : tc_E2 T (f_length, f_inputs, f_sp, nI i, f_zero, f_carry, f_allowed, f_asleep, f_halted, f_pending, f_resets, f_taken, nI T, f_data, f_serial, f_divider, f_sending, f_dueSent, f_received, f_overrun, f_sent, f_converter, f_result, f_dueResult, f_output, f_watch, f_dueWatch, f_address, f_storing, f_storeAt, f_storeControl, f_dueStore, f_mask, f_edges, f_due, f_head, f_headAt, f_headFlags, f_stop, f_pure, a_op, a_opA, a_opB, a_vectors, a_analogs, a_r, a_m, a_stack, a_count, a_since, a_control, a_compare, a_dueEqual, a_dueOver, a_line, a_store, a_headR) (f_length, f_inputs, f_zero, f_carry, f_allowed, f_asleep, f_halted, f_sp, nI i, nI T, g_passed, f_taken, f_resets, f_edges, f_sent, f_data, f_serial, f_divider, g_converter, f_result, f_output, f_watch, f_address, f_storeControl, f_mask, g_since, f_received, f_overrun, nI l_s, f_sending, nI l_c, nI l_b, f_storing, f_storeAt, a_op, b_opA, b_opB, a_vectors, a_analogs, b_store, a_r, a_m, a_stack, a_line, b_pending, b_count, a_control, a_compare) := by
  obtain ⟨hLen, hOp, hA, hB, hAn, hM, hSt, hR, hR0, hZ, hC, hAl, hAs, hHa, hRe, hOv, hPu, hSp, hT, hSe, hIn, hDa, hDi, hRs, hOu, hWa, hMa, hSg, hSo, hAd, hSA, hSr, hSC, hCv, hCw, hPe, hT0, hT1, hUs, hUc, hUb, hW, hD⟩ := F
  have hp := tc_opA hA i
  refine ⟨(f_length, f_inputs, f_sp, nI i + 1, f_zero, f_carry, f_allowed, 1, f_halted, f_pending, f_resets, f_taken, nI T, f_data, f_serial, f_divider, f_sending, f_dueSent, f_received, f_overrun, f_sent, f_converter, f_result, f_dueResult, f_output, f_watch, f_dueWatch, f_address, f_storing, f_storeAt, f_storeControl, f_dueStore, f_mask, f_edges, f_due, f_head, f_headAt, f_headFlags, f_stop, 0, a_op, a_opA, a_opB, a_vectors, a_analogs, a_r, a_m, a_stack, a_count, a_since, a_control, a_compare, a_dueEqual, a_dueOver, a_line, a_store, a_headR), (f_length, f_inputs, f_zero, f_carry, f_allowed, 1, f_halted, f_sp, nI i + 1, nI T, g_passed, f_taken, f_resets, f_edges, f_sent, f_data, f_serial, f_divider, g_converter, f_result, f_output, f_watch, f_address, f_storeControl, f_mask, g_since, f_received, f_overrun, nI l_s, f_sending, nI l_c, nI l_b, f_storing, f_storeAt, a_op, b_opA, b_opB, a_vectors, a_analogs, b_store, a_r, a_m, a_stack, a_line, b_pending, b_count, a_control, a_compare), 1, by omega, by omega, ⟨nI i, nI 24, fun post h => ?_⟩, fun post h => tc_yexI (by omega) hA ?_, ?_, rfl, rfl, rfl⟩
  · refine tc_X117 hl hil l48 ho (by omega) ?_
    refine br_t (by decide) (br_t (by decide) (br_f (by decide) (br_f (by decide) ?_)))
    refine br_f (by decide) (br_f (by decide) (br_t rfl (br_f (by decide) (?_))))
    exact tc_X192n (o := 24) (by omega) h
  · have e7 : b_opB i &&& 7 = a_opB i &&& 7 := by rw [hB i, tc_b7]
    rw [ho]
    refine tc_Y80 hp e7 (by omega) (by omega) ?_
    refine br_t (by decide) (br_t (by decide) (br_f (by decide) (br_t (by decide) (br_f (by decide) ?_))))
    exact br_f (by decide) (br_f (by decide) (br_f (by decide) (br_f (by decide) (br_f (by decide) (br_f (by decide) (br_f (by decide) (br_t rfl (br_f (by decide) (br_f (by decide) (br_f (by decide) (br_f (by decide) (br_f (by decide) (br_f (by decide) (h))))))))))))))
  · exact tc_RRi hLen hOp hA hB hAn hM hSt hR hR0 hZ hC hAl tc_bo1 hHa hRe hOv tc_bo0 hSp hT hSe hIn hDa hDi hRs hOu hWa hMa hSg hSo hAd hSA hSr hSC hCv hCw hPe hT0 hT1 hUs hUc hUb hW hD
theorem tc_ex25 (F : tc_FF T f_length f_inputs f_sp f_pc f_zero f_carry f_allowed f_asleep f_halted f_pending f_resets f_taken f_data f_serial f_divider f_sending f_dueSent f_received f_overrun f_sent f_converter f_result f_dueResult f_output f_watch f_dueWatch f_address f_storing f_storeAt f_storeControl f_dueStore f_mask f_edges f_due f_head f_headAt f_headFlags f_stop f_pure a_op a_opA a_opB a_vectors a_analogs a_r a_m a_stack a_count a_since a_control a_compare a_dueEqual a_dueOver a_line a_store a_headR g_passed g_converter g_since l_s l_c l_b b_opA b_opB b_store b_pending b_count) (hl : f_length = nI l) (hil : i < l) (l48 : l ≤ 48) (ho : a_op i = nI 25) : tc_E2 T (f_length, f_inputs, f_sp, nI i, f_zero, f_carry, f_allowed, f_asleep, f_halted, f_pending, f_resets, f_taken, nI T, f_data, f_serial, f_divider, f_sending, f_dueSent, f_received, f_overrun, f_sent, f_converter, f_result, f_dueResult, f_output, f_watch, f_dueWatch, f_address, f_storing, f_storeAt, f_storeControl, f_dueStore, f_mask, f_edges, f_due, f_head, f_headAt, f_headFlags, f_stop, f_pure, a_op, a_opA, a_opB, a_vectors, a_analogs, a_r, a_m, a_stack, a_count, a_since, a_control, a_compare, a_dueEqual, a_dueOver, a_line, a_store, a_headR) (f_length, f_inputs, f_zero, f_carry, f_allowed, f_asleep, f_halted, f_sp, nI i, nI T, g_passed, f_taken, f_resets, f_edges, f_sent, f_data, f_serial, f_divider, g_converter, f_result, f_output, f_watch, f_address, f_storeControl, f_mask, g_since, f_received, f_overrun, nI l_s, f_sending, nI l_c, nI l_b, f_storing, f_storeAt, a_op, b_opA, b_opB, a_vectors, a_analogs, b_store, a_r, a_m, a_stack, a_line, b_pending, b_count, a_control, a_compare) := by
  obtain ⟨hLen, hOp, hA, hB, hAn, hM, hSt, hR, hR0, hZ, hC, hAl, hAs, hHa, hRe, hOv, hPu, hSp, hT, hSe, hIn, hDa, hDi, hRs, hOu, hWa, hMa, hSg, hSo, hAd, hSA, hSr, hSC, hCv, hCw, hPe, hT0, hT1, hUs, hUc, hUb, hW, hD⟩ := F
  have hp := tc_opA hA i
  obtain ⟨d, d1, d2⟩ := tc_feed (post := fun _ => True) (T := T) (f_length := f_length) (f_inputs := f_inputs) (f_sp := f_sp) (f_pc := nI i) (f_zero := f_zero) (f_carry := f_carry) (f_allowed := f_allowed) (f_asleep := f_asleep) (f_halted := f_halted) (f_pending := f_pending) (f_resets := f_resets) (f_taken := f_taken) (f_data := f_data) (f_serial := f_serial) (f_divider := f_divider) (f_sending := f_sending) (f_dueSent := f_dueSent) (f_received := f_received) (f_overrun := f_overrun) (f_sent := f_sent) (f_converter := f_converter) (f_result := f_result) (f_dueResult := f_dueResult) (f_output := f_output) (f_watch := f_watch) (f_dueWatch := f_dueWatch) (f_address := f_address) (f_storing := f_storing) (f_storeAt := f_storeAt) (f_storeControl := f_storeControl) (f_dueStore := f_dueStore) (f_mask := f_mask) (f_edges := f_edges) (f_due := f_due) (f_head := f_head) (f_headAt := f_headAt) (f_headFlags := f_headFlags) (f_stop := f_stop) (f_pure := 0) (a_op := a_op) (a_opA := a_opA) (a_opB := a_opB) (a_vectors := a_vectors) (a_analogs := a_analogs) (a_r := a_r) (a_m := a_m) (a_stack := a_stack) (a_count := a_count) (a_since := a_since) (a_control := a_control) (a_compare := a_compare) (a_dueEqual := a_dueEqual) (a_dueOver := a_dueOver) (a_line := a_line) (a_store := a_store) (a_headR := a_headR) hT
  refine ⟨(f_length, f_inputs, f_sp, nI i + 1, f_zero, f_carry, f_allowed, f_asleep, f_halted, f_pending, f_resets, f_taken, nI T, f_data, f_serial, f_divider, f_sending, f_dueSent, f_received, f_overrun, f_sent, f_converter, f_result, f_dueResult, f_output, f_watch, d, f_address, f_storing, f_storeAt, f_storeControl, f_dueStore, f_mask, f_edges, tc_du f_dueSent f_dueResult d f_dueStore a_dueEqual a_dueOver, f_head, f_headAt, f_headFlags, f_stop, 0, a_op, a_opA, a_opB, a_vectors, a_analogs, a_r, a_m, a_stack, a_count, a_since, a_control, a_compare, a_dueEqual, a_dueOver, a_line, a_store, a_headR), (f_length, f_inputs, f_zero, f_carry, f_allowed, f_asleep, f_halted, f_sp, nI i + 1, nI T, g_passed, f_taken, f_resets, f_edges, f_sent, f_data, f_serial, f_divider, g_converter, f_result, f_output, f_watch, f_address, f_storeControl, f_mask, 0, f_received, f_overrun, nI l_s, f_sending, nI l_c, nI l_b, f_storing, f_storeAt, a_op, b_opA, b_opB, a_vectors, a_analogs, b_store, a_r, a_m, a_stack, a_line, b_pending, b_count, a_control, a_compare), 1, by omega, by omega, ⟨nI i, nI 25, fun post h => ?_⟩, fun post h => tc_yexI (by omega) hA ?_, ?_, rfl, rfl, rfl⟩
  · refine tc_X117 hl hil l48 ho (by omega) ?_
    refine br_t (by decide) (br_t (by decide) (br_f (by decide) (br_f (by decide) ?_)))
    refine br_f (by decide) (br_f (by decide) (br_f (by decide) (br_t rfl ?_)))
    refine d2 _ ?_
    exact tc_X192n (o := 25) (by omega) h
  · have e7 : b_opB i &&& 7 = a_opB i &&& 7 := by rw [hB i, tc_b7]
    rw [ho]
    refine tc_Y80 hp e7 (by omega) (by omega) ?_
    refine br_t (by decide) (br_t (by decide) (br_f (by decide) (br_t (by decide) (br_f (by decide) ?_))))
    exact br_f (by decide) (br_f (by decide) (br_f (by decide) (br_f (by decide) (br_f (by decide) (br_f (by decide) (br_f (by decide) (br_f (by decide) (br_t rfl (br_f (by decide) (br_f (by decide) (br_f (by decide) (br_f (by decide) (br_f (by decide) (h))))))))))))))
  · exact tc_RRi hLen hOp hA hB hAn hM hSt hR hR0 hZ hC hAl hAs hHa hRe hOv tc_bo0 hSp hT hSe hIn hDa hDi hRs hOu hWa hMa hSg hSo hAd hSA hSr hSC hCv hCw hPe hT0 hT1 hUs hUc hUb d1 rfl
end
end
section
/-! small rows for the ports -/
theorem tc_aa {a b : Int32} (h : ∀ i, i < 32 → (bt a i && bt b i) = bt b i) (w : Int32) : (w &&& b) &&& b = w &&& b := by
  apply b_ext
  intro i hi
  rw [b_and, b_and, Bool.and_assoc, Bool.and_self]
theorem tc_a24 (w : Int32) : (w &&& 24) &&& 24 = w &&& 24 := tc_aa (a := 24) (by decide +kernel) w
theorem tc_a8 (w : Int32) : (w &&& 8) &&& 8 = w &&& 8 := tc_aa (a := 8) (by decide +kernel) w
theorem tc_a15 (w : Int32) : tc_rg (w &&& 15) 15 := by
  obtain ⟨j, hj, e⟩ := pk_andE w (m := 15) 4 (by decide)
  exact ⟨j, by have : j < 16 := hj; omega, e⟩
def tc_cb (w : Int32) (n : Nat) (b : Nat → Int32) : Nat → Int32 := fun k => if k < n ∧ bt w k = true then 0 else b k
theorem tc_cbS {w : Int32} {n : Nat} {b : Nat → Int32} : tc_cb w (n + 1) b = if bt w n = true then upd (tc_cb w n b) n 0 else tc_cb w n b := by
  funext k
  by_cases c : bt w n = true
  · rw [if_pos c]
    by_cases e : k = n
    · rw [e, pk_us]
      exact if_pos ⟨by omega, c⟩
    · rw [pk_un e]
      unfold tc_cb
      by_cases d : k < n ∧ bt w k = true
      · rw [if_pos d, if_pos ⟨by omega, d.2⟩]
      · rw [if_neg d, if_neg (fun z => d ⟨by omega, z.2⟩)]
  · rw [if_neg c]
    unfold tc_cb
    by_cases d : k < n ∧ bt w k = true
    · rw [if_pos d, if_pos ⟨by omega, d.2⟩]
    · rw [if_neg d, if_neg]
      intro z
      by_cases e : k = n
      · rw [e] at z; exact c z.2
      · exact d ⟨by omega, z.2⟩
theorem tc_cbF {p w : Int32} {b : Nat → Int32} (h : tc_pF p b) (hw : tc_y8 w) : tc_pF (p &&& (w ^^^ (-1))) (tc_cb w 8 b) := by
  intro k hk
  rw [b_and, b_xor, b_m1 k (by omega)]
  unfold tc_cb
  by_cases c : k < 8 ∧ bt w k = true
  · rw [if_pos c, c.2, show (true ^^ true) = false from rfl, Bool.and_false]; rfl
  · rw [if_neg c, h k hk]
    have : bt w k = false := by
      by_cases k8 : k < 8
      · cases q : bt w k
        · rfl
        · exact absurd ⟨k8, q⟩ c
      · exact tc_y8_bt hw (by omega)
    rw [this, show (false ^^ true) = true from rfl, Bool.and_true]
section
variable {post : SY → Prop} {T : Nat} {f_length f_inputs f_sp f_pc f_zero f_carry f_allowed f_asleep f_halted f_pending f_resets f_taken f_data f_serial f_divider f_sending f_dueSent f_received f_overrun f_sent f_converter f_result f_dueResult f_output f_watch f_dueWatch f_address f_storing f_storeAt f_storeControl f_dueStore f_mask f_edges f_due f_head f_headAt f_headFlags f_stop f_pure : Int32} {a_op a_opA a_opB a_vectors a_analogs a_r a_m a_stack a_count a_since a_control a_compare a_dueEqual a_dueOver a_line a_store a_headR : Nat → Int32} {g_passed g_converter g_since : Int32} {l_s l_c l_b : Nat} {b_opA b_opB b_store b_pending b_count : Nat → Int32}
theorem tc_cbL {x1 w : Int32} : ∀ (d i : Nat), i + d = 8 → wY_out_178 post x1 w f_length f_inputs f_zero f_carry f_allowed f_asleep f_halted f_sp f_pc (nI T) g_passed f_taken f_resets f_edges f_sent f_data f_serial f_divider g_converter f_result f_output f_watch f_address f_storeControl f_mask g_since f_received f_overrun (nI l_s) f_sending (nI l_c) (nI l_b) f_storing f_storeAt a_op b_opA b_opB a_vectors a_analogs b_store a_r a_m a_stack a_line (tc_cb w 8 b_pending) b_count a_control a_compare →
    wY_out_150 post x1 w f_length f_inputs f_zero f_carry f_allowed f_asleep f_halted f_sp f_pc (nI T) g_passed f_taken f_resets f_edges f_sent f_data f_serial f_divider g_converter f_result f_output f_watch f_address f_storeControl f_mask g_since f_received f_overrun (nI l_s) f_sending (nI l_c) (nI l_b) f_storing f_storeAt (d + 1) (nI i) a_op b_opA b_opB a_vectors a_analogs b_store a_r a_m a_stack a_line (tc_cb w i b_pending) b_count a_control a_compare := by
  intro d
  induction d with
  | zero =>
    intro i hi h
    have h8 : i = 8 := by omega
    subst h8
    exact br_t (by decide) h
  | succ d ih =>
    intro i hi h
    have e := nI_clamp (n := i) (by omega)
    have i1 := ih (i + 1) (by omega) h
    rw [tc_cbS] at i1
    refine br_f (nI_ge (b := 8) (by omega) (by decide)) ?_
    rw [tc_bit w (by omega), e, nI_1, tc_bI1]
    by_cases c : bt w i = true
    · rw [if_pos c] at i1
      exact br_t c ⟨vp_in_nI (by omega) (by decide), nm_e (nm_e i1)⟩
    · rw [if_neg c] at i1
      exact br_f c (nm_e i1)
end
end
section
/-! the ports that are written -/
def tc_spc (pc : Int32) (u : SX) : SX := match u with
  | (f_length, f_inputs, f_sp, f_pc, f_zero, f_carry, f_allowed, f_asleep, f_halted, f_pending, f_resets, f_taken, f_now, f_data, f_serial, f_divider, f_sending, f_dueSent, f_received, f_overrun, f_sent, f_converter, f_result, f_dueResult, f_output, f_watch, f_dueWatch, f_address, f_storing, f_storeAt, f_storeControl, f_dueStore, f_mask, f_edges, f_due, f_head, f_headAt, f_headFlags, f_stop, f_pure, a_op, a_opA, a_opB, a_vectors, a_analogs, a_r, a_m, a_stack, a_count, a_since, a_control, a_compare, a_dueEqual, a_dueOver, a_line, a_store, a_headR) => (f_length, f_inputs, f_sp, pc, f_zero, f_carry, f_allowed, f_asleep, f_halted, f_pending, f_resets, f_taken, f_now, f_data, f_serial, f_divider, f_sending, f_dueSent, f_received, f_overrun, f_sent, f_converter, f_result, f_dueResult, f_output, f_watch, f_dueWatch, f_address, f_storing, f_storeAt, f_storeControl, f_dueStore, f_mask, f_edges, f_due, f_head, f_headAt, f_headFlags, f_stop, f_pure, a_op, a_opA, a_opB, a_vectors, a_analogs, a_r, a_m, a_stack, a_count, a_since, a_control, a_compare, a_dueEqual, a_dueOver, a_line, a_store, a_headR)
def tc_xpc (u : SX) : Int32 := match u with
  | (f_length, f_inputs, f_sp, f_pc, f_zero, f_carry, f_allowed, f_asleep, f_halted, f_pending, f_resets, f_taken, f_now, f_data, f_serial, f_divider, f_sending, f_dueSent, f_received, f_overrun, f_sent, f_converter, f_result, f_dueResult, f_output, f_watch, f_dueWatch, f_address, f_storing, f_storeAt, f_storeControl, f_dueStore, f_mask, f_edges, f_due, f_head, f_headAt, f_headFlags, f_stop, f_pure, a_op, a_opA, a_opB, a_vectors, a_analogs, a_r, a_m, a_stack, a_count, a_since, a_control, a_compare, a_dueEqual, a_dueOver, a_line, a_store, a_headR) => f_pc
def tc_OU (q : Nat) (w : Int32) (T : Nat) (f_length f_inputs f_sp f_pc f_zero f_carry f_allowed f_asleep f_halted f_pending f_resets f_taken f_data f_serial f_divider f_sending f_dueSent f_received f_overrun f_sent f_converter f_result f_dueResult f_output f_watch f_dueWatch f_address f_storing f_storeAt f_storeControl f_dueStore f_mask f_edges f_due f_head f_headAt f_headFlags f_stop f_pure : Int32) (a_op a_opA a_opB a_vectors a_analogs a_r a_m a_stack a_count a_since a_control a_compare a_dueEqual a_dueOver a_line a_store a_headR : Nat → Int32) (g_passed g_converter g_since : Int32) (l_s l_c l_b : Nat) (b_opA b_opB b_store b_pending b_count : Nat → Int32) : Prop :=
  ∃ (u' : SX) (v' : SY), tc_RR T u' v' ∧ (∀ (pcx : Int32) (post : SX → Prop), post (tc_spc pcx u') → wpX_out post (f_length, f_inputs, f_sp, pcx, f_zero, f_carry, f_allowed, f_asleep, f_halted, f_pending, f_resets, f_taken, nI T, f_data, f_serial, f_divider, f_sending, f_dueSent, f_received, f_overrun, f_sent, f_converter, f_result, f_dueResult, f_output, f_watch, f_dueWatch, f_address, f_storing, f_storeAt, f_storeControl, f_dueStore, f_mask, f_edges, f_due, f_head, f_headAt, f_headFlags, f_stop, f_pure, a_op, a_opA, a_opB, a_vectors, a_analogs, a_r, a_m, a_stack, a_count, a_since, a_control, a_compare, a_dueEqual, a_dueOver, a_line, a_store, a_headR) (nI q) w) ∧ (∀ post : SY → Prop, post v' → wpY_out post (f_length, f_inputs, f_zero, f_carry, f_allowed, f_asleep, f_halted, f_sp, f_pc, nI T, g_passed, f_taken, f_resets, f_edges, f_sent, f_data, f_serial, f_divider, g_converter, f_result, f_output, f_watch, f_address, f_storeControl, f_mask, g_since, f_received, f_overrun, nI l_s, f_sending, nI l_c, nI l_b, f_storing, f_storeAt, a_op, b_opA, b_opB, a_vectors, a_analogs, b_store, a_r, a_m, a_stack, a_line, b_pending, b_count, a_control, a_compare) (nI q) w) ∧
    tc_xpc u' = f_pc ∧ tc_xst u' = f_stop ∧ tc_xpu u' = f_pure ∧ tc_yps v' = g_passed
theorem tc_tFn {T k m y : Nat} (hy : y < 256) (hk : k < 256) (hm : m < 256) : tc_tF T (nI y) (nI T) (nI k) (nI m) (nI (tm_e T k m y)) (nI (tm_o T k m y)) (nI y) := by
  refine ⟨y, T, k, m, y, rfl, rfl, rfl, rfl, rfl, hy, Nat.le_refl _, hk, hm, ?_, rfl, rfl⟩
  have : tm_n k T T = 0 := by unfold tm_n; split <;> omega
  rw [this, tm_af_0 hy]
section
variable {post : SX → Prop} {T q : Nat} {f_length f_inputs f_sp f_pc f_zero f_carry f_allowed f_asleep f_halted f_pending f_resets f_taken f_data f_serial f_divider f_sending f_dueSent f_received f_overrun f_sent f_converter f_result f_dueResult f_output f_watch f_dueWatch f_address f_storing f_storeAt f_storeControl f_dueStore f_mask f_edges f_due f_head f_headAt f_headFlags f_stop f_pure : Int32} {a_op a_opA a_opB a_vectors a_analogs a_r a_m a_stack a_count a_since a_control a_compare a_dueEqual a_dueOver a_line a_store a_headR : Nat → Int32}
theorem tc_o201 (h : post (f_length, f_inputs, f_sp, f_pc, f_zero, f_carry, f_allowed, f_asleep, f_halted, f_pending, f_resets, f_taken, nI T, f_data, f_serial, f_divider, f_sending, f_dueSent, f_received, f_overrun, f_sent, f_converter, f_result, f_dueResult, f_output, f_watch, f_dueWatch, f_address, f_storing, f_storeAt, f_storeControl, f_dueStore, f_mask, f_edges, tc_du f_dueSent f_dueResult f_dueWatch f_dueStore a_dueEqual a_dueOver, f_head, f_headAt, f_headFlags, f_stop, f_pure, a_op, a_opA, a_opB, a_vectors, a_analogs, a_r, a_m, a_stack, a_count, a_since, a_control, a_compare, a_dueEqual, a_dueOver, a_line, a_store, a_headR)) : wX_out_201 post f_length f_inputs f_sp f_pc f_zero f_carry f_allowed f_asleep f_halted f_pending f_resets f_taken (nI T) f_data f_serial f_divider f_sending f_dueSent f_received f_overrun f_sent f_converter f_result f_dueResult f_output f_watch f_dueWatch f_address f_storing f_storeAt f_storeControl f_dueStore f_mask f_edges f_due f_head f_headAt f_headFlags f_stop f_pure a_op a_opA a_opB a_vectors a_analogs a_r a_m a_stack a_count a_since a_control a_compare a_dueEqual a_dueOver a_line a_store a_headR := by
  unfold wX_out_201
  exact tc_soon h
theorem tc_osN {w : Int32} (hq : q < 32) (h16 : q ≠ 16) (h17 : q ≠ 17) (h18 : q ≠ 18) (h19 : q ≠ 19) (h : post (f_length, f_inputs, f_sp, f_pc, f_zero, f_carry, f_allowed, f_asleep, f_halted, f_pending, f_resets, f_taken, nI T, f_data, f_serial, f_divider, f_sending, f_dueSent, f_received, f_overrun, f_sent, f_converter, f_result, f_dueResult, f_output, f_watch, f_dueWatch, f_address, f_storing, f_storeAt, f_storeControl, f_dueStore, f_mask, f_edges, tc_du f_dueSent f_dueResult f_dueWatch f_dueStore a_dueEqual a_dueOver, f_head, f_headAt, f_headFlags, f_stop, f_pure, a_op, a_opA, a_opB, a_vectors, a_analogs, a_r, a_m, a_stack, a_count, a_since, a_control, a_compare, a_dueEqual, a_dueOver, a_line, a_store, a_headR)) : wX_out_195 post (nI q) w f_length f_inputs f_sp f_pc f_zero f_carry f_allowed f_asleep f_halted f_pending f_resets f_taken (nI T) f_data f_serial f_divider f_sending f_dueSent f_received f_overrun f_sent f_converter f_result f_dueResult f_output f_watch f_dueWatch f_address f_storing f_storeAt f_storeControl f_dueStore f_mask f_edges f_due f_head f_headAt f_headFlags f_stop f_pure a_op a_opA a_opB a_vectors a_analogs a_r a_m a_stack a_count a_since a_control a_compare a_dueEqual a_dueOver a_line a_store a_headR := by
  unfold wX_out_195
  exact pk_eq q 16 (fun z => absurd z h16) (fun _ => pk_eq q 17 (fun z => absurd z h17) (fun _ => pk_eq q 18 (fun z => absurd z h18) (fun _ => pk_eq q 19 (fun z => absurd z h19) (fun _ => tc_o201 h))))
end
section
variable {T q : Nat} {f_length f_inputs f_sp f_pc f_zero f_carry f_allowed f_asleep f_halted f_pending f_resets f_taken f_data f_serial f_divider f_sending f_dueSent f_received f_overrun f_sent f_converter f_result f_dueResult f_output f_watch f_dueWatch f_address f_storing f_storeAt f_storeControl f_dueStore f_mask f_edges f_due f_head f_headAt f_headFlags f_stop f_pure : Int32} {a_op a_opA a_opB a_vectors a_analogs a_r a_m a_stack a_count a_since a_control a_compare a_dueEqual a_dueOver a_line a_store a_headR : Nat → Int32} {g_passed g_converter g_since : Int32} {l_s l_c l_b : Nat} {b_opA b_opB b_store b_pending b_count : Nat → Int32}
theorem tc_oN {w : Int32} (F : tc_FF T f_length f_inputs f_sp f_pc f_zero f_carry f_allowed f_asleep f_halted f_pending f_resets f_taken f_data f_serial f_divider f_sending f_dueSent f_received f_overrun f_sent f_converter f_result f_dueResult f_output f_watch f_dueWatch f_address f_storing f_storeAt f_storeControl f_dueStore f_mask f_edges f_due f_head f_headAt f_headFlags f_stop f_pure a_op a_opA a_opB a_vectors a_analogs a_r a_m a_stack a_count a_since a_control a_compare a_dueEqual a_dueOver a_line a_store a_headR g_passed g_converter g_since l_s l_c l_b b_opA b_opB b_store b_pending b_count) (hq : q = 10 ∨ q = 13 ∨ q = 15 ∨ (20 ≤ q ∧ q < 32)) : tc_OU q w T f_length f_inputs f_sp f_pc f_zero f_carry f_allowed f_asleep f_halted f_pending f_resets f_taken f_data f_serial f_divider f_sending f_dueSent f_received f_overrun f_sent f_converter f_result f_dueResult f_output f_watch f_dueWatch f_address f_storing f_storeAt f_storeControl f_dueStore f_mask f_edges f_due f_head f_headAt f_headFlags f_stop f_pure a_op a_opA a_opB a_vectors a_analogs a_r a_m a_stack a_count a_since a_control a_compare a_dueEqual a_dueOver a_line a_store a_headR g_passed g_converter g_since l_s l_c l_b b_opA b_opB b_store b_pending b_count := by
  obtain ⟨hLen, hOp, hA, hB, hAn, hM, hSt, hR, hR0, hZ, hC, hAl, hAs, hHa, hRe, hOv, hPu, hSp, hT, hSe, hIn, hDa, hDi, hRs, hOu, hWa, hMa, hSg, hSo, hAd, hSA, hSr, hSC, hCv, hCw, hPe, hT0, hT1, hUs, hUc, hUb, hW, hD⟩ := F
  refine ⟨(f_length, f_inputs, f_sp, f_pc, f_zero, f_carry, f_allowed, f_asleep, f_halted, f_pending, f_resets, f_taken, nI T, f_data, f_serial, f_divider, f_sending, f_dueSent, f_received, f_overrun, f_sent, f_converter, f_result, f_dueResult, f_output, f_watch, f_dueWatch, f_address, f_storing, f_storeAt, f_storeControl, f_dueStore, f_mask, f_edges, tc_du f_dueSent f_dueResult f_dueWatch f_dueStore a_dueEqual a_dueOver, f_head, f_headAt, f_headFlags, f_stop, f_pure, a_op, a_opA, a_opB, a_vectors, a_analogs, a_r, a_m, a_stack, a_count, a_since, a_control, a_compare, a_dueEqual, a_dueOver, a_line, a_store, a_headR), (f_length, f_inputs, f_zero, f_carry, f_allowed, f_asleep, f_halted, f_sp, f_pc, nI T, g_passed, f_taken, f_resets, f_edges, f_sent, f_data, f_serial, f_divider, g_converter, f_result, f_output, f_watch, f_address, f_storeControl, f_mask, g_since, f_received, f_overrun, nI l_s, f_sending, nI l_c, nI l_b, f_storing, f_storeAt, a_op, b_opA, b_opB, a_vectors, a_analogs, b_store, a_r, a_m, a_stack, a_line, b_pending, b_count, a_control, a_compare), tc_RRi hLen hOp hA hB hAn hM hSt hR hR0 hZ hC hAl hAs hHa hRe hOv hPu hSp hT hSe hIn hDa hDi hRs hOu hWa hMa hSg hSo hAd hSA hSr hSC hCv hCw hPe hT0 hT1 hUs hUc hUb hW rfl, fun pcx post h => ?_, fun post h => ?_, rfl, rfl, rfl, rfl⟩
  · have q195 : wX_out_195 post (nI q) w f_length f_inputs f_sp pcx f_zero f_carry f_allowed f_asleep f_halted f_pending f_resets f_taken (nI T) f_data f_serial f_divider f_sending f_dueSent f_received f_overrun f_sent f_converter f_result f_dueResult f_output f_watch f_dueWatch f_address f_storing f_storeAt f_storeControl f_dueStore f_mask f_edges f_due f_head f_headAt f_headFlags f_stop f_pure a_op a_opA a_opB a_vectors a_analogs a_r a_m a_stack a_count a_since a_control a_compare a_dueEqual a_dueOver a_line a_store a_headR := tc_osN (by omega) (by omega) (by omega) (by omega) (by omega) h
    refine br_t (nI_le (a := 6) (by omega) (by omega)) (br_f (nI_nlt (b := 6) (by omega) (by omega)) ?_)
    rcases hq with e | e | e
    · subst e
      exact br_f (by decide) (br_f (by decide) (br_f (by decide) (br_f (by decide) (br_f (by decide) (br_t rfl q195)))))
    · subst e
      exact br_f (by decide) (br_f (by decide) (br_f (by decide) (br_f (by decide) (br_f (by decide) (br_f (by decide) (br_f (by decide) (br_f (by decide) (br_t rfl q195))))))))
    · exact br_t (nI_lt (a := 14) (by omega) (by omega)) q195
  · have n : ∀ m, m < 32 → q ≠ m → ¬ nI q = nI m := fun m hm hn z => hn ((nI_eq (by omega) (by omega)).mp z)
    exact br_f (n 0 (by omega) (by omega)) (br_f (n 3 (by omega) (by omega)) (br_f (n 1 (by omega) (by omega)) (br_f (n 4 (by omega) (by omega)) (br_f (n 2 (by omega) (by omega)) (br_f (n 5 (by omega) (by omega)) (br_f (n 6 (by omega) (by omega)) (br_f (n 7 (by omega) (by omega)) (br_f (n 8 (by omega) (by omega)) (br_f (n 9 (by omega) (by omega)) (br_f (n 11 (by omega) (by omega)) (br_f (n 12 (by omega) (by omega)) (br_f (n 14 (by omega) (by omega)) (br_f (n 16 (by omega) (by omega)) (br_f (n 17 (by omega) (by omega)) (br_f (n 18 (by omega) (by omega)) (br_f (n 19 (by omega) (by omega)) (h)))))))))))))))))
theorem tc_o6a {w : Int32} (F : tc_FF T f_length f_inputs f_sp f_pc f_zero f_carry f_allowed f_asleep f_halted f_pending f_resets f_taken f_data f_serial f_divider f_sending f_dueSent f_received f_overrun f_sent f_converter f_result f_dueResult f_output f_watch f_dueWatch f_address f_storing f_storeAt f_storeControl f_dueStore f_mask f_edges f_due f_head f_headAt f_headFlags f_stop f_pure a_op a_opA a_opB a_vectors a_analogs a_r a_m a_stack a_count a_since a_control a_compare a_dueEqual a_dueOver a_line a_store a_headR g_passed g_converter g_since l_s l_c l_b b_opA b_opB b_store b_pending b_count) (hw : tc_y8 w) (c : f_dueSent = 2147483647) : tc_OU 6 w T f_length f_inputs f_sp f_pc f_zero f_carry f_allowed f_asleep f_halted f_pending f_resets f_taken f_data f_serial f_divider f_sending f_dueSent f_received f_overrun f_sent f_converter f_result f_dueResult f_output f_watch f_dueWatch f_address f_storing f_storeAt f_storeControl f_dueStore f_mask f_edges f_due f_head f_headAt f_headFlags f_stop f_pure a_op a_opA a_opB a_vectors a_analogs a_r a_m a_stack a_count a_since a_control a_compare a_dueEqual a_dueOver a_line a_store a_headR g_passed g_converter g_since l_s l_c l_b b_opA b_opB b_store b_pending b_count := by
  obtain ⟨hLen, hOp, hA, hB, hAn, hM, hSt, hR, hR0, hZ, hC, hAl, hAs, hHa, hRe, hOv, hPu, hSp, hT, hSe, hIn, hDa, hDi, hRs, hOu, hWa, hMa, hSg, hSo, hAd, hSA, hSr, hSC, hCv, hCw, hPe, hT0, hT1, hUs, hUc, hUb, hW, hD⟩ := F
  have l0 := (tc_uF7 hT hUs).1 c
  obtain ⟨d, hd, ed⟩ := tc_y8_ex hDi
  have e8 : 8 * (f_divider + 1) = nI (8 * (d + 1)) := by rw [ed, nI_1]; exact pk_mul 8 (d + 1)
  refine ⟨(f_length, f_inputs, f_sp, f_pc, f_zero, f_carry, f_allowed, f_asleep, f_halted, f_pending, f_resets, f_taken, nI T, f_data, f_serial, f_divider, w, nI (T + 8 * (d + 1)), f_received, f_overrun, f_sent, f_converter, f_result, f_dueResult, f_output, f_watch, f_dueWatch, f_address, f_storing, f_storeAt, f_storeControl, f_dueStore, f_mask, f_edges, tc_du (nI (T + 8 * (d + 1))) f_dueResult f_dueWatch f_dueStore a_dueEqual a_dueOver, f_head, f_headAt, f_headFlags, f_stop, f_pure, a_op, a_opA, a_opB, a_vectors, a_analogs, a_r, a_m, a_stack, a_count, a_since, a_control, a_compare, a_dueEqual, a_dueOver, a_line, a_store, a_headR), (f_length, f_inputs, f_zero, f_carry, f_allowed, f_asleep, f_halted, f_sp, f_pc, nI T, g_passed, f_taken, f_resets, f_edges, f_sent, f_data, f_serial, f_divider, g_converter, f_result, f_output, f_watch, f_address, f_storeControl, f_mask, g_since, f_received, f_overrun, nI (8 * (d + 1)), w, nI l_c, nI l_b, f_storing, f_storeAt, a_op, b_opA, b_opB, a_vectors, a_analogs, b_store, a_r, a_m, a_stack, a_line, b_pending, b_count, a_control, a_compare), tc_RRi hLen hOp hA hB hAn hM hSt hR hR0 hZ hC hAl hAs hHa hRe hOv hPu hSp hT hSe hIn hDa hDi hRs hOu hWa hMa hw hSo hAd hSA hSr hSC hCv hCw hPe hT0 hT1 (Or.inr ⟨by omega, by omega, rfl⟩) hUc hUb hW rfl, fun pcx post h => ?_, fun post h => ?_, rfl, rfl, rfl, rfl⟩
  · refine br_t (by decide) (br_f (by decide) (br_f (by decide) (br_t rfl ?_)))
    refine br_t c (nm_r (e' := nI (T + 8 * (d + 1))) (by rw [e8, nI_add]) ?_)
    exact tc_o201 h
  · refine br_f (by decide) (br_f (by decide) (br_f (by decide) (br_f (by decide) (br_f (by decide) (br_f (by decide) (br_t rfl ?_))))))
    refine br_t (by rw [l0]; rfl) (nm_r (e' := nI (8 * (d + 1))) e8 ?_)
    exact br_f (by decide) (br_f (by decide) (br_f (by decide) (br_f (by decide) (br_f (by decide) (br_f (by decide) (br_f (by decide) (br_f (by decide) (br_f (by decide) (br_f (by decide) (h))))))))))
theorem tc_o6b {w : Int32} (F : tc_FF T f_length f_inputs f_sp f_pc f_zero f_carry f_allowed f_asleep f_halted f_pending f_resets f_taken f_data f_serial f_divider f_sending f_dueSent f_received f_overrun f_sent f_converter f_result f_dueResult f_output f_watch f_dueWatch f_address f_storing f_storeAt f_storeControl f_dueStore f_mask f_edges f_due f_head f_headAt f_headFlags f_stop f_pure a_op a_opA a_opB a_vectors a_analogs a_r a_m a_stack a_count a_since a_control a_compare a_dueEqual a_dueOver a_line a_store a_headR g_passed g_converter g_since l_s l_c l_b b_opA b_opB b_store b_pending b_count) (hw : tc_y8 w) (c : ¬ f_dueSent = 2147483647) : tc_OU 6 w T f_length f_inputs f_sp f_pc f_zero f_carry f_allowed f_asleep f_halted f_pending f_resets f_taken f_data f_serial f_divider f_sending f_dueSent f_received f_overrun f_sent f_converter f_result f_dueResult f_output f_watch f_dueWatch f_address f_storing f_storeAt f_storeControl f_dueStore f_mask f_edges f_due f_head f_headAt f_headFlags f_stop f_pure a_op a_opA a_opB a_vectors a_analogs a_r a_m a_stack a_count a_since a_control a_compare a_dueEqual a_dueOver a_line a_store a_headR g_passed g_converter g_since l_s l_c l_b b_opA b_opB b_store b_pending b_count := by
  obtain ⟨hLen, hOp, hA, hB, hAn, hM, hSt, hR, hR0, hZ, hC, hAl, hAs, hHa, hRe, hOv, hPu, hSp, hT, hSe, hIn, hDa, hDi, hRs, hOu, hWa, hMa, hSg, hSo, hAd, hSA, hSr, hSC, hCv, hCw, hPe, hT0, hT1, hUs, hUc, hUb, hW, hD⟩ := F
  have l0 := (tc_uF7 hT hUs).2 c
  refine ⟨(f_length, f_inputs, f_sp, f_pc, f_zero, f_carry, f_allowed, f_asleep, f_halted, f_pending, f_resets, f_taken, nI T, f_data, f_serial, f_divider, f_sending, f_dueSent, f_received, f_overrun, f_sent, f_converter, f_result, f_dueResult, f_output, f_watch, f_dueWatch, f_address, f_storing, f_storeAt, f_storeControl, f_dueStore, f_mask, f_edges, tc_du f_dueSent f_dueResult f_dueWatch f_dueStore a_dueEqual a_dueOver, f_head, f_headAt, f_headFlags, f_stop, f_pure, a_op, a_opA, a_opB, a_vectors, a_analogs, a_r, a_m, a_stack, a_count, a_since, a_control, a_compare, a_dueEqual, a_dueOver, a_line, a_store, a_headR), (f_length, f_inputs, f_zero, f_carry, f_allowed, f_asleep, f_halted, f_sp, f_pc, nI T, g_passed, f_taken, f_resets, f_edges, f_sent, f_data, f_serial, f_divider, g_converter, f_result, f_output, f_watch, f_address, f_storeControl, f_mask, g_since, f_received, f_overrun, nI l_s, f_sending, nI l_c, nI l_b, f_storing, f_storeAt, a_op, b_opA, b_opB, a_vectors, a_analogs, b_store, a_r, a_m, a_stack, a_line, b_pending, b_count, a_control, a_compare), tc_RRi hLen hOp hA hB hAn hM hSt hR hR0 hZ hC hAl hAs hHa hRe hOv hPu hSp hT hSe hIn hDa hDi hRs hOu hWa hMa hSg hSo hAd hSA hSr hSC hCv hCw hPe hT0 hT1 hUs hUc hUb hW rfl, fun pcx post h => ?_, fun post h => ?_, rfl, rfl, rfl, rfl⟩
  · refine br_t (by decide) (br_f (by decide) (br_f (by decide) (br_t rfl ?_)))
    exact br_f c (tc_o201 h)
  · refine br_f (by decide) (br_f (by decide) (br_f (by decide) (br_f (by decide) (br_f (by decide) (br_f (by decide) (br_t rfl ?_))))))
    refine br_f (nI_ne0 (by omega) (by omega)) ?_
    exact br_f (by decide) (br_f (by decide) (br_f (by decide) (br_f (by decide) (br_f (by decide) (br_f (by decide) (br_f (by decide) (br_f (by decide) (br_f (by decide) (br_f (by decide) (h))))))))))
theorem tc_o7 {w : Int32} (F : tc_FF T f_length f_inputs f_sp f_pc f_zero f_carry f_allowed f_asleep f_halted f_pending f_resets f_taken f_data f_serial f_divider f_sending f_dueSent f_received f_overrun f_sent f_converter f_result f_dueResult f_output f_watch f_dueWatch f_address f_storing f_storeAt f_storeControl f_dueStore f_mask f_edges f_due f_head f_headAt f_headFlags f_stop f_pure a_op a_opA a_opB a_vectors a_analogs a_r a_m a_stack a_count a_since a_control a_compare a_dueEqual a_dueOver a_line a_store a_headR g_passed g_converter g_since l_s l_c l_b b_opA b_opB b_store b_pending b_count) (hw : tc_y8 w) : tc_OU 7 w T f_length f_inputs f_sp f_pc f_zero f_carry f_allowed f_asleep f_halted f_pending f_resets f_taken f_data f_serial f_divider f_sending f_dueSent f_received f_overrun f_sent f_converter f_result f_dueResult f_output f_watch f_dueWatch f_address f_storing f_storeAt f_storeControl f_dueStore f_mask f_edges f_due f_head f_headAt f_headFlags f_stop f_pure a_op a_opA a_opB a_vectors a_analogs a_r a_m a_stack a_count a_since a_control a_compare a_dueEqual a_dueOver a_line a_store a_headR g_passed g_converter g_since l_s l_c l_b b_opA b_opB b_store b_pending b_count := by
  obtain ⟨hLen, hOp, hA, hB, hAn, hM, hSt, hR, hR0, hZ, hC, hAl, hAs, hHa, hRe, hOv, hPu, hSp, hT, hSe, hIn, hDa, hDi, hRs, hOu, hWa, hMa, hSg, hSo, hAd, hSA, hSr, hSC, hCv, hCw, hPe, hT0, hT1, hUs, hUc, hUb, hW, hD⟩ := F
  refine ⟨(f_length, f_inputs, f_sp, f_pc, f_zero, f_carry, f_allowed, f_asleep, f_halted, f_pending, f_resets, f_taken, nI T, f_data, w &&& 24, f_divider, f_sending, f_dueSent, f_received, f_overrun, f_sent, f_converter, f_result, f_dueResult, f_output, f_watch, f_dueWatch, f_address, f_storing, f_storeAt, f_storeControl, f_dueStore, f_mask, f_edges, tc_du f_dueSent f_dueResult f_dueWatch f_dueStore a_dueEqual a_dueOver, f_head, f_headAt, f_headFlags, f_stop, f_pure, a_op, a_opA, a_opB, a_vectors, a_analogs, a_r, a_m, a_stack, a_count, a_since, a_control, a_compare, a_dueEqual, a_dueOver, a_line, a_store, a_headR), (f_length, f_inputs, f_zero, f_carry, f_allowed, f_asleep, f_halted, f_sp, f_pc, nI T, g_passed, f_taken, f_resets, f_edges, f_sent, f_data, w &&& 24, f_divider, g_converter, f_result, f_output, f_watch, f_address, f_storeControl, f_mask, g_since, f_received, f_overrun, nI l_s, f_sending, nI l_c, nI l_b, f_storing, f_storeAt, a_op, b_opA, b_opB, a_vectors, a_analogs, b_store, a_r, a_m, a_stack, a_line, b_pending, b_count, a_control, a_compare), tc_RRi hLen hOp hA hB hAn hM hSt hR hR0 hZ hC hAl hAs hHa hRe hOv hPu hSp hT hSe hIn hDa hDi hRs hOu hWa hMa hSg hSo hAd hSA (tc_a24 w) hSC hCv hCw hPe hT0 hT1 hUs hUc hUb hW rfl, fun pcx post h => ?_, fun post h => ?_, rfl, rfl, rfl, rfl⟩
  · refine br_t (by decide) (br_f (by decide) (br_f (by decide) (br_f (by decide) (br_t rfl ?_))))
    exact nm_e (tc_o201 h)
  · refine br_f (by decide) (br_f (by decide) (br_f (by decide) (br_f (by decide) (br_f (by decide) (br_f (by decide) (br_f (by decide) (br_t rfl ?_)))))))
    refine nm_e ?_
    exact br_f (by decide) (br_f (by decide) (br_f (by decide) (br_f (by decide) (br_f (by decide) (br_f (by decide) (br_f (by decide) (br_f (by decide) (br_f (by decide) (h)))))))))
theorem tc_o8 {w : Int32} (F : tc_FF T f_length f_inputs f_sp f_pc f_zero f_carry f_allowed f_asleep f_halted f_pending f_resets f_taken f_data f_serial f_divider f_sending f_dueSent f_received f_overrun f_sent f_converter f_result f_dueResult f_output f_watch f_dueWatch f_address f_storing f_storeAt f_storeControl f_dueStore f_mask f_edges f_due f_head f_headAt f_headFlags f_stop f_pure a_op a_opA a_opB a_vectors a_analogs a_r a_m a_stack a_count a_since a_control a_compare a_dueEqual a_dueOver a_line a_store a_headR g_passed g_converter g_since l_s l_c l_b b_opA b_opB b_store b_pending b_count) (hw : tc_y8 w) : tc_OU 8 w T f_length f_inputs f_sp f_pc f_zero f_carry f_allowed f_asleep f_halted f_pending f_resets f_taken f_data f_serial f_divider f_sending f_dueSent f_received f_overrun f_sent f_converter f_result f_dueResult f_output f_watch f_dueWatch f_address f_storing f_storeAt f_storeControl f_dueStore f_mask f_edges f_due f_head f_headAt f_headFlags f_stop f_pure a_op a_opA a_opB a_vectors a_analogs a_r a_m a_stack a_count a_since a_control a_compare a_dueEqual a_dueOver a_line a_store a_headR g_passed g_converter g_since l_s l_c l_b b_opA b_opB b_store b_pending b_count := by
  obtain ⟨hLen, hOp, hA, hB, hAn, hM, hSt, hR, hR0, hZ, hC, hAl, hAs, hHa, hRe, hOv, hPu, hSp, hT, hSe, hIn, hDa, hDi, hRs, hOu, hWa, hMa, hSg, hSo, hAd, hSA, hSr, hSC, hCv, hCw, hPe, hT0, hT1, hUs, hUc, hUb, hW, hD⟩ := F
  refine ⟨(f_length, f_inputs, f_sp, f_pc, f_zero, f_carry, f_allowed, f_asleep, f_halted, f_pending, f_resets, f_taken, nI T, f_data, f_serial, w, f_sending, f_dueSent, f_received, f_overrun, f_sent, f_converter, f_result, f_dueResult, f_output, f_watch, f_dueWatch, f_address, f_storing, f_storeAt, f_storeControl, f_dueStore, f_mask, f_edges, tc_du f_dueSent f_dueResult f_dueWatch f_dueStore a_dueEqual a_dueOver, f_head, f_headAt, f_headFlags, f_stop, f_pure, a_op, a_opA, a_opB, a_vectors, a_analogs, a_r, a_m, a_stack, a_count, a_since, a_control, a_compare, a_dueEqual, a_dueOver, a_line, a_store, a_headR), (f_length, f_inputs, f_zero, f_carry, f_allowed, f_asleep, f_halted, f_sp, f_pc, nI T, g_passed, f_taken, f_resets, f_edges, f_sent, f_data, f_serial, w, g_converter, f_result, f_output, f_watch, f_address, f_storeControl, f_mask, g_since, f_received, f_overrun, nI l_s, f_sending, nI l_c, nI l_b, f_storing, f_storeAt, a_op, b_opA, b_opB, a_vectors, a_analogs, b_store, a_r, a_m, a_stack, a_line, b_pending, b_count, a_control, a_compare), tc_RRi hLen hOp hA hB hAn hM hSt hR hR0 hZ hC hAl hAs hHa hRe hOv hPu hSp hT hSe hIn hDa hw hRs hOu hWa hMa hSg hSo hAd hSA hSr hSC hCv hCw hPe hT0 hT1 hUs hUc hUb hW rfl, fun pcx post h => ?_, fun post h => ?_, rfl, rfl, rfl, rfl⟩
  · refine br_t (by decide) (br_f (by decide) (br_f (by decide) (br_f (by decide) (br_f (by decide) (br_t rfl ?_)))))
    exact tc_o201 h
  · refine br_f (by decide) (br_f (by decide) (br_f (by decide) (br_f (by decide) (br_f (by decide) (br_f (by decide) (br_f (by decide) (br_f (by decide) (br_t rfl ?_))))))))
    exact br_f (by decide) (br_f (by decide) (br_f (by decide) (br_f (by decide) (br_f (by decide) (br_f (by decide) (br_f (by decide) (br_f (by decide) (h))))))))
theorem tc_o9a {w : Int32} (F : tc_FF T f_length f_inputs f_sp f_pc f_zero f_carry f_allowed f_asleep f_halted f_pending f_resets f_taken f_data f_serial f_divider f_sending f_dueSent f_received f_overrun f_sent f_converter f_result f_dueResult f_output f_watch f_dueWatch f_address f_storing f_storeAt f_storeControl f_dueStore f_mask f_edges f_due f_head f_headAt f_headFlags f_stop f_pure a_op a_opA a_opB a_vectors a_analogs a_r a_m a_stack a_count a_since a_control a_compare a_dueEqual a_dueOver a_line a_store a_headR g_passed g_converter g_since l_s l_c l_b b_opA b_opB b_store b_pending b_count) (hw : tc_y8 w) (c : w &&& 4 = 0) : tc_OU 9 w T f_length f_inputs f_sp f_pc f_zero f_carry f_allowed f_asleep f_halted f_pending f_resets f_taken f_data f_serial f_divider f_sending f_dueSent f_received f_overrun f_sent f_converter f_result f_dueResult f_output f_watch f_dueWatch f_address f_storing f_storeAt f_storeControl f_dueStore f_mask f_edges f_due f_head f_headAt f_headFlags f_stop f_pure a_op a_opA a_opB a_vectors a_analogs a_r a_m a_stack a_count a_since a_control a_compare a_dueEqual a_dueOver a_line a_store a_headR g_passed g_converter g_since l_s l_c l_b b_opA b_opB b_store b_pending b_count := by
  obtain ⟨hLen, hOp, hA, hB, hAn, hM, hSt, hR, hR0, hZ, hC, hAl, hAs, hHa, hRe, hOv, hPu, hSp, hT, hSe, hIn, hDa, hDi, hRs, hOu, hWa, hMa, hSg, hSo, hAd, hSA, hSr, hSC, hCv, hCw, hPe, hT0, hT1, hUs, hUc, hUb, hW, hD⟩ := F
  refine ⟨(f_length, f_inputs, f_sp, f_pc, f_zero, f_carry, f_allowed, f_asleep, f_halted, f_pending, f_resets, f_taken, nI T, f_data, f_serial, f_divider, f_sending, f_dueSent, f_received, f_overrun, f_sent, w &&& 251, f_result, f_dueResult, f_output, f_watch, f_dueWatch, f_address, f_storing, f_storeAt, f_storeControl, f_dueStore, f_mask, f_edges, tc_du f_dueSent f_dueResult f_dueWatch f_dueStore a_dueEqual a_dueOver, f_head, f_headAt, f_headFlags, f_stop, f_pure, a_op, a_opA, a_opB, a_vectors, a_analogs, a_r, a_m, a_stack, a_count, a_since, a_control, a_compare, a_dueEqual, a_dueOver, a_line, a_store, a_headR), (f_length, f_inputs, f_zero, f_carry, f_allowed, f_asleep, f_halted, f_sp, f_pc, nI T, g_passed, f_taken, f_resets, f_edges, f_sent, f_data, f_serial, f_divider, w, f_result, f_output, f_watch, f_address, f_storeControl, f_mask, g_since, f_received, f_overrun, nI l_s, f_sending, nI l_c, nI l_b, f_storing, f_storeAt, a_op, b_opA, b_opB, a_vectors, a_analogs, b_store, a_r, a_m, a_stack, a_line, b_pending, b_count, a_control, a_compare), tc_RRi hLen hOp hA hB hAn hM hSt hR hR0 hZ hC hAl hAs hHa hRe hOv hPu hSp hT hSe hIn hDa hDi hRs hOu hWa hMa hSg hSo hAd hSA hSr hSC rfl hw hPe hT0 hT1 hUs hUc hUb hW rfl, fun pcx post h => ?_, fun post h => ?_, rfl, rfl, rfl, rfl⟩
  · refine br_t (by decide) (br_f (by decide) (br_f (by decide) (br_f (by decide) (br_f (by decide) (br_f (by decide) (br_t rfl ?_))))))
    exact nm_e (br_t c (tc_o201 h))
  · refine br_f (by decide) (br_f (by decide) (br_f (by decide) (br_f (by decide) (br_f (by decide) (br_f (by decide) (br_f (by decide) (br_f (by decide) (br_f (by decide) (br_t rfl ?_)))))))))
    refine br_t c ?_
    exact br_f (by decide) (br_f (by decide) (br_f (by decide) (br_f (by decide) (br_f (by decide) (br_f (by decide) (br_f (by decide) (h)))))))
theorem tc_o9b {w : Int32} (F : tc_FF T f_length f_inputs f_sp f_pc f_zero f_carry f_allowed f_asleep f_halted f_pending f_resets f_taken f_data f_serial f_divider f_sending f_dueSent f_received f_overrun f_sent f_converter f_result f_dueResult f_output f_watch f_dueWatch f_address f_storing f_storeAt f_storeControl f_dueStore f_mask f_edges f_due f_head f_headAt f_headFlags f_stop f_pure a_op a_opA a_opB a_vectors a_analogs a_r a_m a_stack a_count a_since a_control a_compare a_dueEqual a_dueOver a_line a_store a_headR g_passed g_converter g_since l_s l_c l_b b_opA b_opB b_store b_pending b_count) (hw : tc_y8 w) (c : ¬ w &&& 4 = 0) (c2 : f_dueResult = 2147483647) : tc_OU 9 w T f_length f_inputs f_sp f_pc f_zero f_carry f_allowed f_asleep f_halted f_pending f_resets f_taken f_data f_serial f_divider f_sending f_dueSent f_received f_overrun f_sent f_converter f_result f_dueResult f_output f_watch f_dueWatch f_address f_storing f_storeAt f_storeControl f_dueStore f_mask f_edges f_due f_head f_headAt f_headFlags f_stop f_pure a_op a_opA a_opB a_vectors a_analogs a_r a_m a_stack a_count a_since a_control a_compare a_dueEqual a_dueOver a_line a_store a_headR g_passed g_converter g_since l_s l_c l_b b_opA b_opB b_store b_pending b_count := by
  obtain ⟨hLen, hOp, hA, hB, hAn, hM, hSt, hR, hR0, hZ, hC, hAl, hAs, hHa, hRe, hOv, hPu, hSp, hT, hSe, hIn, hDa, hDi, hRs, hOu, hWa, hMa, hSg, hSo, hAd, hSA, hSr, hSC, hCv, hCw, hPe, hT0, hT1, hUs, hUc, hUb, hW, hD⟩ := F
  have l0 := (tc_uF7 hT hUc).1 c2
  refine ⟨(f_length, f_inputs, f_sp, f_pc, f_zero, f_carry, f_allowed, f_asleep, f_halted, f_pending, f_resets, f_taken, nI T, f_data, f_serial, f_divider, f_sending, f_dueSent, f_received, f_overrun, f_sent, w &&& 251, f_result, nI (T + 52), f_output, f_watch, f_dueWatch, f_address, f_storing, f_storeAt, f_storeControl, f_dueStore, f_mask, f_edges, tc_du f_dueSent (nI (T + 52)) f_dueWatch f_dueStore a_dueEqual a_dueOver, f_head, f_headAt, f_headFlags, f_stop, f_pure, a_op, a_opA, a_opB, a_vectors, a_analogs, a_r, a_m, a_stack, a_count, a_since, a_control, a_compare, a_dueEqual, a_dueOver, a_line, a_store, a_headR), (f_length, f_inputs, f_zero, f_carry, f_allowed, f_asleep, f_halted, f_sp, f_pc, nI T, g_passed, f_taken, f_resets, f_edges, f_sent, f_data, f_serial, f_divider, w, f_result, f_output, f_watch, f_address, f_storeControl, f_mask, g_since, f_received, f_overrun, nI l_s, f_sending, nI 52, nI l_b, f_storing, f_storeAt, a_op, b_opA, b_opB, a_vectors, a_analogs, b_store, a_r, a_m, a_stack, a_line, b_pending, b_count, a_control, a_compare), tc_RRi hLen hOp hA hB hAn hM hSt hR hR0 hZ hC hAl hAs hHa hRe hOv hPu hSp hT hSe hIn hDa hDi hRs hOu hWa hMa hSg hSo hAd hSA hSr hSC rfl hw hPe hT0 hT1 hUs (Or.inr ⟨by omega, by omega, rfl⟩) hUb hW rfl, fun pcx post h => ?_, fun post h => ?_, rfl, rfl, rfl, rfl⟩
  · refine br_t (by decide) (br_f (by decide) (br_f (by decide) (br_f (by decide) (br_f (by decide) (br_f (by decide) (br_t rfl ?_))))))
    exact nm_e (br_f c (br_t c2 (nm_r (e' := nI (T + 52)) (nI_add T 52) (tc_o201 h))))
  · refine br_f (by decide) (br_f (by decide) (br_f (by decide) (br_f (by decide) (br_f (by decide) (br_f (by decide) (br_f (by decide) (br_f (by decide) (br_f (by decide) (br_t rfl ?_)))))))))
    refine br_f c (br_t (by rw [l0]; rfl) ?_)
    exact br_f (by decide) (br_f (by decide) (br_f (by decide) (br_f (by decide) (br_f (by decide) (br_f (by decide) (br_f (by decide) (h)))))))
theorem tc_o9c {w : Int32} (F : tc_FF T f_length f_inputs f_sp f_pc f_zero f_carry f_allowed f_asleep f_halted f_pending f_resets f_taken f_data f_serial f_divider f_sending f_dueSent f_received f_overrun f_sent f_converter f_result f_dueResult f_output f_watch f_dueWatch f_address f_storing f_storeAt f_storeControl f_dueStore f_mask f_edges f_due f_head f_headAt f_headFlags f_stop f_pure a_op a_opA a_opB a_vectors a_analogs a_r a_m a_stack a_count a_since a_control a_compare a_dueEqual a_dueOver a_line a_store a_headR g_passed g_converter g_since l_s l_c l_b b_opA b_opB b_store b_pending b_count) (hw : tc_y8 w) (c : ¬ w &&& 4 = 0) (c2 : ¬ f_dueResult = 2147483647) : tc_OU 9 w T f_length f_inputs f_sp f_pc f_zero f_carry f_allowed f_asleep f_halted f_pending f_resets f_taken f_data f_serial f_divider f_sending f_dueSent f_received f_overrun f_sent f_converter f_result f_dueResult f_output f_watch f_dueWatch f_address f_storing f_storeAt f_storeControl f_dueStore f_mask f_edges f_due f_head f_headAt f_headFlags f_stop f_pure a_op a_opA a_opB a_vectors a_analogs a_r a_m a_stack a_count a_since a_control a_compare a_dueEqual a_dueOver a_line a_store a_headR g_passed g_converter g_since l_s l_c l_b b_opA b_opB b_store b_pending b_count := by
  obtain ⟨hLen, hOp, hA, hB, hAn, hM, hSt, hR, hR0, hZ, hC, hAl, hAs, hHa, hRe, hOv, hPu, hSp, hT, hSe, hIn, hDa, hDi, hRs, hOu, hWa, hMa, hSg, hSo, hAd, hSA, hSr, hSC, hCv, hCw, hPe, hT0, hT1, hUs, hUc, hUb, hW, hD⟩ := F
  have l0 := (tc_uF7 hT hUc).2 c2
  refine ⟨(f_length, f_inputs, f_sp, f_pc, f_zero, f_carry, f_allowed, f_asleep, f_halted, f_pending, f_resets, f_taken, nI T, f_data, f_serial, f_divider, f_sending, f_dueSent, f_received, f_overrun, f_sent, w &&& 251, f_result, f_dueResult, f_output, f_watch, f_dueWatch, f_address, f_storing, f_storeAt, f_storeControl, f_dueStore, f_mask, f_edges, tc_du f_dueSent f_dueResult f_dueWatch f_dueStore a_dueEqual a_dueOver, f_head, f_headAt, f_headFlags, f_stop, f_pure, a_op, a_opA, a_opB, a_vectors, a_analogs, a_r, a_m, a_stack, a_count, a_since, a_control, a_compare, a_dueEqual, a_dueOver, a_line, a_store, a_headR), (f_length, f_inputs, f_zero, f_carry, f_allowed, f_asleep, f_halted, f_sp, f_pc, nI T, g_passed, f_taken, f_resets, f_edges, f_sent, f_data, f_serial, f_divider, w, f_result, f_output, f_watch, f_address, f_storeControl, f_mask, g_since, f_received, f_overrun, nI l_s, f_sending, nI l_c, nI l_b, f_storing, f_storeAt, a_op, b_opA, b_opB, a_vectors, a_analogs, b_store, a_r, a_m, a_stack, a_line, b_pending, b_count, a_control, a_compare), tc_RRi hLen hOp hA hB hAn hM hSt hR hR0 hZ hC hAl hAs hHa hRe hOv hPu hSp hT hSe hIn hDa hDi hRs hOu hWa hMa hSg hSo hAd hSA hSr hSC rfl hw hPe hT0 hT1 hUs hUc hUb hW rfl, fun pcx post h => ?_, fun post h => ?_, rfl, rfl, rfl, rfl⟩
  · refine br_t (by decide) (br_f (by decide) (br_f (by decide) (br_f (by decide) (br_f (by decide) (br_f (by decide) (br_t rfl ?_))))))
    exact nm_e (br_f c (br_f c2 (tc_o201 h)))
  · refine br_f (by decide) (br_f (by decide) (br_f (by decide) (br_f (by decide) (br_f (by decide) (br_f (by decide) (br_f (by decide) (br_f (by decide) (br_f (by decide) (br_t rfl ?_)))))))))
    refine br_f c (br_f (nI_ne0 (by omega) (by omega)) ?_)
    exact br_f (by decide) (br_f (by decide) (br_f (by decide) (br_f (by decide) (br_f (by decide) (br_f (by decide) (br_f (by decide) (h)))))))
theorem tc_o11 {w : Int32} (F : tc_FF T f_length f_inputs f_sp f_pc f_zero f_carry f_allowed f_asleep f_halted f_pending f_resets f_taken f_data f_serial f_divider f_sending f_dueSent f_received f_overrun f_sent f_converter f_result f_dueResult f_output f_watch f_dueWatch f_address f_storing f_storeAt f_storeControl f_dueStore f_mask f_edges f_due f_head f_headAt f_headFlags f_stop f_pure a_op a_opA a_opB a_vectors a_analogs a_r a_m a_stack a_count a_since a_control a_compare a_dueEqual a_dueOver a_line a_store a_headR g_passed g_converter g_since l_s l_c l_b b_opA b_opB b_store b_pending b_count) (hw : tc_y8 w) : tc_OU 11 w T f_length f_inputs f_sp f_pc f_zero f_carry f_allowed f_asleep f_halted f_pending f_resets f_taken f_data f_serial f_divider f_sending f_dueSent f_received f_overrun f_sent f_converter f_result f_dueResult f_output f_watch f_dueWatch f_address f_storing f_storeAt f_storeControl f_dueStore f_mask f_edges f_due f_head f_headAt f_headFlags f_stop f_pure a_op a_opA a_opB a_vectors a_analogs a_r a_m a_stack a_count a_since a_control a_compare a_dueEqual a_dueOver a_line a_store a_headR g_passed g_converter g_since l_s l_c l_b b_opA b_opB b_store b_pending b_count := by
  obtain ⟨hLen, hOp, hA, hB, hAn, hM, hSt, hR, hR0, hZ, hC, hAl, hAs, hHa, hRe, hOv, hPu, hSp, hT, hSe, hIn, hDa, hDi, hRs, hOu, hWa, hMa, hSg, hSo, hAd, hSA, hSr, hSC, hCv, hCw, hPe, hT0, hT1, hUs, hUc, hUb, hW, hD⟩ := F
  refine ⟨(f_length, f_inputs, f_sp, f_pc, f_zero, f_carry, f_allowed, f_asleep, f_halted, f_pending &&& (w ^^^ (-1)), f_resets, f_taken, nI T, f_data, f_serial, f_divider, f_sending, f_dueSent, f_received, f_overrun, f_sent, f_converter, f_result, f_dueResult, f_output, f_watch, f_dueWatch, f_address, f_storing, f_storeAt, f_storeControl, f_dueStore, f_mask, f_edges, tc_du f_dueSent f_dueResult f_dueWatch f_dueStore a_dueEqual a_dueOver, f_head, f_headAt, f_headFlags, f_stop, f_pure, a_op, a_opA, a_opB, a_vectors, a_analogs, a_r, a_m, a_stack, a_count, a_since, a_control, a_compare, a_dueEqual, a_dueOver, a_line, a_store, a_headR), (f_length, f_inputs, f_zero, f_carry, f_allowed, f_asleep, f_halted, f_sp, f_pc, nI T, g_passed, f_taken, f_resets, f_edges, f_sent, f_data, f_serial, f_divider, g_converter, f_result, f_output, f_watch, f_address, f_storeControl, f_mask, g_since, f_received, f_overrun, nI l_s, f_sending, nI l_c, nI l_b, f_storing, f_storeAt, a_op, b_opA, b_opB, a_vectors, a_analogs, b_store, a_r, a_m, a_stack, a_line, tc_cb w 8 b_pending, b_count, a_control, a_compare), tc_RRi hLen hOp hA hB hAn hM hSt hR hR0 hZ hC hAl hAs hHa hRe hOv hPu hSp hT hSe hIn hDa hDi hRs hOu hWa hMa hSg hSo hAd hSA hSr hSC hCv hCw (tc_cbF hPe hw) hT0 hT1 hUs hUc hUb hW rfl, fun pcx post h => ?_, fun post h => ?_, rfl, rfl, rfl, rfl⟩
  · refine br_t (by decide) (br_f (by decide) (br_f (by decide) (br_f (by decide) (br_f (by decide) (br_f (by decide) (br_f (by decide) (br_f (by decide) (br_t rfl ?_))))))))
    exact nm_e (tc_o201 h)
  · refine br_f (by decide) (br_f (by decide) (br_f (by decide) (br_f (by decide) (br_f (by decide) (br_f (by decide) (br_f (by decide) (br_f (by decide) (br_f (by decide) (br_f (by decide) (br_t rfl ?_))))))))))
    refine ⟨9, ?_⟩
    refine tc_cbL 8 0 rfl ?_
    exact br_f (by decide) (br_f (by decide) (br_f (by decide) (br_f (by decide) (br_f (by decide) (br_f (by decide) (h))))))
theorem tc_o12 {w : Int32} (F : tc_FF T f_length f_inputs f_sp f_pc f_zero f_carry f_allowed f_asleep f_halted f_pending f_resets f_taken f_data f_serial f_divider f_sending f_dueSent f_received f_overrun f_sent f_converter f_result f_dueResult f_output f_watch f_dueWatch f_address f_storing f_storeAt f_storeControl f_dueStore f_mask f_edges f_due f_head f_headAt f_headFlags f_stop f_pure a_op a_opA a_opB a_vectors a_analogs a_r a_m a_stack a_count a_since a_control a_compare a_dueEqual a_dueOver a_line a_store a_headR g_passed g_converter g_since l_s l_c l_b b_opA b_opB b_store b_pending b_count) (hw : tc_y8 w) : tc_OU 12 w T f_length f_inputs f_sp f_pc f_zero f_carry f_allowed f_asleep f_halted f_pending f_resets f_taken f_data f_serial f_divider f_sending f_dueSent f_received f_overrun f_sent f_converter f_result f_dueResult f_output f_watch f_dueWatch f_address f_storing f_storeAt f_storeControl f_dueStore f_mask f_edges f_due f_head f_headAt f_headFlags f_stop f_pure a_op a_opA a_opB a_vectors a_analogs a_r a_m a_stack a_count a_since a_control a_compare a_dueEqual a_dueOver a_line a_store a_headR g_passed g_converter g_since l_s l_c l_b b_opA b_opB b_store b_pending b_count := by
  obtain ⟨hLen, hOp, hA, hB, hAn, hM, hSt, hR, hR0, hZ, hC, hAl, hAs, hHa, hRe, hOv, hPu, hSp, hT, hSe, hIn, hDa, hDi, hRs, hOu, hWa, hMa, hSg, hSo, hAd, hSA, hSr, hSC, hCv, hCw, hPe, hT0, hT1, hUs, hUc, hUb, hW, hD⟩ := F
  refine ⟨(f_length, f_inputs, f_sp, f_pc, f_zero, f_carry, f_allowed, f_asleep, f_halted, f_pending, f_resets, f_taken, nI T, f_data, f_serial, f_divider, f_sending, f_dueSent, f_received, f_overrun, f_sent, f_converter, f_result, f_dueResult, w, f_watch, f_dueWatch, f_address, f_storing, f_storeAt, f_storeControl, f_dueStore, f_mask, f_edges + tc_ed f_output w, tc_du f_dueSent f_dueResult f_dueWatch f_dueStore a_dueEqual a_dueOver, f_head, f_headAt, f_headFlags, f_stop, f_pure, a_op, a_opA, a_opB, a_vectors, a_analogs, a_r, a_m, a_stack, a_count, a_since, a_control, a_compare, a_dueEqual, a_dueOver, a_line, a_store, a_headR), (f_length, f_inputs, f_zero, f_carry, f_allowed, f_asleep, f_halted, f_sp, f_pc, nI T, g_passed, f_taken, f_resets, f_edges + tc_ed f_output w, f_sent, f_data, f_serial, f_divider, g_converter, f_result, w, f_watch, f_address, f_storeControl, f_mask, g_since, f_received, f_overrun, nI l_s, f_sending, nI l_c, nI l_b, f_storing, f_storeAt, a_op, b_opA, b_opB, a_vectors, a_analogs, b_store, a_r, a_m, a_stack, a_line, b_pending, b_count, a_control, a_compare), tc_RRi hLen hOp hA hB hAn hM hSt hR hR0 hZ hC hAl hAs hHa hRe hOv hPu hSp hT hSe hIn hDa hDi hRs hw hWa hMa hSg hSo hAd hSA hSr hSC hCv hCw hPe hT0 hT1 hUs hUc hUb hW rfl, fun pcx post h => ?_, fun post h => ?_, rfl, rfl, rfl, rfl⟩
  · refine br_t (by decide) (br_f (by decide) (br_f (by decide) (br_f (by decide) (br_f (by decide) (br_f (by decide) (br_f (by decide) (br_f (by decide) (br_f (by decide) (br_t rfl ?_)))))))))
    refine tc_drive hOu hw ?_
    exact tc_o201 h
  · refine br_f (by decide) (br_f (by decide) (br_f (by decide) (br_f (by decide) (br_f (by decide) (br_f (by decide) (br_f (by decide) (br_f (by decide) (br_f (by decide) (br_f (by decide) (br_f (by decide) (br_t rfl ?_)))))))))))
    refine tc_show ?_
    exact br_f (by decide) (br_f (by decide) (br_f (by decide) (br_f (by decide) (br_f (by decide) (h)))))
theorem tc_o14 {w : Int32} (F : tc_FF T f_length f_inputs f_sp f_pc f_zero f_carry f_allowed f_asleep f_halted f_pending f_resets f_taken f_data f_serial f_divider f_sending f_dueSent f_received f_overrun f_sent f_converter f_result f_dueResult f_output f_watch f_dueWatch f_address f_storing f_storeAt f_storeControl f_dueStore f_mask f_edges f_due f_head f_headAt f_headFlags f_stop f_pure a_op a_opA a_opB a_vectors a_analogs a_r a_m a_stack a_count a_since a_control a_compare a_dueEqual a_dueOver a_line a_store a_headR g_passed g_converter g_since l_s l_c l_b b_opA b_opB b_store b_pending b_count) (hw : tc_y8 w) : tc_OU 14 w T f_length f_inputs f_sp f_pc f_zero f_carry f_allowed f_asleep f_halted f_pending f_resets f_taken f_data f_serial f_divider f_sending f_dueSent f_received f_overrun f_sent f_converter f_result f_dueResult f_output f_watch f_dueWatch f_address f_storing f_storeAt f_storeControl f_dueStore f_mask f_edges f_due f_head f_headAt f_headFlags f_stop f_pure a_op a_opA a_opB a_vectors a_analogs a_r a_m a_stack a_count a_since a_control a_compare a_dueEqual a_dueOver a_line a_store a_headR g_passed g_converter g_since l_s l_c l_b b_opA b_opB b_store b_pending b_count := by
  obtain ⟨hLen, hOp, hA, hB, hAn, hM, hSt, hR, hR0, hZ, hC, hAl, hAs, hHa, hRe, hOv, hPu, hSp, hT, hSe, hIn, hDa, hDi, hRs, hOu, hWa, hMa, hSg, hSo, hAd, hSA, hSr, hSC, hCv, hCw, hPe, hT0, hT1, hUs, hUc, hUb, hW, hD⟩ := F
  obtain ⟨k, hk, e⟩ := pk_andE w (m := 7) 3 (by decide)
  have hk : k < 8 := hk
  have fd : ∃ d : Int32, tc_wF T w 0 d ∧ ∀ (pcx : Int32) (post : SX → Prop), post (f_length, f_inputs, f_sp, pcx, f_zero, f_carry, f_allowed, f_asleep, f_halted, f_pending, f_resets, f_taken, nI T, f_data, f_serial, f_divider, f_sending, f_dueSent, f_received, f_overrun, f_sent, f_converter, f_result, f_dueResult, f_output, w, d, f_address, f_storing, f_storeAt, f_storeControl, f_dueStore, f_mask, f_edges, tc_du f_dueSent f_dueResult d f_dueStore a_dueEqual a_dueOver, f_head, f_headAt, f_headFlags, f_stop, f_pure, a_op, a_opA, a_opB, a_vectors, a_analogs, a_r, a_m, a_stack, a_count, a_since, a_control, a_compare, a_dueEqual, a_dueOver, a_line, a_store, a_headR) → wpX_feed post (f_length, f_inputs, f_sp, pcx, f_zero, f_carry, f_allowed, f_asleep, f_halted, f_pending, f_resets, f_taken, nI T, f_data, f_serial, f_divider, f_sending, f_dueSent, f_received, f_overrun, f_sent, f_converter, f_result, f_dueResult, f_output, w, f_dueWatch, f_address, f_storing, f_storeAt, f_storeControl, f_dueStore, f_mask, f_edges, f_due, f_head, f_headAt, f_headFlags, f_stop, f_pure, a_op, a_opA, a_opB, a_vectors, a_analogs, a_r, a_m, a_stack, a_count, a_since, a_control, a_compare, a_dueEqual, a_dueOver, a_line, a_store, a_headR) := by
    by_cases k0 : k = 0
    · refine ⟨2147483647, Or.inl ⟨by rw [e, k0]; rfl, rfl⟩, fun pcx post h => ?_⟩
      refine nm_r (e' := 0) (by rw [e, k0]; rfl) (br_t rfl ?_)
      unfold wX_feed_27
      exact tc_soon h
    · refine ⟨nI (T + 16 * 2 ^ k), Or.inr ⟨k, 0, by omega, hk, e, rfl, Nat.mul_pos (by decide) (Nat.pow_pos (by decide)), rfl⟩, fun pcx post h => ?_⟩
      refine nm_r (e' := nI k) e (br_f (nI_ne0 (by omega) (by omega)) ?_)
      rw [tc_16k k hk, nI_add]
      unfold wX_feed_27
      exact tc_soon h
  obtain ⟨d, d1, d2⟩ := fd
  refine ⟨(f_length, f_inputs, f_sp, f_pc, f_zero, f_carry, f_allowed, f_asleep, f_halted, f_pending, f_resets, f_taken, nI T, f_data, f_serial, f_divider, f_sending, f_dueSent, f_received, f_overrun, f_sent, f_converter, f_result, f_dueResult, f_output, w, d, f_address, f_storing, f_storeAt, f_storeControl, f_dueStore, f_mask, f_edges, tc_du f_dueSent f_dueResult d f_dueStore a_dueEqual a_dueOver, f_head, f_headAt, f_headFlags, f_stop, f_pure, a_op, a_opA, a_opB, a_vectors, a_analogs, a_r, a_m, a_stack, a_count, a_since, a_control, a_compare, a_dueEqual, a_dueOver, a_line, a_store, a_headR), (f_length, f_inputs, f_zero, f_carry, f_allowed, f_asleep, f_halted, f_sp, f_pc, nI T, g_passed, f_taken, f_resets, f_edges, f_sent, f_data, f_serial, f_divider, g_converter, f_result, f_output, w, f_address, f_storeControl, f_mask, 0, f_received, f_overrun, nI l_s, f_sending, nI l_c, nI l_b, f_storing, f_storeAt, a_op, b_opA, b_opB, a_vectors, a_analogs, b_store, a_r, a_m, a_stack, a_line, b_pending, b_count, a_control, a_compare), tc_RRi hLen hOp hA hB hAn hM hSt hR hR0 hZ hC hAl hAs hHa hRe hOv hPu hSp hT hSe hIn hDa hDi hRs hOu hw hMa hSg hSo hAd hSA hSr hSC hCv hCw hPe hT0 hT1 hUs hUc hUb d1 rfl, fun pcx post h => ?_, fun post h => ?_, rfl, rfl, rfl, rfl⟩
  · refine br_t (by decide) (br_f (by decide) (br_f (by decide) (br_f (by decide) (br_f (by decide) (br_f (by decide) (br_f (by decide) (br_f (by decide) (br_f (by decide) (br_f (by decide) (br_f (by decide) (br_t rfl ?_)))))))))))
    refine d2 pcx _ ?_
    exact tc_o201 h
  · refine br_f (by decide) (br_f (by decide) (br_f (by decide) (br_f (by decide) (br_f (by decide) (br_f (by decide) (br_f (by decide) (br_f (by decide) (br_f (by decide) (br_f (by decide) (br_f (by decide) (br_f (by decide) (br_t rfl ?_))))))))))))
    exact br_f (by decide) (br_f (by decide) (br_f (by decide) (br_f (by decide) (h))))
theorem tc_o16 {w : Int32} (F : tc_FF T f_length f_inputs f_sp f_pc f_zero f_carry f_allowed f_asleep f_halted f_pending f_resets f_taken f_data f_serial f_divider f_sending f_dueSent f_received f_overrun f_sent f_converter f_result f_dueResult f_output f_watch f_dueWatch f_address f_storing f_storeAt f_storeControl f_dueStore f_mask f_edges f_due f_head f_headAt f_headFlags f_stop f_pure a_op a_opA a_opB a_vectors a_analogs a_r a_m a_stack a_count a_since a_control a_compare a_dueEqual a_dueOver a_line a_store a_headR g_passed g_converter g_since l_s l_c l_b b_opA b_opB b_store b_pending b_count) (hw : tc_y8 w) : tc_OU 16 w T f_length f_inputs f_sp f_pc f_zero f_carry f_allowed f_asleep f_halted f_pending f_resets f_taken f_data f_serial f_divider f_sending f_dueSent f_received f_overrun f_sent f_converter f_result f_dueResult f_output f_watch f_dueWatch f_address f_storing f_storeAt f_storeControl f_dueStore f_mask f_edges f_due f_head f_headAt f_headFlags f_stop f_pure a_op a_opA a_opB a_vectors a_analogs a_r a_m a_stack a_count a_since a_control a_compare a_dueEqual a_dueOver a_line a_store a_headR g_passed g_converter g_since l_s l_c l_b b_opA b_opB b_store b_pending b_count := by
  obtain ⟨hLen, hOp, hA, hB, hAn, hM, hSt, hR, hR0, hZ, hC, hAl, hAs, hHa, hRe, hOv, hPu, hSp, hT, hSe, hIn, hDa, hDi, hRs, hOu, hWa, hMa, hSg, hSo, hAd, hSA, hSr, hSC, hCv, hCw, hPe, hT0, hT1, hUs, hUc, hUb, hW, hD⟩ := F
  refine ⟨(f_length, f_inputs, f_sp, f_pc, f_zero, f_carry, f_allowed, f_asleep, f_halted, f_pending, f_resets, f_taken, nI T, f_data, f_serial, f_divider, f_sending, f_dueSent, f_received, f_overrun, f_sent, f_converter, f_result, f_dueResult, f_output, f_watch, f_dueWatch, w &&& 15, f_storing, f_storeAt, f_storeControl, f_dueStore, f_mask, f_edges, tc_du f_dueSent f_dueResult f_dueWatch f_dueStore a_dueEqual a_dueOver, f_head, f_headAt, f_headFlags, f_stop, f_pure, a_op, a_opA, a_opB, a_vectors, a_analogs, a_r, a_m, a_stack, a_count, a_since, a_control, a_compare, a_dueEqual, a_dueOver, a_line, a_store, a_headR), (f_length, f_inputs, f_zero, f_carry, f_allowed, f_asleep, f_halted, f_sp, f_pc, nI T, g_passed, f_taken, f_resets, f_edges, f_sent, f_data, f_serial, f_divider, g_converter, f_result, f_output, f_watch, w &&& 15, f_storeControl, f_mask, g_since, f_received, f_overrun, nI l_s, f_sending, nI l_c, nI l_b, f_storing, f_storeAt, a_op, b_opA, b_opB, a_vectors, a_analogs, b_store, a_r, a_m, a_stack, a_line, b_pending, b_count, a_control, a_compare), tc_RRi hLen hOp hA hB hAn hM hSt hR hR0 hZ hC hAl hAs hHa hRe hOv hPu hSp hT hSe hIn hDa hDi hRs hOu hWa hMa hSg hSo (tc_a15 w) hSA hSr hSC hCv hCw hPe hT0 hT1 hUs hUc hUb hW rfl, fun pcx post h => ?_, fun post h => ?_, rfl, rfl, rfl, rfl⟩
  · refine br_t (by decide) (br_f (by decide) (br_t (by decide) ?_))
    exact br_t rfl (nm_e (br_f (by decide) (br_f (by decide) (br_f (by decide) (tc_o201 h)))))
  · refine br_f (by decide) (br_f (by decide) (br_f (by decide) (br_f (by decide) (br_f (by decide) (br_f (by decide) (br_f (by decide) (br_f (by decide) (br_f (by decide) (br_f (by decide) (br_f (by decide) (br_f (by decide) (br_f (by decide) (br_t rfl ?_)))))))))))))
    refine nm_e ?_
    exact br_f (by decide) (br_f (by decide) (br_f (by decide) (h)))
theorem tc_o17a {w : Int32} (F : tc_FF T f_length f_inputs f_sp f_pc f_zero f_carry f_allowed f_asleep f_halted f_pending f_resets f_taken f_data f_serial f_divider f_sending f_dueSent f_received f_overrun f_sent f_converter f_result f_dueResult f_output f_watch f_dueWatch f_address f_storing f_storeAt f_storeControl f_dueStore f_mask f_edges f_due f_head f_headAt f_headFlags f_stop f_pure a_op a_opA a_opB a_vectors a_analogs a_r a_m a_stack a_count a_since a_control a_compare a_dueEqual a_dueOver a_line a_store a_headR g_passed g_converter g_since l_s l_c l_b b_opA b_opB b_store b_pending b_count) (hw : tc_y8 w) (c : f_dueStore = 2147483647) : tc_OU 17 w T f_length f_inputs f_sp f_pc f_zero f_carry f_allowed f_asleep f_halted f_pending f_resets f_taken f_data f_serial f_divider f_sending f_dueSent f_received f_overrun f_sent f_converter f_result f_dueResult f_output f_watch f_dueWatch f_address f_storing f_storeAt f_storeControl f_dueStore f_mask f_edges f_due f_head f_headAt f_headFlags f_stop f_pure a_op a_opA a_opB a_vectors a_analogs a_r a_m a_stack a_count a_since a_control a_compare a_dueEqual a_dueOver a_line a_store a_headR g_passed g_converter g_since l_s l_c l_b b_opA b_opB b_store b_pending b_count := by
  obtain ⟨hLen, hOp, hA, hB, hAn, hM, hSt, hR, hR0, hZ, hC, hAl, hAs, hHa, hRe, hOv, hPu, hSp, hT, hSe, hIn, hDa, hDi, hRs, hOu, hWa, hMa, hSg, hSo, hAd, hSA, hSr, hSC, hCv, hCw, hPe, hT0, hT1, hUs, hUc, hUb, hW, hD⟩ := F
  have l0 := (tc_uF7 hT hUb).1 c
  refine ⟨(f_length, f_inputs, f_sp, f_pc, f_zero, f_carry, f_allowed, f_asleep, f_halted, f_pending, f_resets, f_taken, nI T, f_data, f_serial, f_divider, f_sending, f_dueSent, f_received, f_overrun, f_sent, f_converter, f_result, f_dueResult, f_output, f_watch, f_dueWatch, f_address, w, f_address, f_storeControl, nI (T + 40), f_mask, f_edges, tc_du f_dueSent f_dueResult f_dueWatch (nI (T + 40)) a_dueEqual a_dueOver, f_head, f_headAt, f_headFlags, f_stop, f_pure, a_op, a_opA, a_opB, a_vectors, a_analogs, a_r, a_m, a_stack, a_count, a_since, a_control, a_compare, a_dueEqual, a_dueOver, a_line, a_store, a_headR), (f_length, f_inputs, f_zero, f_carry, f_allowed, f_asleep, f_halted, f_sp, f_pc, nI T, g_passed, f_taken, f_resets, f_edges, f_sent, f_data, f_serial, f_divider, g_converter, f_result, f_output, f_watch, f_address, f_storeControl, f_mask, g_since, f_received, f_overrun, nI l_s, f_sending, nI l_c, nI 40, w, f_address, a_op, b_opA, b_opB, a_vectors, a_analogs, b_store, a_r, a_m, a_stack, a_line, b_pending, b_count, a_control, a_compare), tc_RRi hLen hOp hA hB hAn hM hSt hR hR0 hZ hC hAl hAs hHa hRe hOv hPu hSp hT hSe hIn hDa hDi hRs hOu hWa hMa hSg hw hAd hAd hSr hSC hCv hCw hPe hT0 hT1 hUs hUc (Or.inr ⟨by omega, by omega, rfl⟩) hW rfl, fun pcx post h => ?_, fun post h => ?_, rfl, rfl, rfl, rfl⟩
  · refine br_t (by decide) (br_f (by decide) (br_t (by decide) ?_))
    exact br_f (by decide) (br_t rfl (br_t c (nm_r (e' := nI (T + 40)) (nI_add T 40) (br_f (by decide) (br_f (by decide) (tc_o201 h))))))
  · refine br_f (by decide) (br_f (by decide) (br_f (by decide) (br_f (by decide) (br_f (by decide) (br_f (by decide) (br_f (by decide) (br_f (by decide) (br_f (by decide) (br_f (by decide) (br_f (by decide) (br_f (by decide) (br_f (by decide) (br_f (by decide) (br_t rfl ?_))))))))))))))
    refine br_t (by rw [l0]; rfl) ?_
    exact br_f (by decide) (br_f (by decide) (h))
theorem tc_o17b {w : Int32} (F : tc_FF T f_length f_inputs f_sp f_pc f_zero f_carry f_allowed f_asleep f_halted f_pending f_resets f_taken f_data f_serial f_divider f_sending f_dueSent f_received f_overrun f_sent f_converter f_result f_dueResult f_output f_watch f_dueWatch f_address f_storing f_storeAt f_storeControl f_dueStore f_mask f_edges f_due f_head f_headAt f_headFlags f_stop f_pure a_op a_opA a_opB a_vectors a_analogs a_r a_m a_stack a_count a_since a_control a_compare a_dueEqual a_dueOver a_line a_store a_headR g_passed g_converter g_since l_s l_c l_b b_opA b_opB b_store b_pending b_count) (hw : tc_y8 w) (c : ¬ f_dueStore = 2147483647) : tc_OU 17 w T f_length f_inputs f_sp f_pc f_zero f_carry f_allowed f_asleep f_halted f_pending f_resets f_taken f_data f_serial f_divider f_sending f_dueSent f_received f_overrun f_sent f_converter f_result f_dueResult f_output f_watch f_dueWatch f_address f_storing f_storeAt f_storeControl f_dueStore f_mask f_edges f_due f_head f_headAt f_headFlags f_stop f_pure a_op a_opA a_opB a_vectors a_analogs a_r a_m a_stack a_count a_since a_control a_compare a_dueEqual a_dueOver a_line a_store a_headR g_passed g_converter g_since l_s l_c l_b b_opA b_opB b_store b_pending b_count := by
  obtain ⟨hLen, hOp, hA, hB, hAn, hM, hSt, hR, hR0, hZ, hC, hAl, hAs, hHa, hRe, hOv, hPu, hSp, hT, hSe, hIn, hDa, hDi, hRs, hOu, hWa, hMa, hSg, hSo, hAd, hSA, hSr, hSC, hCv, hCw, hPe, hT0, hT1, hUs, hUc, hUb, hW, hD⟩ := F
  have l0 := (tc_uF7 hT hUb).2 c
  refine ⟨(f_length, f_inputs, f_sp, f_pc, f_zero, f_carry, f_allowed, f_asleep, f_halted, f_pending, f_resets, f_taken, nI T, f_data, f_serial, f_divider, f_sending, f_dueSent, f_received, f_overrun, f_sent, f_converter, f_result, f_dueResult, f_output, f_watch, f_dueWatch, f_address, f_storing, f_storeAt, f_storeControl, f_dueStore, f_mask, f_edges, tc_du f_dueSent f_dueResult f_dueWatch f_dueStore a_dueEqual a_dueOver, f_head, f_headAt, f_headFlags, f_stop, f_pure, a_op, a_opA, a_opB, a_vectors, a_analogs, a_r, a_m, a_stack, a_count, a_since, a_control, a_compare, a_dueEqual, a_dueOver, a_line, a_store, a_headR), (f_length, f_inputs, f_zero, f_carry, f_allowed, f_asleep, f_halted, f_sp, f_pc, nI T, g_passed, f_taken, f_resets, f_edges, f_sent, f_data, f_serial, f_divider, g_converter, f_result, f_output, f_watch, f_address, f_storeControl, f_mask, g_since, f_received, f_overrun, nI l_s, f_sending, nI l_c, nI l_b, f_storing, f_storeAt, a_op, b_opA, b_opB, a_vectors, a_analogs, b_store, a_r, a_m, a_stack, a_line, b_pending, b_count, a_control, a_compare), tc_RRi hLen hOp hA hB hAn hM hSt hR hR0 hZ hC hAl hAs hHa hRe hOv hPu hSp hT hSe hIn hDa hDi hRs hOu hWa hMa hSg hSo hAd hSA hSr hSC hCv hCw hPe hT0 hT1 hUs hUc hUb hW rfl, fun pcx post h => ?_, fun post h => ?_, rfl, rfl, rfl, rfl⟩
  · refine br_t (by decide) (br_f (by decide) (br_t (by decide) ?_))
    exact br_f (by decide) (br_t rfl (br_f c (br_f (by decide) (br_f (by decide) (tc_o201 h)))))
  · refine br_f (by decide) (br_f (by decide) (br_f (by decide) (br_f (by decide) (br_f (by decide) (br_f (by decide) (br_f (by decide) (br_f (by decide) (br_f (by decide) (br_f (by decide) (br_f (by decide) (br_f (by decide) (br_f (by decide) (br_f (by decide) (br_t rfl ?_))))))))))))))
    refine br_f (nI_ne0 (by omega) (by omega)) ?_
    exact br_f (by decide) (br_f (by decide) (h))
theorem tc_o18 {w : Int32} (F : tc_FF T f_length f_inputs f_sp f_pc f_zero f_carry f_allowed f_asleep f_halted f_pending f_resets f_taken f_data f_serial f_divider f_sending f_dueSent f_received f_overrun f_sent f_converter f_result f_dueResult f_output f_watch f_dueWatch f_address f_storing f_storeAt f_storeControl f_dueStore f_mask f_edges f_due f_head f_headAt f_headFlags f_stop f_pure a_op a_opA a_opB a_vectors a_analogs a_r a_m a_stack a_count a_since a_control a_compare a_dueEqual a_dueOver a_line a_store a_headR g_passed g_converter g_since l_s l_c l_b b_opA b_opB b_store b_pending b_count) (hw : tc_y8 w) : tc_OU 18 w T f_length f_inputs f_sp f_pc f_zero f_carry f_allowed f_asleep f_halted f_pending f_resets f_taken f_data f_serial f_divider f_sending f_dueSent f_received f_overrun f_sent f_converter f_result f_dueResult f_output f_watch f_dueWatch f_address f_storing f_storeAt f_storeControl f_dueStore f_mask f_edges f_due f_head f_headAt f_headFlags f_stop f_pure a_op a_opA a_opB a_vectors a_analogs a_r a_m a_stack a_count a_since a_control a_compare a_dueEqual a_dueOver a_line a_store a_headR g_passed g_converter g_since l_s l_c l_b b_opA b_opB b_store b_pending b_count := by
  obtain ⟨hLen, hOp, hA, hB, hAn, hM, hSt, hR, hR0, hZ, hC, hAl, hAs, hHa, hRe, hOv, hPu, hSp, hT, hSe, hIn, hDa, hDi, hRs, hOu, hWa, hMa, hSg, hSo, hAd, hSA, hSr, hSC, hCv, hCw, hPe, hT0, hT1, hUs, hUc, hUb, hW, hD⟩ := F
  refine ⟨(f_length, f_inputs, f_sp, f_pc, f_zero, f_carry, f_allowed, f_asleep, f_halted, f_pending, f_resets, f_taken, nI T, f_data, f_serial, f_divider, f_sending, f_dueSent, f_received, f_overrun, f_sent, f_converter, f_result, f_dueResult, f_output, f_watch, f_dueWatch, f_address, f_storing, f_storeAt, w &&& 8, f_dueStore, f_mask, f_edges, tc_du f_dueSent f_dueResult f_dueWatch f_dueStore a_dueEqual a_dueOver, f_head, f_headAt, f_headFlags, f_stop, f_pure, a_op, a_opA, a_opB, a_vectors, a_analogs, a_r, a_m, a_stack, a_count, a_since, a_control, a_compare, a_dueEqual, a_dueOver, a_line, a_store, a_headR), (f_length, f_inputs, f_zero, f_carry, f_allowed, f_asleep, f_halted, f_sp, f_pc, nI T, g_passed, f_taken, f_resets, f_edges, f_sent, f_data, f_serial, f_divider, g_converter, f_result, f_output, f_watch, f_address, w &&& 8, f_mask, g_since, f_received, f_overrun, nI l_s, f_sending, nI l_c, nI l_b, f_storing, f_storeAt, a_op, b_opA, b_opB, a_vectors, a_analogs, b_store, a_r, a_m, a_stack, a_line, b_pending, b_count, a_control, a_compare), tc_RRi hLen hOp hA hB hAn hM hSt hR hR0 hZ hC hAl hAs hHa hRe hOv hPu hSp hT hSe hIn hDa hDi hRs hOu hWa hMa hSg hSo hAd hSA hSr (tc_a8 w) hCv hCw hPe hT0 hT1 hUs hUc hUb hW rfl, fun pcx post h => ?_, fun post h => ?_, rfl, rfl, rfl, rfl⟩
  · refine br_t (by decide) (br_f (by decide) (br_t (by decide) ?_))
    exact br_f (by decide) (br_f (by decide) (br_t rfl (nm_e (br_f (by decide) (tc_o201 h)))))
  · refine br_f (by decide) (br_f (by decide) (br_f (by decide) (br_f (by decide) (br_f (by decide) (br_f (by decide) (br_f (by decide) (br_f (by decide) (br_f (by decide) (br_f (by decide) (br_f (by decide) (br_f (by decide) (br_f (by decide) (br_f (by decide) (br_f (by decide) (br_t rfl ?_)))))))))))))))
    refine nm_e ?_
    exact br_f (by decide) (h)
theorem tc_o19 {w : Int32} (F : tc_FF T f_length f_inputs f_sp f_pc f_zero f_carry f_allowed f_asleep f_halted f_pending f_resets f_taken f_data f_serial f_divider f_sending f_dueSent f_received f_overrun f_sent f_converter f_result f_dueResult f_output f_watch f_dueWatch f_address f_storing f_storeAt f_storeControl f_dueStore f_mask f_edges f_due f_head f_headAt f_headFlags f_stop f_pure a_op a_opA a_opB a_vectors a_analogs a_r a_m a_stack a_count a_since a_control a_compare a_dueEqual a_dueOver a_line a_store a_headR g_passed g_converter g_since l_s l_c l_b b_opA b_opB b_store b_pending b_count) (hw : tc_y8 w) : tc_OU 19 w T f_length f_inputs f_sp f_pc f_zero f_carry f_allowed f_asleep f_halted f_pending f_resets f_taken f_data f_serial f_divider f_sending f_dueSent f_received f_overrun f_sent f_converter f_result f_dueResult f_output f_watch f_dueWatch f_address f_storing f_storeAt f_storeControl f_dueStore f_mask f_edges f_due f_head f_headAt f_headFlags f_stop f_pure a_op a_opA a_opB a_vectors a_analogs a_r a_m a_stack a_count a_since a_control a_compare a_dueEqual a_dueOver a_line a_store a_headR g_passed g_converter g_since l_s l_c l_b b_opA b_opB b_store b_pending b_count := by
  obtain ⟨hLen, hOp, hA, hB, hAn, hM, hSt, hR, hR0, hZ, hC, hAl, hAs, hHa, hRe, hOv, hPu, hSp, hT, hSe, hIn, hDa, hDi, hRs, hOu, hWa, hMa, hSg, hSo, hAd, hSA, hSr, hSC, hCv, hCw, hPe, hT0, hT1, hUs, hUc, hUb, hW, hD⟩ := F
  refine ⟨(f_length, f_inputs, f_sp, f_pc, f_zero, f_carry, f_allowed, f_asleep, f_halted, f_pending, f_resets, f_taken, nI T, f_data, f_serial, f_divider, f_sending, f_dueSent, f_received, f_overrun, f_sent, f_converter, f_result, f_dueResult, f_output, f_watch, f_dueWatch, f_address, f_storing, f_storeAt, f_storeControl, f_dueStore, w, f_edges, tc_du f_dueSent f_dueResult f_dueWatch f_dueStore a_dueEqual a_dueOver, f_head, f_headAt, f_headFlags, f_stop, f_pure, a_op, a_opA, a_opB, a_vectors, a_analogs, a_r, a_m, a_stack, a_count, a_since, a_control, a_compare, a_dueEqual, a_dueOver, a_line, a_store, a_headR), (f_length, f_inputs, f_zero, f_carry, f_allowed, f_asleep, f_halted, f_sp, f_pc, nI T, g_passed, f_taken, f_resets, f_edges, f_sent, f_data, f_serial, f_divider, g_converter, f_result, f_output, f_watch, f_address, f_storeControl, w, g_since, f_received, f_overrun, nI l_s, f_sending, nI l_c, nI l_b, f_storing, f_storeAt, a_op, b_opA, b_opB, a_vectors, a_analogs, b_store, a_r, a_m, a_stack, a_line, b_pending, b_count, a_control, a_compare), tc_RRi hLen hOp hA hB hAn hM hSt hR hR0 hZ hC hAl hAs hHa hRe hOv hPu hSp hT hSe hIn hDa hDi hRs hOu hWa hw hSg hSo hAd hSA hSr hSC hCv hCw hPe hT0 hT1 hUs hUc hUb hW rfl, fun pcx post h => ?_, fun post h => ?_, rfl, rfl, rfl, rfl⟩
  · refine br_t (by decide) (br_f (by decide) (br_t (by decide) ?_))
    exact br_f (by decide) (br_f (by decide) (br_f (by decide) (br_t rfl (tc_o201 h))))
  · refine br_f (by decide) (br_f (by decide) (br_f (by decide) (br_f (by decide) (br_f (by decide) (br_f (by decide) (br_f (by decide) (br_f (by decide) (br_f (by decide) (br_f (by decide) (br_f (by decide) (br_f (by decide) (br_f (by decide) (br_f (by decide) (br_f (by decide) (br_f (by decide) (br_t rfl ?_))))))))))))))))
    exact h
theorem tc_ot0 {w : Int32} {t : Nat} (ht : t < 2) (F : tc_FF T f_length f_inputs f_sp f_pc f_zero f_carry f_allowed f_asleep f_halted f_pending f_resets f_taken f_data f_serial f_divider f_sending f_dueSent f_received f_overrun f_sent f_converter f_result f_dueResult f_output f_watch f_dueWatch f_address f_storing f_storeAt f_storeControl f_dueStore f_mask f_edges f_due f_head f_headAt f_headFlags f_stop f_pure a_op a_opA a_opB a_vectors a_analogs a_r a_m a_stack a_count a_since a_control a_compare a_dueEqual a_dueOver a_line a_store a_headR g_passed g_converter g_since l_s l_c l_b b_opA b_opB b_store b_pending b_count) (hw : tc_y8 w) : tc_OU (3 * t + 0) w T f_length f_inputs f_sp f_pc f_zero f_carry f_allowed f_asleep f_halted f_pending f_resets f_taken f_data f_serial f_divider f_sending f_dueSent f_received f_overrun f_sent f_converter f_result f_dueResult f_output f_watch f_dueWatch f_address f_storing f_storeAt f_storeControl f_dueStore f_mask f_edges f_due f_head f_headAt f_headFlags f_stop f_pure a_op a_opA a_opB a_vectors a_analogs a_r a_m a_stack a_count a_since a_control a_compare a_dueEqual a_dueOver a_line a_store a_headR g_passed g_converter g_since l_s l_c l_b b_opA b_opB b_store b_pending b_count := by
  obtain ⟨hLen, hOp, hA, hB, hAn, hM, hSt, hR, hR0, hZ, hC, hAl, hAs, hHa, hRe, hOv, hPu, hSp, hT, hSe, hIn, hDa, hDi, hRs, hOu, hWa, hMa, hSg, hSo, hAd, hSA, hSr, hSC, hCv, hCw, hPe, hT0, hT1, hUs, hUc, hUb, hW, hD⟩ := F
  have t01 : t = 0 ∨ t = 1 := by omega
  have all : ∀ j, j < 2 → tc_tF T (a_count j) (a_since j) (a_control j) (a_compare j) (a_dueEqual j) (a_dueOver j) (b_count j) := by
    intro j hj
    have : j = 0 ∨ j = 1 := by omega
    rcases this with e | e <;> rw [e]
    · exact hT0
    · exact hT1
  obtain ⟨c, s, k, m, y, hc, hs, hk, hm, hy, c8, hsT, k8, m8, ey, eE, eO⟩ := all t ht
  have y8 : y < 256 := by rw [ey]; exact tm_af_lt m8
  obtain ⟨wn, w8, ew⟩ := tc_y8_ex hw
  subst ew
  have e1 : nI (3 * t + 0) / 3 = nI t := by
    rw [show (3 : Int32) = nI 3 from rfl, pk_div (by omega) (by decide) (by decide)]
    exact congrArg nI (by omega)
  have e2 : nI (3 * t + 0) - nI (3 * t + 0) / 3 * 3 = nI 0 := by
    rw [show (3 : Int32) = nI 3 from rfl, pk_rem (by omega) (by decide) (by decide)]
    exact congrArg nI (by omega)
  have et := nI_clamp (n := t) (by omega)
  have vt : vp_in (nI t) 2 := vp_in_nI ht (by decide)
  have new : ∀ j, j < 2 → tc_tF T (upd (upd a_count t (nI y)) t (nI wn) j) (upd a_since t (nI T) j) (a_control j) (a_compare j) (upd a_dueEqual t (nI (tm_e T k m wn)) j) (upd a_dueOver t (nI (tm_o T k m wn)) j) (upd b_count t (nI wn) j) := by
    intro j hj
    by_cases ej : j = t
    · subst ej
      rw [pk_us, pk_us, hk, hm, pk_us, pk_us, pk_us]
      exact tc_tFn w8 k8 m8
    · rw [pk_un ej, pk_un ej, pk_un ej, pk_un ej, pk_un ej, pk_un ej]
      exact all j hj
  refine ⟨(f_length, f_inputs, f_sp, f_pc, f_zero, f_carry, f_allowed, f_asleep, f_halted, f_pending, f_resets, f_taken, nI T, f_data, f_serial, f_divider, f_sending, f_dueSent, f_received, f_overrun, f_sent, f_converter, f_result, f_dueResult, f_output, f_watch, f_dueWatch, f_address, f_storing, f_storeAt, f_storeControl, f_dueStore, f_mask, f_edges, tc_du f_dueSent f_dueResult f_dueWatch f_dueStore (upd a_dueEqual t (nI (tm_e T k m wn))) (upd a_dueOver t (nI (tm_o T k m wn))), f_head, f_headAt, f_headFlags, f_stop, f_pure, a_op, a_opA, a_opB, a_vectors, a_analogs, a_r, a_m, a_stack, upd (upd a_count t (nI y)) t (nI wn), upd a_since t (nI T), a_control, a_compare, upd a_dueEqual t (nI (tm_e T k m wn)), upd a_dueOver t (nI (tm_o T k m wn)), a_line, a_store, a_headR), (f_length, f_inputs, f_zero, f_carry, f_allowed, f_asleep, f_halted, f_sp, f_pc, nI T, g_passed, f_taken, f_resets, f_edges, f_sent, f_data, f_serial, f_divider, g_converter, f_result, f_output, f_watch, f_address, f_storeControl, f_mask, g_since, f_received, f_overrun, nI l_s, f_sending, nI l_c, nI l_b, f_storing, f_storeAt, a_op, b_opA, b_opB, a_vectors, a_analogs, b_store, a_r, a_m, a_stack, a_line, b_pending, upd b_count t (nI wn), a_control, a_compare), tc_RRi hLen hOp hA hB hAn hM hSt hR hR0 hZ hC hAl hAs hHa hRe hOv hPu hSp hT hSe hIn hDa hDi hRs hOu hWa hMa hSg hSo hAd hSA hSr hSC hCv hCw hPe (new 0 (by decide)) (new 1 (by decide)) hUs hUc hUb hW rfl, fun pcx post h => ?_, fun post h => ?_, rfl, rfl, rfl, rfl⟩
  · refine br_f (nI_ge (b := 6) (by omega) (by decide)) (And.intro tc_d13 (And.intro tc_d13 ?_))
    rw [e2, e1]
    unfold wpX_timer
    refine tc_fix ht hk k8 hc c8 hm m8 hs hsT (by omega) ?_
    rw [← ey]
    refine br_t rfl (And.intro vt (nm_e ?_))
    rw [et]
    refine br_f (by decide) (br_f (by decide) ?_)
    unfold wX_timer_40
    exact tc_plan (k := k) (m := m) (c := wn) ht hk k8 pk_us w8 hm m8 (by omega) h
  · have yc : wY_out_9 post (nI (3 * t + 0)) (nI wn) f_length f_inputs f_zero f_carry f_allowed f_asleep f_halted f_sp f_pc (nI T) g_passed f_taken f_resets f_edges f_sent f_data f_serial f_divider g_converter f_result f_output f_watch f_address f_storeControl f_mask g_since f_received f_overrun (nI l_s) f_sending (nI l_c) (nI l_b) f_storing f_storeAt a_op b_opA b_opB a_vectors a_analogs b_store a_r a_m a_stack a_line b_pending b_count a_control a_compare := by
      unfold wY_out_9
      rw [e1, et]
      refine And.intro tc_d13 (And.intro vt (nm_e ?_))
      rcases t01 with e | e
      · subst e
        exact br_f (by decide) (br_f (by decide) (br_f (by decide) (br_f (by decide) (br_f (by decide) (br_f (by decide) (br_f (by decide) (br_f (by decide) (br_f (by decide) (br_f (by decide) (br_f (by decide) (br_f (by decide) (br_f (by decide) (br_f (by decide) (br_f (by decide) (h)))))))))))))))
      · subst e
        exact br_f (by decide) (br_f (by decide) (br_f (by decide) (br_f (by decide) (br_f (by decide) (br_f (by decide) (br_f (by decide) (br_f (by decide) (br_f (by decide) (br_f (by decide) (br_f (by decide) (br_f (by decide) (br_f (by decide) (br_f (by decide) (br_f (by decide) (h)))))))))))))))
    rcases t01 with e | e
    · subst e
      exact br_t rfl yc
    · subst e
      exact br_f (by decide) (br_t rfl yc)
theorem tc_ot1 {w : Int32} {t : Nat} (ht : t < 2) (F : tc_FF T f_length f_inputs f_sp f_pc f_zero f_carry f_allowed f_asleep f_halted f_pending f_resets f_taken f_data f_serial f_divider f_sending f_dueSent f_received f_overrun f_sent f_converter f_result f_dueResult f_output f_watch f_dueWatch f_address f_storing f_storeAt f_storeControl f_dueStore f_mask f_edges f_due f_head f_headAt f_headFlags f_stop f_pure a_op a_opA a_opB a_vectors a_analogs a_r a_m a_stack a_count a_since a_control a_compare a_dueEqual a_dueOver a_line a_store a_headR g_passed g_converter g_since l_s l_c l_b b_opA b_opB b_store b_pending b_count) (hw : tc_y8 w) : tc_OU (3 * t + 1) w T f_length f_inputs f_sp f_pc f_zero f_carry f_allowed f_asleep f_halted f_pending f_resets f_taken f_data f_serial f_divider f_sending f_dueSent f_received f_overrun f_sent f_converter f_result f_dueResult f_output f_watch f_dueWatch f_address f_storing f_storeAt f_storeControl f_dueStore f_mask f_edges f_due f_head f_headAt f_headFlags f_stop f_pure a_op a_opA a_opB a_vectors a_analogs a_r a_m a_stack a_count a_since a_control a_compare a_dueEqual a_dueOver a_line a_store a_headR g_passed g_converter g_since l_s l_c l_b b_opA b_opB b_store b_pending b_count := by
  obtain ⟨hLen, hOp, hA, hB, hAn, hM, hSt, hR, hR0, hZ, hC, hAl, hAs, hHa, hRe, hOv, hPu, hSp, hT, hSe, hIn, hDa, hDi, hRs, hOu, hWa, hMa, hSg, hSo, hAd, hSA, hSr, hSC, hCv, hCw, hPe, hT0, hT1, hUs, hUc, hUb, hW, hD⟩ := F
  have t01 : t = 0 ∨ t = 1 := by omega
  have all : ∀ j, j < 2 → tc_tF T (a_count j) (a_since j) (a_control j) (a_compare j) (a_dueEqual j) (a_dueOver j) (b_count j) := by
    intro j hj
    have : j = 0 ∨ j = 1 := by omega
    rcases this with e | e <;> rw [e]
    · exact hT0
    · exact hT1
  obtain ⟨c, s, k, m, y, hc, hs, hk, hm, hy, c8, hsT, k8, m8, ey, eE, eO⟩ := all t ht
  have y8 : y < 256 := by rw [ey]; exact tm_af_lt m8
  obtain ⟨wn, w8, ew⟩ := tc_y8_ex hw
  subst ew
  have e1 : nI (3 * t + 1) / 3 = nI t := by
    rw [show (3 : Int32) = nI 3 from rfl, pk_div (by omega) (by decide) (by decide)]
    exact congrArg nI (by omega)
  have e2 : nI (3 * t + 1) - nI (3 * t + 1) / 3 * 3 = nI 1 := by
    rw [show (3 : Int32) = nI 3 from rfl, pk_rem (by omega) (by decide) (by decide)]
    exact congrArg nI (by omega)
  have et := nI_clamp (n := t) (by omega)
  have vt : vp_in (nI t) 2 := vp_in_nI ht (by decide)
  have new : ∀ j, j < 2 → tc_tF T (upd a_count t (nI y) j) (upd a_since t (nI T) j) (upd a_control t (nI wn) j) (a_compare j) (upd a_dueEqual t (nI (tm_e T wn m y)) j) (upd a_dueOver t (nI (tm_o T wn m y)) j) (b_count j) := by
    intro j hj
    by_cases ej : j = t
    · subst ej
      rw [pk_us, pk_us, pk_us, hm, pk_us, pk_us, hy]
      exact tc_tFn y8 w8 m8
    · rw [pk_un ej, pk_un ej, pk_un ej, pk_un ej, pk_un ej]
      exact all j hj
  refine ⟨(f_length, f_inputs, f_sp, f_pc, f_zero, f_carry, f_allowed, f_asleep, f_halted, f_pending, f_resets, f_taken, nI T, f_data, f_serial, f_divider, f_sending, f_dueSent, f_received, f_overrun, f_sent, f_converter, f_result, f_dueResult, f_output, f_watch, f_dueWatch, f_address, f_storing, f_storeAt, f_storeControl, f_dueStore, f_mask, f_edges, tc_du f_dueSent f_dueResult f_dueWatch f_dueStore (upd a_dueEqual t (nI (tm_e T wn m y))) (upd a_dueOver t (nI (tm_o T wn m y))), f_head, f_headAt, f_headFlags, f_stop, f_pure, a_op, a_opA, a_opB, a_vectors, a_analogs, a_r, a_m, a_stack, upd a_count t (nI y), upd a_since t (nI T), upd a_control t (nI wn), a_compare, upd a_dueEqual t (nI (tm_e T wn m y)), upd a_dueOver t (nI (tm_o T wn m y)), a_line, a_store, a_headR), (f_length, f_inputs, f_zero, f_carry, f_allowed, f_asleep, f_halted, f_sp, f_pc, nI T, g_passed, f_taken, f_resets, f_edges, f_sent, f_data, f_serial, f_divider, g_converter, f_result, f_output, f_watch, f_address, f_storeControl, f_mask, g_since, f_received, f_overrun, nI l_s, f_sending, nI l_c, nI l_b, f_storing, f_storeAt, a_op, b_opA, b_opB, a_vectors, a_analogs, b_store, a_r, a_m, a_stack, a_line, b_pending, b_count, upd a_control t (nI wn), a_compare), tc_RRi hLen hOp hA hB hAn hM hSt hR hR0 hZ hC hAl hAs hHa hRe hOv hPu hSp hT hSe hIn hDa hDi hRs hOu hWa hMa hSg hSo hAd hSA hSr hSC hCv hCw hPe (new 0 (by decide)) (new 1 (by decide)) hUs hUc hUb hW rfl, fun pcx post h => ?_, fun post h => ?_, rfl, rfl, rfl, rfl⟩
  · refine br_f (nI_ge (b := 6) (by omega) (by decide)) (And.intro tc_d13 (And.intro tc_d13 ?_))
    rw [e2, e1]
    unfold wpX_timer
    refine tc_fix ht hk k8 hc c8 hm m8 hs hsT (by omega) ?_
    rw [← ey]
    refine br_f (by decide) (br_t rfl (And.intro vt (nm_e ?_)))
    rw [et]
    refine br_f (by decide) ?_
    unfold wX_timer_40
    exact tc_plan (k := wn) (m := m) (c := y) ht pk_us w8 pk_us y8 hm m8 (by omega) h
  · have yc : wY_out_28 post (nI (3 * t + 1)) (nI wn) f_length f_inputs f_zero f_carry f_allowed f_asleep f_halted f_sp f_pc (nI T) g_passed f_taken f_resets f_edges f_sent f_data f_serial f_divider g_converter f_result f_output f_watch f_address f_storeControl f_mask g_since f_received f_overrun (nI l_s) f_sending (nI l_c) (nI l_b) f_storing f_storeAt a_op b_opA b_opB a_vectors a_analogs b_store a_r a_m a_stack a_line b_pending b_count a_control a_compare := by
      unfold wY_out_28
      rw [e1, et]
      refine And.intro tc_d13 (And.intro vt (nm_e ?_))
      rcases t01 with e | e
      · subst e
        exact br_f (by decide) (br_f (by decide) (br_f (by decide) (br_f (by decide) (br_f (by decide) (br_f (by decide) (br_f (by decide) (br_f (by decide) (br_f (by decide) (br_f (by decide) (br_f (by decide) (br_f (by decide) (br_f (by decide) (h)))))))))))))
      · subst e
        exact br_f (by decide) (br_f (by decide) (br_f (by decide) (br_f (by decide) (br_f (by decide) (br_f (by decide) (br_f (by decide) (br_f (by decide) (br_f (by decide) (br_f (by decide) (br_f (by decide) (br_f (by decide) (br_f (by decide) (h)))))))))))))
    rcases t01 with e | e
    · subst e
      exact br_f (by decide) (br_f (by decide) (br_t rfl yc))
    · subst e
      exact br_f (by decide) (br_f (by decide) (br_f (by decide) (br_t rfl yc)))
theorem tc_ot2 {w : Int32} {t : Nat} (ht : t < 2) (F : tc_FF T f_length f_inputs f_sp f_pc f_zero f_carry f_allowed f_asleep f_halted f_pending f_resets f_taken f_data f_serial f_divider f_sending f_dueSent f_received f_overrun f_sent f_converter f_result f_dueResult f_output f_watch f_dueWatch f_address f_storing f_storeAt f_storeControl f_dueStore f_mask f_edges f_due f_head f_headAt f_headFlags f_stop f_pure a_op a_opA a_opB a_vectors a_analogs a_r a_m a_stack a_count a_since a_control a_compare a_dueEqual a_dueOver a_line a_store a_headR g_passed g_converter g_since l_s l_c l_b b_opA b_opB b_store b_pending b_count) (hw : tc_y8 w) : tc_OU (3 * t + 2) w T f_length f_inputs f_sp f_pc f_zero f_carry f_allowed f_asleep f_halted f_pending f_resets f_taken f_data f_serial f_divider f_sending f_dueSent f_received f_overrun f_sent f_converter f_result f_dueResult f_output f_watch f_dueWatch f_address f_storing f_storeAt f_storeControl f_dueStore f_mask f_edges f_due f_head f_headAt f_headFlags f_stop f_pure a_op a_opA a_opB a_vectors a_analogs a_r a_m a_stack a_count a_since a_control a_compare a_dueEqual a_dueOver a_line a_store a_headR g_passed g_converter g_since l_s l_c l_b b_opA b_opB b_store b_pending b_count := by
  obtain ⟨hLen, hOp, hA, hB, hAn, hM, hSt, hR, hR0, hZ, hC, hAl, hAs, hHa, hRe, hOv, hPu, hSp, hT, hSe, hIn, hDa, hDi, hRs, hOu, hWa, hMa, hSg, hSo, hAd, hSA, hSr, hSC, hCv, hCw, hPe, hT0, hT1, hUs, hUc, hUb, hW, hD⟩ := F
  have t01 : t = 0 ∨ t = 1 := by omega
  have all : ∀ j, j < 2 → tc_tF T (a_count j) (a_since j) (a_control j) (a_compare j) (a_dueEqual j) (a_dueOver j) (b_count j) := by
    intro j hj
    have : j = 0 ∨ j = 1 := by omega
    rcases this with e | e <;> rw [e]
    · exact hT0
    · exact hT1
  obtain ⟨c, s, k, m, y, hc, hs, hk, hm, hy, c8, hsT, k8, m8, ey, eE, eO⟩ := all t ht
  have y8 : y < 256 := by rw [ey]; exact tm_af_lt m8
  obtain ⟨wn, w8, ew⟩ := tc_y8_ex hw
  subst ew
  have e1 : nI (3 * t + 2) / 3 = nI t := by
    rw [show (3 : Int32) = nI 3 from rfl, pk_div (by omega) (by decide) (by decide)]
    exact congrArg nI (by omega)
  have e2 : nI (3 * t + 2) - nI (3 * t + 2) / 3 * 3 = nI 2 := by
    rw [show (3 : Int32) = nI 3 from rfl, pk_rem (by omega) (by decide) (by decide)]
    exact congrArg nI (by omega)
  have et := nI_clamp (n := t) (by omega)
  have vt : vp_in (nI t) 2 := vp_in_nI ht (by decide)
  have new : ∀ j, j < 2 → tc_tF T (upd a_count t (nI y) j) (upd a_since t (nI T) j) (a_control j) (upd a_compare t (nI wn) j) (upd a_dueEqual t (nI (tm_e T k wn y)) j) (upd a_dueOver t (nI (tm_o T k wn y)) j) (b_count j) := by
    intro j hj
    by_cases ej : j = t
    · subst ej
      rw [pk_us, pk_us, hk, pk_us, pk_us, pk_us, hy]
      exact tc_tFn y8 k8 w8
    · rw [pk_un ej, pk_un ej, pk_un ej, pk_un ej, pk_un ej]
      exact all j hj
  refine ⟨(f_length, f_inputs, f_sp, f_pc, f_zero, f_carry, f_allowed, f_asleep, f_halted, f_pending, f_resets, f_taken, nI T, f_data, f_serial, f_divider, f_sending, f_dueSent, f_received, f_overrun, f_sent, f_converter, f_result, f_dueResult, f_output, f_watch, f_dueWatch, f_address, f_storing, f_storeAt, f_storeControl, f_dueStore, f_mask, f_edges, tc_du f_dueSent f_dueResult f_dueWatch f_dueStore (upd a_dueEqual t (nI (tm_e T k wn y))) (upd a_dueOver t (nI (tm_o T k wn y))), f_head, f_headAt, f_headFlags, f_stop, f_pure, a_op, a_opA, a_opB, a_vectors, a_analogs, a_r, a_m, a_stack, upd a_count t (nI y), upd a_since t (nI T), a_control, upd a_compare t (nI wn), upd a_dueEqual t (nI (tm_e T k wn y)), upd a_dueOver t (nI (tm_o T k wn y)), a_line, a_store, a_headR), (f_length, f_inputs, f_zero, f_carry, f_allowed, f_asleep, f_halted, f_sp, f_pc, nI T, g_passed, f_taken, f_resets, f_edges, f_sent, f_data, f_serial, f_divider, g_converter, f_result, f_output, f_watch, f_address, f_storeControl, f_mask, g_since, f_received, f_overrun, nI l_s, f_sending, nI l_c, nI l_b, f_storing, f_storeAt, a_op, b_opA, b_opB, a_vectors, a_analogs, b_store, a_r, a_m, a_stack, a_line, b_pending, b_count, a_control, upd a_compare t (nI wn)), tc_RRi hLen hOp hA hB hAn hM hSt hR hR0 hZ hC hAl hAs hHa hRe hOv hPu hSp hT hSe hIn hDa hDi hRs hOu hWa hMa hSg hSo hAd hSA hSr hSC hCv hCw hPe (new 0 (by decide)) (new 1 (by decide)) hUs hUc hUb hW rfl, fun pcx post h => ?_, fun post h => ?_, rfl, rfl, rfl, rfl⟩
  · refine br_f (nI_ge (b := 6) (by omega) (by decide)) (And.intro tc_d13 (And.intro tc_d13 ?_))
    rw [e2, e1]
    unfold wpX_timer
    refine tc_fix ht hk k8 hc c8 hm m8 hs hsT (by omega) ?_
    rw [← ey]
    refine br_f (by decide) (br_f (by decide) (br_t rfl (And.intro vt (nm_e ?_))))
    rw [et]
    unfold wX_timer_40
    exact tc_plan (k := k) (m := wn) (c := y) ht hk k8 pk_us y8 pk_us w8 (by omega) h
  · have yc : wY_out_47 post (nI (3 * t + 2)) (nI wn) f_length f_inputs f_zero f_carry f_allowed f_asleep f_halted f_sp f_pc (nI T) g_passed f_taken f_resets f_edges f_sent f_data f_serial f_divider g_converter f_result f_output f_watch f_address f_storeControl f_mask g_since f_received f_overrun (nI l_s) f_sending (nI l_c) (nI l_b) f_storing f_storeAt a_op b_opA b_opB a_vectors a_analogs b_store a_r a_m a_stack a_line b_pending b_count a_control a_compare := by
      unfold wY_out_47
      rw [e1, et]
      refine And.intro tc_d13 (And.intro vt (nm_e ?_))
      rcases t01 with e | e
      · subst e
        exact br_f (by decide) (br_f (by decide) (br_f (by decide) (br_f (by decide) (br_f (by decide) (br_f (by decide) (br_f (by decide) (br_f (by decide) (br_f (by decide) (br_f (by decide) (br_f (by decide) (h)))))))))))
      · subst e
        exact br_f (by decide) (br_f (by decide) (br_f (by decide) (br_f (by decide) (br_f (by decide) (br_f (by decide) (br_f (by decide) (br_f (by decide) (br_f (by decide) (br_f (by decide) (br_f (by decide) (h)))))))))))
    rcases t01 with e | e
    · subst e
      exact br_f (by decide) (br_f (by decide) (br_f (by decide) (br_f (by decide) (br_t rfl yc))))
    · subst e
      exact br_f (by decide) (br_f (by decide) (br_f (by decide) (br_f (by decide) (br_f (by decide) (br_t rfl yc)))))
theorem tc_out {w : Int32} (F : tc_FF T f_length f_inputs f_sp f_pc f_zero f_carry f_allowed f_asleep f_halted f_pending f_resets f_taken f_data f_serial f_divider f_sending f_dueSent f_received f_overrun f_sent f_converter f_result f_dueResult f_output f_watch f_dueWatch f_address f_storing f_storeAt f_storeControl f_dueStore f_mask f_edges f_due f_head f_headAt f_headFlags f_stop f_pure a_op a_opA a_opB a_vectors a_analogs a_r a_m a_stack a_count a_since a_control a_compare a_dueEqual a_dueOver a_line a_store a_headR g_passed g_converter g_since l_s l_c l_b b_opA b_opB b_store b_pending b_count) (hq : q < 32) (hw : tc_y8 w) : tc_OU q w T f_length f_inputs f_sp f_pc f_zero f_carry f_allowed f_asleep f_halted f_pending f_resets f_taken f_data f_serial f_divider f_sending f_dueSent f_received f_overrun f_sent f_converter f_result f_dueResult f_output f_watch f_dueWatch f_address f_storing f_storeAt f_storeControl f_dueStore f_mask f_edges f_due f_head f_headAt f_headFlags f_stop f_pure a_op a_opA a_opB a_vectors a_analogs a_r a_m a_stack a_count a_since a_control a_compare a_dueEqual a_dueOver a_line a_store a_headR g_passed g_converter g_since l_s l_c l_b b_opA b_opB b_store b_pending b_count := by
  have : (∃ t wh, t < 2 ∧ wh < 3 ∧ q = 3 * t + wh) ∨ q = 6 ∨ q = 7 ∨ q = 8 ∨ q = 9 ∨ q = 11 ∨ q = 12 ∨ q = 14 ∨ q = 16 ∨ q = 17 ∨ q = 18 ∨ q = 19 ∨ (q = 10 ∨ q = 13 ∨ q = 15 ∨ (20 ≤ q ∧ q < 32)) := by
    by_cases h6 : q < 6
    · exact Or.inl ⟨q / 3, q % 3, by omega, by omega, by omega⟩
    · omega
  rcases this with ⟨t, wh, ht, hwh, rfl⟩ | rfl | rfl | rfl | rfl | rfl | rfl | rfl | rfl | rfl | rfl | rfl | h
  · have : wh = 0 ∨ wh = 1 ∨ wh = 2 := by omega
    rcases this with rfl | rfl | rfl
    · exact tc_ot0 ht F hw
    · exact tc_ot1 ht F hw
    · exact tc_ot2 ht F hw
  · by_cases c : f_dueSent = 2147483647
    · exact tc_o6a F hw c
    · exact tc_o6b F hw c
  · exact tc_o7 F hw
  · exact tc_o8 F hw
  · by_cases c : w &&& 4 = 0
    · exact tc_o9a F hw c
    · by_cases c2 : f_dueResult = 2147483647
      · exact tc_o9b F hw c c2
      · exact tc_o9c F hw c c2
  · exact tc_o11 F hw
  · exact tc_o12 F hw
  · exact tc_o14 F hw
  · exact tc_o16 F hw
  · by_cases c : f_dueStore = 2147483647
    · exact tc_o17a F hw c
    · exact tc_o17b F hw c
  · exact tc_o18 F hw
  · exact tc_o19 F hw
  · exact tc_oN F h
end
end
section
/-! OUT; every instruction -/
section
variable {post : SX → Prop} {o : Nat} {f_now : Int32} {f_length f_inputs f_sp f_pc f_zero f_carry f_allowed f_asleep f_halted f_pending f_resets f_taken f_data f_serial f_divider f_sending f_dueSent f_received f_overrun f_sent f_converter f_result f_dueResult f_output f_watch f_dueWatch f_address f_storing f_storeAt f_storeControl f_dueStore f_mask f_edges f_due f_head f_headAt f_headFlags f_stop f_pure : Int32} {a_op a_opA a_opB a_vectors a_analogs a_r a_m a_stack a_count a_since a_control a_compare a_dueEqual a_dueOver a_line a_store a_headR : Nat → Int32}
theorem tc_X192g {x1 x5 : Int32} (ho : o < 14 ∨ (22 ≤ o ∧ o ≤ 25)) (h : wX_step_220 post x1 (nI o) x5 f_length f_inputs f_sp (f_pc + 1) f_zero f_carry f_allowed f_asleep f_halted f_pending f_resets f_taken f_now f_data f_serial f_divider f_sending f_dueSent f_received f_overrun f_sent f_converter f_result f_dueResult f_output f_watch f_dueWatch f_address f_storing f_storeAt f_storeControl f_dueStore f_mask f_edges f_due f_head f_headAt f_headFlags f_stop f_pure a_op a_opA a_opB a_vectors a_analogs a_r a_m a_stack a_count a_since a_control a_compare a_dueEqual a_dueOver a_line a_store a_headR) : wX_step_192 post x1 (nI o) x5 f_length f_inputs f_sp f_pc f_zero f_carry f_allowed f_asleep f_halted f_pending f_resets f_taken f_now f_data f_serial f_divider f_sending f_dueSent f_received f_overrun f_sent f_converter f_result f_dueResult f_output f_watch f_dueWatch f_address f_storing f_storeAt f_storeControl f_dueStore f_mask f_edges f_due f_head f_headAt f_headFlags f_stop f_pure a_op a_opA a_opB a_vectors a_analogs a_r a_m a_stack a_count a_since a_control a_compare a_dueEqual a_dueOver a_line a_store a_headR :=
  pk_lt o 14 (fun _ => nm_e h) (fun h14 => pk_le o 21 (fun z => absurd z (by omega)) (fun _ => pk_eq o 26 (fun z => absurd z (by omega)) (fun _ => nm_e h)))
end
section
variable {T i l o : Nat} {f_length f_inputs f_sp f_pc f_zero f_carry f_allowed f_asleep f_halted f_pending f_resets f_taken f_data f_serial f_divider f_sending f_dueSent f_received f_overrun f_sent f_converter f_result f_dueResult f_output f_watch f_dueWatch f_address f_storing f_storeAt f_storeControl f_dueStore f_mask f_edges f_due f_head f_headAt f_headFlags f_stop f_pure : Int32} {a_op a_opA a_opB a_vectors a_analogs a_r a_m a_stack a_count a_since a_control a_compare a_dueEqual a_dueOver a_line a_store a_headR : Nat → Int32} {g_passed g_converter g_since : Int32} {l_s l_c l_b : Nat} {b_opA b_opB b_store b_pending b_count : Nat → Int32}
theorem tc_ex13 (F : tc_FF T f_length f_inputs f_sp f_pc f_zero f_carry f_allowed f_asleep f_halted f_pending f_resets f_taken f_data f_serial f_divider f_sending f_dueSent f_received f_overrun f_sent f_converter f_result f_dueResult f_output f_watch f_dueWatch f_address f_storing f_storeAt f_storeControl f_dueStore f_mask f_edges f_due f_head f_headAt f_headFlags f_stop f_pure a_op a_opA a_opB a_vectors a_analogs a_r a_m a_stack a_count a_since a_control a_compare a_dueEqual a_dueOver a_line a_store a_headR g_passed g_converter g_since l_s l_c l_b b_opA b_opB b_store b_pending b_count) (hl : f_length = nI l) (hil : i < l) (l48 : l ≤ 48) (ho : a_op i = nI 13) : tc_E2 T (f_length, f_inputs, f_sp, nI i, f_zero, f_carry, f_allowed, f_asleep, f_halted, f_pending, f_resets, f_taken, nI T, f_data, f_serial, f_divider, f_sending, f_dueSent, f_received, f_overrun, f_sent, f_converter, f_result, f_dueResult, f_output, f_watch, f_dueWatch, f_address, f_storing, f_storeAt, f_storeControl, f_dueStore, f_mask, f_edges, f_due, f_head, f_headAt, f_headFlags, f_stop, f_pure, a_op, a_opA, a_opB, a_vectors, a_analogs, a_r, a_m, a_stack, a_count, a_since, a_control, a_compare, a_dueEqual, a_dueOver, a_line, a_store, a_headR) (f_length, f_inputs, f_zero, f_carry, f_allowed, f_asleep, f_halted, f_sp, nI i, nI T, g_passed, f_taken, f_resets, f_edges, f_sent, f_data, f_serial, f_divider, g_converter, f_result, f_output, f_watch, f_address, f_storeControl, f_mask, g_since, f_received, f_overrun, nI l_s, f_sending, nI l_c, nI l_b, f_storing, f_storeAt, a_op, b_opA, b_opB, a_vectors, a_analogs, b_store, a_r, a_m, a_stack, a_line, b_pending, b_count, a_control, a_compare) := by
  obtain ⟨hLen, hOp, hA, hB, hAn, hM, hSt, hR, hR0, hZ, hC, hAl, hAs, hHa, hRe, hOv, hPu, hSp, hT, hSe, hIn, hDa, hDi, hRs, hOu, hWa, hMa, hSg, hSo, hAd, hSA, hSr, hSC, hCv, hCw, hPe, hT0, hT1, hUs, hUc, hUb, hW, hD⟩ := F
  have hp := tc_opA hA i
  obtain ⟨q, hq, hx⟩ := pk_andE (a_opB i) (m := 31) 5 (by decide)
  have hq : q < 32 := hq
  obtain ⟨u', v', R, oX, oY, epc, est, epu, eps⟩ := tc_out (T := T) (f_length := f_length) (f_inputs := f_inputs) (f_sp := f_sp) (f_pc := nI i + 1) (f_zero := f_zero) (f_carry := f_carry) (f_allowed := f_allowed) (f_asleep := f_asleep) (f_halted := f_halted) (f_pending := f_pending) (f_resets := f_resets) (f_taken := f_taken) (f_data := f_data) (f_serial := f_serial) (f_divider := f_divider) (f_sending := f_sending) (f_dueSent := f_dueSent) (f_received := f_received) (f_overrun := f_overrun) (f_sent := f_sent) (f_converter := f_converter) (f_result := f_result) (f_dueResult := f_dueResult) (f_output := f_output) (f_watch := f_watch) (f_dueWatch := f_dueWatch) (f_address := f_address) (f_storing := f_storing) (f_storeAt := f_storeAt) (f_storeControl := f_storeControl) (f_dueStore := f_dueStore) (f_mask := f_mask) (f_edges := f_edges) (f_due := f_due) (f_head := f_head) (f_headAt := f_headAt) (f_headFlags := f_headFlags) (f_stop := f_stop) (f_pure := 0) (a_op := a_op) (a_opA := a_opA) (a_opB := a_opB) (a_vectors := a_vectors) (a_analogs := a_analogs) (a_r := a_r) (a_m := a_m) (a_stack := a_stack) (a_count := a_count) (a_since := a_since) (a_control := a_control) (a_compare := a_compare) (a_dueEqual := a_dueEqual) (a_dueOver := a_dueOver) (a_line := a_line) (a_store := a_store) (a_headR := a_headR) (g_passed := g_passed) (g_converter := g_converter) (g_since := g_since) (l_s := l_s) (l_c := l_c) (l_b := l_b) (b_opA := b_opA) (b_opB := b_opB) (b_store := b_store) (b_pending := b_pending) (b_count := b_count) ⟨hLen, hOp, hA, hB, hAn, hM, hSt, hR, hR0, hZ, hC, hAl, hAs, hHa, hRe, hOv, tc_bo0, hSp, hT, hSe, hIn, hDa, hDi, hRs, hOu, hWa, hMa, hSg, hSo, hAd, hSA, hSr, hSC, hCv, hCw, hPe, hT0, hT1, hUs, hUc, hUb, hW, hD⟩ hq (hR (a_opA i).toNatClampNeg)
  refine ⟨u', v', 1, by omega, by omega, ⟨nI i, nI 13, fun post h => ?_⟩, fun post h => tc_yexI (by omega) hA ?_, R, epu, est, eps⟩
  · refine tc_X117 hl hil l48 ho (by omega) ?_
    refine br_t (by decide) (br_f (by decide) (br_f (by decide) (br_f (by decide) (br_t rfl ?_))))
    refine br_f (by decide) (br_t (by decide) (And.intro hp ?_))
    rw [hx]
    refine oX (nI i) _ ?_
    clear oX oY R est epu
    obtain ⟨f_length', f_inputs', f_sp', f_pc', rest⟩ := u'
    obtain ⟨z1, z2, z3, z4, z5, z6, z7, z8, z9, z10, z11, z12, z13, z14, z15, z16, z17, z18, z19, z20, rest⟩ := rest
    obtain ⟨y1, y2, y3, y4, y5, y6, y7, y8, y9, y10, y11, y12, y13, y14, y15, y16, y17, y18, y19, y20, y21, y22, y23, y24, y25, y26, y27, y28, y29, y30, y31, y32, y33⟩ := rest
    have epc : f_pc' = nI i + 1 := epc
    subst epc
    exact tc_X192g (o := 13) (by omega) h
  · have e7 : b_opB i &&& 7 = a_opB i &&& 7 := by rw [hB i, tc_b7]
    have e31 : b_opB i &&& 31 = nI q := by rw [← hx, hB i, tc_b31]
    rw [ho]
    refine tc_Y80 hp e7 (by omega) (by omega) ?_
    refine br_t (by decide) (br_f (by decide) ?_)
    refine br_f (by decide) (br_f (by decide) (And.intro (tc_and7i _) ?_))
    refine br_f (by decide) (br_f (by decide) (br_f (by decide) (br_f (by decide) (br_f (by decide) (br_t rfl (And.intro hp ?_))))))
    rw [e31]
    refine oY _ ?_
    clear oX oY R eps
    obtain ⟨f_length, f_inputs, f_zero, f_carry, f_allowed, f_asleep, f_halted, f_sp, f_pc, f_now, g_passed, f_taken, f_resets, f_edges, f_sent, f_data, f_serial, f_divider, g_converter, f_result, f_output, f_watch, f_address, f_storeControl, f_mask, g_since, f_received, f_overrun, l_s, f_sending, l_c, l_b, f_storing, f_storeAt, a_op, b_opA, b_opB, a_vectors, a_analogs, b_store, a_r, a_m, a_stack, a_line, b_pending, b_count, a_control, a_compare⟩ := v'
    exact br_t (by decide) h
theorem tc_execT (F : tc_FF T f_length f_inputs f_sp f_pc f_zero f_carry f_allowed f_asleep f_halted f_pending f_resets f_taken f_data f_serial f_divider f_sending f_dueSent f_received f_overrun f_sent f_converter f_result f_dueResult f_output f_watch f_dueWatch f_address f_storing f_storeAt f_storeControl f_dueStore f_mask f_edges f_due f_head f_headAt f_headFlags f_stop f_pure a_op a_opA a_opB a_vectors a_analogs a_r a_m a_stack a_count a_since a_control a_compare a_dueEqual a_dueOver a_line a_store a_headR g_passed g_converter g_since l_s l_c l_b b_opA b_opB b_store b_pending b_count) (hl : f_length = nI l) (hil : i < l) (l48 : l ≤ 48) (h0 : f_halted = 0) (ho : a_op i = nI o) (o26 : o ≤ 26) :
    tc_E0 T (f_length, f_inputs, f_sp, nI i, f_zero, f_carry, f_allowed, f_asleep, f_halted, f_pending, f_resets, f_taken, nI T, f_data, f_serial, f_divider, f_sending, f_dueSent, f_received, f_overrun, f_sent, f_converter, f_result, f_dueResult, f_output, f_watch, f_dueWatch, f_address, f_storing, f_storeAt, f_storeControl, f_dueStore, f_mask, f_edges, f_due, f_head, f_headAt, f_headFlags, f_stop, f_pure, a_op, a_opA, a_opB, a_vectors, a_analogs, a_r, a_m, a_stack, a_count, a_since, a_control, a_compare, a_dueEqual, a_dueOver, a_line, a_store, a_headR) (f_length, f_inputs, f_zero, f_carry, f_allowed, f_asleep, f_halted, f_sp, nI i, nI T, g_passed, f_taken, f_resets, f_edges, f_sent, f_data, f_serial, f_divider, g_converter, f_result, f_output, f_watch, f_address, f_storeControl, f_mask, g_since, f_received, f_overrun, nI l_s, f_sending, nI l_c, nI l_b, f_storing, f_storeAt, a_op, b_opA, b_opB, a_vectors, a_analogs, b_store, a_r, a_m, a_stack, a_line, b_pending, b_count, a_control, a_compare) ∨ tc_E1 (f_length, f_inputs, f_sp, nI i, f_zero, f_carry, f_allowed, f_asleep, f_halted, f_pending, f_resets, f_taken, nI T, f_data, f_serial, f_divider, f_sending, f_dueSent, f_received, f_overrun, f_sent, f_converter, f_result, f_dueResult, f_output, f_watch, f_dueWatch, f_address, f_storing, f_storeAt, f_storeControl, f_dueStore, f_mask, f_edges, f_due, f_head, f_headAt, f_headFlags, f_stop, f_pure, a_op, a_opA, a_opB, a_vectors, a_analogs, a_r, a_m, a_stack, a_count, a_since, a_control, a_compare, a_dueEqual, a_dueOver, a_line, a_store, a_headR) ∨ tc_E2 T (f_length, f_inputs, f_sp, nI i, f_zero, f_carry, f_allowed, f_asleep, f_halted, f_pending, f_resets, f_taken, nI T, f_data, f_serial, f_divider, f_sending, f_dueSent, f_received, f_overrun, f_sent, f_converter, f_result, f_dueResult, f_output, f_watch, f_dueWatch, f_address, f_storing, f_storeAt, f_storeControl, f_dueStore, f_mask, f_edges, f_due, f_head, f_headAt, f_headFlags, f_stop, f_pure, a_op, a_opA, a_opB, a_vectors, a_analogs, a_r, a_m, a_stack, a_count, a_since, a_control, a_compare, a_dueEqual, a_dueOver, a_line, a_store, a_headR) (f_length, f_inputs, f_zero, f_carry, f_allowed, f_asleep, f_halted, f_sp, nI i, nI T, g_passed, f_taken, f_resets, f_edges, f_sent, f_data, f_serial, f_divider, g_converter, f_result, f_output, f_watch, f_address, f_storeControl, f_mask, g_since, f_received, f_overrun, nI l_s, f_sending, nI l_c, nI l_b, f_storing, f_storeAt, a_op, b_opA, b_opB, a_vectors, a_analogs, b_store, a_r, a_m, a_stack, a_line, b_pending, b_count, a_control, a_compare) := by
  have : o < 8 ∨ o = 8 ∨ o = 9 ∨ o = 10 ∨ o = 11 ∨ o = 12 ∨ o = 13 ∨ o = 14 ∨ o = 15 ∨ o = 16 ∨ o = 17 ∨ o = 18 ∨ o = 19 ∨ o = 20 ∨ o = 21 ∨ o = 22 ∨ o = 23 ∨ o = 24 ∨ o = 25 ∨ o = 26 := by omega
  rcases this with h | rfl | rfl | rfl | rfl | rfl | rfl | rfl | rfl | rfl | rfl | rfl | rfl | rfl | rfl | rfl | rfl | rfl | rfl | rfl
  · exact Or.inr (Or.inl (tc_exCalc F hl hil l48 ho h))
  · exact Or.inr (Or.inl (tc_ex8 F hl hil l48 ho))
  · exact Or.inr (Or.inr (tc_ex9 F hl hil l48 ho))
  · exact Or.inr (Or.inl (tc_ex10 F hl hil l48 ho))
  · exact Or.inr (Or.inr (tc_ex11 F hl hil l48 ho))
  · exact Or.inr (tc_ex12 F hl hil l48 ho)
  · exact Or.inr (Or.inr (tc_ex13 F hl hil l48 ho))
  · exact Or.inr (Or.inl (tc_ex14 F hl hil l48 h0 ho))
  · exact Or.inr (Or.inl (tc_ex15 F hl hil l48 h0 ho))
  · exact Or.inr (Or.inl (tc_ex16 F hl hil l48 h0 ho))
  · rcases tc_ex17 F hl hil l48 h0 ho with z | z
    · exact Or.inl z
    · exact Or.inr (Or.inr z)
  · rcases tc_ex18 F hl hil l48 h0 ho with z | z
    · exact Or.inl z
    · exact Or.inr (Or.inr z)
  · rcases tc_ex19 F hl hil l48 h0 ho with z | z
    · exact Or.inl z
    · exact Or.inr (Or.inr z)
  · rcases tc_ex20 F hl hil l48 h0 ho with z | z
    · exact Or.inl z
    · exact Or.inr (Or.inr z)
  · rcases tc_ex21 F hl hil l48 h0 ho with z | z
    · exact Or.inl z
    · exact Or.inr (Or.inr z)
  · exact Or.inr (Or.inr (tc_ex22 F hl hil l48 ho))
  · exact Or.inr (Or.inr (tc_ex23 F hl hil l48 ho))
  · exact Or.inr (Or.inr (tc_ex24 F hl hil l48 ho))
  · exact Or.inr (Or.inr (tc_ex25 F hl hil l48 ho))
  · exact Or.inr (Or.inl (tc_ex26 F hl hil l48 h0 ho))
end
end
section
/-! which interrupt is ready: X's mask, Y's search -/
def tc_en0 (c0 c1 : Int32) : Int32 := ((c0 >>> ((3 : Int32) &&& 31)) &&& 3) ||| (((c1 >>> ((3 : Int32) &&& 31)) &&& 3) <<< ((2 : Int32) &&& 31))
def tc_or (e : Int32) (c : Prop) [Decidable c] (b : Int32) : Int32 := if c then e else e ||| b
def tc_en (c0 c1 sr cv sc mk : Int32) : Int32 :=
  tc_or (tc_or (tc_or (tc_or (tc_or (tc_en0 c0 c1) (sr &&& 8 = 0) 16) (sr &&& 16 = 0) 32) (cv &&& 8 = 0) 64) (sc = 0) 128) (mk = 0) 256
def tc_eb (c0 c1 sr cv sc mk : Int32) (k : Nat) : Bool :=
  if k = 0 then bt c0 3 else if k = 1 then bt c0 4 else if k = 2 then bt c1 3 else if k = 3 then bt c1 4 else if k = 4 then bt sr 3 else if k = 5 then bt sr 4 else if k = 6 then bt cv 3 else
  if k = 7 then !decide (sc = 0) else if k = 8 then !decide (mk = 0) else false
theorem tc_m2 (x m : Int32) (k : Nat) (hk : k < 32) (hm : ∀ i, i < 32 → bt m i = decide (i = k)) : x &&& m = 0 ↔ bt x k = false := by
  constructor
  · intro h
    have e : bt (x &&& m) k = bt 0 k := congrArg (fun z => bt z k) h
    rw [b_and, hm k hk, decide_eq_true rfl, Bool.and_true, b_0] at e
    exact e
  · intro h
    apply b_ext
    intro i hi
    rw [b_and, hm i hi, b_0]
    by_cases c : i = k
    · rw [c, h]; rfl
    · rw [decide_eq_false c, Bool.and_false]
theorem tc_orb (e : Int32) (c : Prop) [Decidable c] (b : Int32) (i : Nat) : bt (tc_or e c b) i = (bt e i || (!decide c && bt b i)) := by
  unfold tc_or
  by_cases h : c
  · rw [if_pos h, decide_eq_true h]; cases bt e i <;> rfl
  · rw [if_neg h, decide_eq_false h, b_or]; rfl
theorem tc_b3 : ∀ i, i < 32 → bt 3 i = (decide (i = 0) || decide (i = 1)) := by decide +kernel
theorem tc_en0b (c0 c1 : Int32) (i : Nat) (hi : i < 32) : bt (tc_en0 c0 c1) i = if i = 0 then bt c0 3 else if i = 1 then bt c0 4 else if i = 2 then bt c1 3 else if i = 3 then bt c1 4 else false := by
  unfold tc_en0
  rw [b_or, b_and, tc_b3 i hi]
  have hs : ∀ (x : Int32) (j : Nat), j < 2 → bt (x >>> ((3 : Int32) &&& 31)) j = bt x (3 + j) := by
    intro x j hj
    have := b_sshr 3 (by omega) x (i := j) (by omega)
    rw [if_pos (by omega)] at this
    exact this
  have hl : bt (((c1 >>> ((3 : Int32) &&& 31)) &&& 3) <<< ((2 : Int32) &&& 31)) i = (decide (2 ≤ i) && bt ((c1 >>> ((3 : Int32) &&& 31)) &&& 3) (i - 2)) := b_shl 2 (by omega) _ hi
  rw [hl, b_and, tc_b3 (i - 2) (by omega)]
  by_cases h0 : i = 0
  · subst h0; rw [hs c0 0 (by omega)]; simp
  · by_cases h1 : i = 1
    · subst h1; rw [hs c0 1 (by omega)]; simp
    · by_cases h2 : i = 2
      · subst h2; rw [show 2 - 2 = 0 from rfl, hs c1 0 (by omega)]; simp
      · by_cases h3 : i = 3
        · subst h3; rw [show 3 - 2 = 1 from rfl, hs c1 1 (by omega)]; simp
        · have a1 : ¬ i - 2 = 0 := by omega
          have a2 : ¬ i - 2 = 1 := by omega
          simp [h0, h1, h2, h3, a1, a2]
theorem tc_c16 : (∀ i, i < 32 → bt 16 i = decide (i = 4)) ∧ (∀ i, i < 32 → bt 32 i = decide (i = 5)) ∧ (∀ i, i < 32 → bt 64 i = decide (i = 6)) ∧ (∀ i, i < 32 → bt 128 i = decide (i = 7)) ∧ (∀ i, i < 32 → bt 256 i = decide (i = 8)) ∧ (∀ i, i < 32 → bt 8 i = decide (i = 3)) := by decide +kernel
theorem tc_enb (c0 c1 sr cv sc mk : Int32) (i : Nat) (hi : i < 32) : bt (tc_en c0 c1 sr cv sc mk) i = tc_eb c0 c1 sr cv sc mk i := by
  obtain ⟨k4, k5, k6, k7, k8, k3⟩ := tc_c16
  have s8 : decide (sr &&& 8 = 0) = !bt sr 3 := by
    have := tc_m2 sr 8 3 (by omega) k3
    cases h : bt sr 3
    · exact decide_eq_true (this.mpr h)
    · exact decide_eq_false (fun z => by rw [this.mp z] at h; cases h)
  have s16 : decide (sr &&& 16 = 0) = !bt sr 4 := by
    have := tc_m2 sr 16 4 (by omega) k4
    cases h : bt sr 4
    · exact decide_eq_true (this.mpr h)
    · exact decide_eq_false (fun z => by rw [this.mp z] at h; cases h)
  have c8 : decide (cv &&& 8 = 0) = !bt cv 3 := by
    have := tc_m2 cv 8 3 (by omega) k3
    cases h : bt cv 3
    · exact decide_eq_true (this.mpr h)
    · exact decide_eq_false (fun z => by rw [this.mp z] at h; cases h)
  unfold tc_en
  rw [tc_orb, tc_orb, tc_orb, tc_orb, tc_orb, tc_en0b c0 c1 i hi, k4 i hi, k5 i hi, k6 i hi, k7 i hi, k8 i hi, s8, s16, c8]
  unfold tc_eb
  have : i = 0 ∨ i = 1 ∨ i = 2 ∨ i = 3 ∨ i = 4 ∨ i = 5 ∨ i = 6 ∨ i = 7 ∨ i = 8 ∨ 9 ≤ i := by omega
  rcases this with h | h | h | h | h | h | h | h | h | h
  iterate 9 (subst h; simp)
  have n : ∀ m, m < 9 → ¬ i = m := fun m hm z => by omega
  simp [n 0, n 1, n 2, n 3, n 4, n 5, n 6, n 7, n 8]
section
variable {pz : Int32 → Prop} {T : Nat} {f_length f_inputs f_sp f_pc f_zero f_carry f_allowed f_asleep f_halted f_pending f_resets f_taken f_data f_serial f_divider f_sending f_dueSent f_received f_overrun f_sent f_converter f_result f_dueResult f_output f_watch f_dueWatch f_address f_storing f_storeAt f_storeControl f_dueStore f_mask f_edges f_due f_head f_headAt f_headFlags f_stop f_pure : Int32} {a_op a_opA a_opB a_vectors a_analogs a_r a_m a_stack a_count a_since a_control a_compare a_dueEqual a_dueOver a_line a_store a_headR : Nat → Int32} {g_passed g_converter g_since : Int32} {l_s l_c l_b : Nat} {b_opA b_opB b_store b_pending b_count : Nat → Int32}
theorem tc_Xen (h : pz (f_pending &&& tc_en (a_control 0) (a_control 1) f_serial f_converter f_storeControl f_mask)) : wpX_enabled pz (f_length, f_inputs, f_sp, f_pc, f_zero, f_carry, f_allowed, f_asleep, f_halted, f_pending, f_resets, f_taken, nI T, f_data, f_serial, f_divider, f_sending, f_dueSent, f_received, f_overrun, f_sent, f_converter, f_result, f_dueResult, f_output, f_watch, f_dueWatch, f_address, f_storing, f_storeAt, f_storeControl, f_dueStore, f_mask, f_edges, f_due, f_head, f_headAt, f_headFlags, f_stop, f_pure, a_op, a_opA, a_opB, a_vectors, a_analogs, a_r, a_m, a_stack, a_count, a_since, a_control, a_compare, a_dueEqual, a_dueOver, a_line, a_store, a_headR) := by
  have h5 : ∀ x, x = tc_or (tc_or (tc_or (tc_or (tc_en0 (a_control 0) (a_control 1)) (f_serial &&& 8 = 0) 16) (f_serial &&& 16 = 0) 32) (f_converter &&& 8 = 0) 64) (f_storeControl = 0) 128 → wX_enabled_82 pz x f_length f_inputs f_sp f_pc f_zero f_carry f_allowed f_asleep f_halted f_pending f_resets f_taken (nI T) f_data f_serial f_divider f_sending f_dueSent f_received f_overrun f_sent f_converter f_result f_dueResult f_output f_watch f_dueWatch f_address f_storing f_storeAt f_storeControl f_dueStore f_mask f_edges f_due f_head f_headAt f_headFlags f_stop f_pure a_op a_opA a_opB a_vectors a_analogs a_r a_m a_stack a_count a_since a_control a_compare a_dueEqual a_dueOver a_line a_store a_headR := by
    intro x hx
    have h : pz (f_pending &&& (tc_or x (f_mask = 0) 256)) := by rw [hx]; exact h
    unfold tc_or at h
    by_cases c : f_mask = 0
    · rw [if_pos c] at h; exact br_t c h
    · rw [if_neg c] at h; exact br_f c (nm_e h)
  have h4 : ∀ x, x = tc_or (tc_or (tc_or (tc_en0 (a_control 0) (a_control 1)) (f_serial &&& 8 = 0) 16) (f_serial &&& 16 = 0) 32) (f_converter &&& 8 = 0) 64 → wX_enabled_69 pz x f_length f_inputs f_sp f_pc f_zero f_carry f_allowed f_asleep f_halted f_pending f_resets f_taken (nI T) f_data f_serial f_divider f_sending f_dueSent f_received f_overrun f_sent f_converter f_result f_dueResult f_output f_watch f_dueWatch f_address f_storing f_storeAt f_storeControl f_dueStore f_mask f_edges f_due f_head f_headAt f_headFlags f_stop f_pure a_op a_opA a_opB a_vectors a_analogs a_r a_m a_stack a_count a_since a_control a_compare a_dueEqual a_dueOver a_line a_store a_headR := by
    intro x hx
    exact br_c (fun c => h5 _ (by rw [← hx]; exact (if_pos c).symm)) (fun c => nm_e (h5 _ (by rw [← hx]; exact (if_neg c).symm)))
  have h3 : ∀ x, x = tc_or (tc_or (tc_en0 (a_control 0) (a_control 1)) (f_serial &&& 8 = 0) 16) (f_serial &&& 16 = 0) 32 → wX_enabled_54 pz x f_length f_inputs f_sp f_pc f_zero f_carry f_allowed f_asleep f_halted f_pending f_resets f_taken (nI T) f_data f_serial f_divider f_sending f_dueSent f_received f_overrun f_sent f_converter f_result f_dueResult f_output f_watch f_dueWatch f_address f_storing f_storeAt f_storeControl f_dueStore f_mask f_edges f_due f_head f_headAt f_headFlags f_stop f_pure a_op a_opA a_opB a_vectors a_analogs a_r a_m a_stack a_count a_since a_control a_compare a_dueEqual a_dueOver a_line a_store a_headR := by
    intro x hx
    exact br_c (fun c => h4 _ (by rw [← hx]; exact (if_pos c).symm)) (fun c => nm_e (h4 _ (by rw [← hx]; exact (if_neg c).symm)))
  have h2 : ∀ x, x = tc_or (tc_en0 (a_control 0) (a_control 1)) (f_serial &&& 8 = 0) 16 → wX_enabled_39 pz x f_length f_inputs f_sp f_pc f_zero f_carry f_allowed f_asleep f_halted f_pending f_resets f_taken (nI T) f_data f_serial f_divider f_sending f_dueSent f_received f_overrun f_sent f_converter f_result f_dueResult f_output f_watch f_dueWatch f_address f_storing f_storeAt f_storeControl f_dueStore f_mask f_edges f_due f_head f_headAt f_headFlags f_stop f_pure a_op a_opA a_opB a_vectors a_analogs a_r a_m a_stack a_count a_since a_control a_compare a_dueEqual a_dueOver a_line a_store a_headR := by
    intro x hx
    exact br_c (fun c => h3 _ (by rw [← hx]; exact (if_pos c).symm)) (fun c => nm_e (h3 _ (by rw [← hx]; exact (if_neg c).symm)))
  refine nm_e ?_
  exact br_c (fun c => h2 _ (if_pos c).symm) (fun c => nm_e (h2 _ (if_neg c).symm))
theorem tc_Yen {k : Nat} (hk : k < 9) (hSC : f_storeControl &&& 8 = f_storeControl) (hCv : f_converter = g_converter &&& 251)
    (h : pz (tc_bI (tc_eb (a_control 0) (a_control 1) f_serial f_converter f_storeControl f_mask k))) : wpY_enabled pz (f_length, f_inputs, f_zero, f_carry, f_allowed, f_asleep, f_halted, f_sp, f_pc, nI T, g_passed, f_taken, f_resets, f_edges, f_sent, f_data, f_serial, f_divider, g_converter, f_result, f_output, f_watch, f_address, f_storeControl, f_mask, g_since, f_received, f_overrun, nI l_s, f_sending, nI l_c, nI l_b, f_storing, f_storeAt, a_op, b_opA, b_opB, a_vectors, a_analogs, b_store, a_r, a_m, a_stack, a_line, b_pending, b_count, a_control, a_compare) (nI k) := by
  have two : ¬ (2 : Int32) = 0 := by decide
  have g3 : bt f_converter 3 = bt g_converter 3 := by rw [hCv, b_and, show bt 251 3 = true from by decide +kernel, Bool.and_true]
  have : k = 0 ∨ k = 1 ∨ k = 2 ∨ k = 3 ∨ k = 4 ∨ k = 5 ∨ k = 6 ∨ k = 7 ∨ k = 8 := by omega
  rcases this with e | e | e | e | e | e | e | e | e
  · subst e
    have h : pz (tc_bI (bt (a_control 0) 3)) := h
    refine br_f (by decide) (And.intro two (And.intro (vp_in_nI (n := 0) (by decide) (by decide)) (And.intro two ?_)))
    rw [show nI 0 / 2 = nI 0 from by decide +kernel, show (nI 0).toNatClampNeg = 0 from by decide +kernel, show 3 + (nI 0 - nI 0 * 2) = nI 3 from by decide +kernel, tc_bit _ (by omega), tc_bI1]
    cases hb : bt (a_control 0) 3
    · rw [hb] at h; exact br_f (by decide) h
    · rw [hb] at h; exact br_t rfl h
  · subst e
    have h : pz (tc_bI (bt (a_control 0) 4)) := h
    refine br_f (by decide) (And.intro two (And.intro (vp_in_nI (n := 0) (by decide) (by decide)) (And.intro two ?_)))
    rw [show nI 1 / 2 = nI 0 from by decide +kernel, show (nI 0).toNatClampNeg = 0 from by decide +kernel, show 3 + (nI 1 - nI 0 * 2) = nI 4 from by decide +kernel, tc_bit _ (by omega), tc_bI1]
    cases hb : bt (a_control 0) 4
    · rw [hb] at h; exact br_f (by decide) h
    · rw [hb] at h; exact br_t rfl h
  · subst e
    have h : pz (tc_bI (bt (a_control 1) 3)) := h
    refine br_f (by decide) (And.intro two (And.intro (vp_in_nI (n := 1) (by decide) (by decide)) (And.intro two ?_)))
    rw [show nI 2 / 2 = nI 1 from by decide +kernel, show (nI 1).toNatClampNeg = 1 from by decide +kernel, show 3 + (nI 2 - nI 1 * 2) = nI 3 from by decide +kernel, tc_bit _ (by omega), tc_bI1]
    cases hb : bt (a_control 1) 3
    · rw [hb] at h; exact br_f (by decide) h
    · rw [hb] at h; exact br_t rfl h
  · subst e
    have h : pz (tc_bI (bt (a_control 1) 4)) := h
    refine br_f (by decide) (And.intro two (And.intro (vp_in_nI (n := 1) (by decide) (by decide)) (And.intro two ?_)))
    rw [show nI 3 / 2 = nI 1 from by decide +kernel, show (nI 1).toNatClampNeg = 1 from by decide +kernel, show 3 + (nI 3 - nI 1 * 2) = nI 4 from by decide +kernel, tc_bit _ (by omega), tc_bI1]
    cases hb : bt (a_control 1) 4
    · rw [hb] at h; exact br_f (by decide) h
    · rw [hb] at h; exact br_t rfl h
  · subst e
    have h : pz (tc_bI (bt f_serial 3)) := h
    refine br_t (by decide) (br_f (by decide) ?_)
    rw [show nI 4 - 1 = nI 3 from by decide +kernel, tc_bit _ (by omega), tc_bI1]
    cases hb : bt f_serial 3
    · rw [hb] at h; exact br_f (by decide) h
    · rw [hb] at h; exact br_t rfl h
  · subst e
    have h : pz (tc_bI (bt f_serial 4)) := h
    refine br_t (by decide) (br_f (by decide) ?_)
    rw [show nI 5 - 1 = nI 4 from by decide +kernel, tc_bit _ (by omega), tc_bI1]
    cases hb : bt f_serial 4
    · rw [hb] at h; exact br_f (by decide) h
    · rw [hb] at h; exact br_t rfl h
  · subst e
    have h : pz (tc_bI (bt f_converter 3)) := h
    rw [g3] at h
    have m := tc_m2 g_converter 8 3 (by omega) tc_c16.2.2.2.2.2
    refine br_t (by decide) (br_t (by decide) (br_t rfl ?_))
    cases hb : bt g_converter 3
    · rw [hb] at h; exact br_t (m.mpr hb) h
    · rw [hb] at h; exact br_f (fun z => by rw [m.mp z] at hb; cases hb) h
  · subst e
    have h : pz (tc_bI (!decide (f_storeControl = 0))) := h
    refine br_t (by decide) (br_t (by decide) (br_f (by decide) (br_t rfl ?_)))
    rw [hSC]
    by_cases c : f_storeControl = 0
    · rw [decide_eq_true c] at h; exact br_t c h
    · rw [decide_eq_false c] at h; exact br_f c h
  · subst e
    have h : pz (tc_bI (!decide (f_mask = 0))) := h
    refine br_t (by decide) (br_t (by decide) (br_f (by decide) (br_f (by decide) ?_)))
    by_cases c : f_mask = 0
    · rw [decide_eq_true c] at h; exact br_t c h
    · rw [decide_eq_false c] at h; exact br_f c h
end
/-! the first ready one -/
def tc_fst (f : Nat → Bool) : Nat → Nat → Nat
  | 0, k => k
  | d + 1, k => if f k then k else tc_fst f d (k + 1)
theorem tc_fst_le (f : Nat → Bool) : ∀ d k, k ≤ tc_fst f d k ∧ tc_fst f d k ≤ k + d := by
  intro d
  induction d with
  | zero => intro k; exact ⟨Nat.le_refl _, Nat.le_refl _⟩
  | succ d ih =>
    intro k
    show k ≤ (if f k then k else tc_fst f d (k + 1)) ∧ (if f k then k else tc_fst f d (k + 1)) ≤ k + (d + 1)
    have := ih (k + 1)
    split <;> omega
theorem tc_fst_t (f : Nat → Bool) : ∀ d k, tc_fst f d k < k + d → f (tc_fst f d k) = true := by
  intro d
  induction d with
  | zero => intro k h; exact absurd h (by show ¬ k < k + 0; omega)
  | succ d ih =>
    intro k
    show (if f k then k else tc_fst f d (k + 1)) < k + (d + 1) → f (if f k then k else tc_fst f d (k + 1)) = true
    by_cases c : f k = true
    · rw [if_pos c]; exact fun _ => c
    · rw [if_neg c]; exact fun h => ih (k + 1) (by omega)
theorem tc_fst_f (f : Nat → Bool) : ∀ d k j, k ≤ j → j < tc_fst f d k → f j = false := by
  intro d
  induction d with
  | zero => intro k j h1 h2; exact absurd h2 (by show ¬ j < k; omega)
  | succ d ih =>
    intro k j h1
    show j < (if f k then k else tc_fst f d (k + 1)) → f j = false
    by_cases c : f k = true
    · rw [if_pos c]; intro h; omega
    · rw [if_neg c]
      intro h
      by_cases e : j = k
      · rw [e]; cases q : f k
        · rfl
        · exact absurd q c
      · exact ih (k + 1) j (by omega) h
def tc_rd (p c0 c1 sr cv sc mk : Int32) (k : Nat) : Bool := bt p k && tc_eb c0 c1 sr cv sc mk k
theorem tc_rdb (p c0 c1 sr cv sc mk : Int32) (k : Nat) (hk : k < 32) : bt (p &&& tc_en c0 c1 sr cv sc mk) k = tc_rd p c0 c1 sr cv sc mk k := by
  rw [b_and, tc_enb _ _ _ _ _ _ _ hk]; rfl
theorem tc_rd0 (p c0 c1 sr cv sc mk : Int32) : p &&& tc_en c0 c1 sr cv sc mk = 0 ↔ tc_fst (tc_rd p c0 c1 sr cv sc mk) 9 0 = 9 := by
  have hle := tc_fst_le (tc_rd p c0 c1 sr cv sc mk) 9 0
  constructor
  · intro h
    refine Classical.byContradiction fun z => ?_
    have hl : tc_fst (tc_rd p c0 c1 sr cv sc mk) 9 0 < 0 + 9 := by omega
    have ht := tc_fst_t _ 9 0 hl
    rw [← tc_rdb _ _ _ _ _ _ _ _ (by omega), h, b_0] at ht
    cases ht
  · intro h
    apply b_ext
    intro i hi
    rw [tc_rdb _ _ _ _ _ _ _ _ hi, b_0]
    by_cases c : i < 9
    · exact tc_fst_f _ 9 0 i (by omega) (by omega)
    · unfold tc_rd tc_eb
      have n : ∀ m, m < 9 → ¬ i = m := fun m hm z => by omega
      rw [if_neg (n 0 (by omega)), if_neg (n 1 (by omega)), if_neg (n 2 (by omega)), if_neg (n 3 (by omega)), if_neg (n 4 (by omega)), if_neg (n 5 (by omega)), if_neg (n 6 (by omega)), if_neg (n 7 (by omega)), if_neg (n 8 (by omega)), Bool.and_false]
section
variable {pz : Int32 → Prop} {T : Nat} {f_length f_inputs f_sp f_pc f_zero f_carry f_allowed f_asleep f_halted f_pending f_resets f_taken f_data f_serial f_divider f_sending f_dueSent f_received f_overrun f_sent f_converter f_result f_dueResult f_output f_watch f_dueWatch f_address f_storing f_storeAt f_storeControl f_dueStore f_mask f_edges f_due f_head f_headAt f_headFlags f_stop f_pure : Int32} {a_op a_opA a_opB a_vectors a_analogs a_r a_m a_stack a_count a_since a_control a_compare a_dueEqual a_dueOver a_line a_store a_headR : Nat → Int32} {g_passed g_converter g_since : Int32} {l_s l_c l_b : Nat} {b_opA b_opB b_store b_pending b_count : Nat → Int32}
theorem tc_wt14 (hSC : f_storeControl &&& 8 = f_storeControl) (hCv : f_converter = g_converter &&& 251) (hPe : tc_pF f_pending b_pending) :
    ∀ (d k : Nat), k + d = 9 → pz (nI (tc_fst (tc_rd f_pending (a_control 0) (a_control 1) f_serial f_converter f_storeControl f_mask) d k)) → wY_waiting_14 pz f_length f_inputs f_zero f_carry f_allowed f_asleep f_halted f_sp f_pc (nI T) g_passed f_taken f_resets f_edges f_sent f_data f_serial f_divider g_converter f_result f_output f_watch f_address f_storeControl f_mask g_since f_received f_overrun (nI l_s) f_sending (nI l_c) (nI l_b) f_storing f_storeAt a_op b_opA b_opB a_vectors a_analogs b_store a_r a_m a_stack a_line b_pending b_count a_control a_compare (d + 1) (nI k) := by
  intro d
  induction d with
  | zero =>
    intro k hk h
    have h9 : k = 9 := by omega
    subst h9
    exact br_t (by decide) h
  | succ d ih =>
    intro k hk h
    have e := nI_clamp (n := k) (by omega)
    have h : pz (nI (if tc_rd f_pending (a_control 0) (a_control 1) f_serial f_converter f_storeControl f_mask k then k else tc_fst (tc_rd f_pending (a_control 0) (a_control 1) f_serial f_converter f_storeControl f_mask) d (k + 1))) := h
    refine br_f (nI_ge (b := 9) (by omega) (by decide)) ?_
    rw [e, nI_1, hPe k (by omega), tc_bI0]
    refine ⟨vp_in_nI (by omega) (by decide), ?_⟩
    unfold tc_rd at h
    cases hb : bt f_pending k
    · rw [hb, Bool.false_and, if_neg (by decide)] at h
      exact br_t rfl (nm_e (ih (k + 1) (by omega) h))
    · rw [hb, Bool.true_and] at h
      refine br_f (by decide) ?_
      refine tc_Yen (by omega) hSC hCv ?_
      rw [tc_bI0]
      cases hc : tc_eb (a_control 0) (a_control 1) f_serial f_converter f_storeControl f_mask k
      · rw [hc, if_neg (by decide)] at h
        exact br_t rfl (nm_e (ih (k + 1) (by omega) h))
      · rw [hc, if_pos rfl] at h
        exact br_f (by decide) h
theorem tc_wait0 (ha : f_allowed = 0) (h : pz (nI 9)) : wpY_waiting pz (f_length, f_inputs, f_zero, f_carry, f_allowed, f_asleep, f_halted, f_sp, f_pc, nI T, g_passed, f_taken, f_resets, f_edges, f_sent, f_data, f_serial, f_divider, g_converter, f_result, f_output, f_watch, f_address, f_storeControl, f_mask, g_since, f_received, f_overrun, nI l_s, f_sending, nI l_c, nI l_b, f_storing, f_storeAt, a_op, b_opA, b_opB, a_vectors, a_analogs, b_store, a_r, a_m, a_stack, a_line, b_pending, b_count, a_control, a_compare) :=
  br_t ha ⟨1, br_t (by decide) h⟩
theorem tc_wait1 (ha : ¬ f_allowed = 0) (hSC : f_storeControl &&& 8 = f_storeControl) (hCv : f_converter = g_converter &&& 251) (hPe : tc_pF f_pending b_pending)
    (h : pz (nI (tc_fst (tc_rd f_pending (a_control 0) (a_control 1) f_serial f_converter f_storeControl f_mask) 9 0))) : wpY_waiting pz (f_length, f_inputs, f_zero, f_carry, f_allowed, f_asleep, f_halted, f_sp, f_pc, nI T, g_passed, f_taken, f_resets, f_edges, f_sent, f_data, f_serial, f_divider, g_converter, f_result, f_output, f_watch, f_address, f_storeControl, f_mask, g_since, f_received, f_overrun, nI l_s, f_sending, nI l_c, nI l_b, f_storing, f_storeAt, a_op, b_opA, b_opB, a_vectors, a_analogs, b_store, a_r, a_m, a_stack, a_line, b_pending, b_count, a_control, a_compare) :=
  br_f ha ⟨10, tc_wt14 hSC hCv hPe 9 0 rfl h⟩
end
end
section
/-! the run's loops, over states; the interrupt -/
def tc_xal (u : SX) : Int32 := match u with
  | (f_length, f_inputs, f_sp, f_pc, f_zero, f_carry, f_allowed, f_asleep, f_halted, f_pending, f_resets, f_taken, f_now, f_data, f_serial, f_divider, f_sending, f_dueSent, f_received, f_overrun, f_sent, f_converter, f_result, f_dueResult, f_output, f_watch, f_dueWatch, f_address, f_storing, f_storeAt, f_storeControl, f_dueStore, f_mask, f_edges, f_due, f_head, f_headAt, f_headFlags, f_stop, f_pure, a_op, a_opA, a_opB, a_vectors, a_analogs, a_r, a_m, a_stack, a_count, a_since, a_control, a_compare, a_dueEqual, a_dueOver, a_line, a_store, a_headR) => f_allowed
def tc_xas (u : SX) : Int32 := match u with
  | (f_length, f_inputs, f_sp, f_pc, f_zero, f_carry, f_allowed, f_asleep, f_halted, f_pending, f_resets, f_taken, f_now, f_data, f_serial, f_divider, f_sending, f_dueSent, f_received, f_overrun, f_sent, f_converter, f_result, f_dueResult, f_output, f_watch, f_dueWatch, f_address, f_storing, f_storeAt, f_storeControl, f_dueStore, f_mask, f_edges, f_due, f_head, f_headAt, f_headFlags, f_stop, f_pure, a_op, a_opA, a_opB, a_vectors, a_analogs, a_r, a_m, a_stack, a_count, a_since, a_control, a_compare, a_dueEqual, a_dueOver, a_line, a_store, a_headR) => f_asleep
def tc_xrd (u : SX) : Int32 := match u with
  | (f_length, f_inputs, f_sp, f_pc, f_zero, f_carry, f_allowed, f_asleep, f_halted, f_pending, f_resets, f_taken, f_now, f_data, f_serial, f_divider, f_sending, f_dueSent, f_received, f_overrun, f_sent, f_converter, f_result, f_dueResult, f_output, f_watch, f_dueWatch, f_address, f_storing, f_storeAt, f_storeControl, f_dueStore, f_mask, f_edges, f_due, f_head, f_headAt, f_headFlags, f_stop, f_pure, a_op, a_opA, a_opB, a_vectors, a_analogs, a_r, a_m, a_stack, a_count, a_since, a_control, a_compare, a_dueEqual, a_dueOver, a_line, a_store, a_headR) => f_pending &&& tc_en (a_control 0) (a_control 1) f_serial f_converter f_storeControl f_mask
def tc_xk (u : SX) : Nat := match u with
  | (f_length, f_inputs, f_sp, f_pc, f_zero, f_carry, f_allowed, f_asleep, f_halted, f_pending, f_resets, f_taken, f_now, f_data, f_serial, f_divider, f_sending, f_dueSent, f_received, f_overrun, f_sent, f_converter, f_result, f_dueResult, f_output, f_watch, f_dueWatch, f_address, f_storing, f_storeAt, f_storeControl, f_dueStore, f_mask, f_edges, f_due, f_head, f_headAt, f_headFlags, f_stop, f_pure, a_op, a_opA, a_opB, a_vectors, a_analogs, a_r, a_m, a_stack, a_count, a_since, a_control, a_compare, a_dueEqual, a_dueOver, a_line, a_store, a_headR) => tc_fst (tc_rd f_pending (a_control 0) (a_control 1) f_serial f_converter f_storeControl f_mask) 9 0
def tc_NR (u : SX) : Prop := tc_xal u = 0 ∨ tc_xrd u = 0
def tc_pok (u : SX) : Prop := match u with
  | (f_length, f_inputs, f_sp, f_pc, f_zero, f_carry, f_allowed, f_asleep, f_halted, f_pending, f_resets, f_taken, f_now, f_data, f_serial, f_divider, f_sending, f_dueSent, f_received, f_overrun, f_sent, f_converter, f_result, f_dueResult, f_output, f_watch, f_dueWatch, f_address, f_storing, f_storeAt, f_storeControl, f_dueStore, f_mask, f_edges, f_due, f_head, f_headAt, f_headFlags, f_stop, f_pure, a_op, a_opA, a_opB, a_vectors, a_analogs, a_r, a_m, a_stack, a_count, a_since, a_control, a_compare, a_dueEqual, a_dueOver, a_line, a_store, a_headR) => ∃ i l : Nat, f_pc = nI i ∧ f_length = nI l ∧ i < l ∧ l ≤ 48
def tc_xr (post : Int32 → SX → Prop) (x1 x2 : Int32) (n : Nat) (u : SX) : Prop := match u with
  | (f_length, f_inputs, f_sp, f_pc, f_zero, f_carry, f_allowed, f_asleep, f_halted, f_pending, f_resets, f_taken, f_now, f_data, f_serial, f_divider, f_sending, f_dueSent, f_received, f_overrun, f_sent, f_converter, f_result, f_dueResult, f_output, f_watch, f_dueWatch, f_address, f_storing, f_storeAt, f_storeControl, f_dueStore, f_mask, f_edges, f_due, f_head, f_headAt, f_headFlags, f_stop, f_pure, a_op, a_opA, a_opB, a_vectors, a_analogs, a_r, a_m, a_stack, a_count, a_since, a_control, a_compare, a_dueEqual, a_dueOver, a_line, a_store, a_headR) => wX_run_43 post x1 x2 n f_length f_inputs f_sp f_pc f_zero f_carry f_allowed f_asleep f_halted f_pending f_resets f_taken f_now f_data f_serial f_divider f_sending f_dueSent f_received f_overrun f_sent f_converter f_result f_dueResult f_output f_watch f_dueWatch f_address f_storing f_storeAt f_storeControl f_dueStore f_mask f_edges f_due f_head f_headAt f_headFlags f_stop f_pure a_op a_opA a_opB a_vectors a_analogs a_r a_m a_stack a_count a_since a_control a_compare a_dueEqual a_dueOver a_line a_store a_headR
def tc_yr (post : Int32 → SY → Prop) (x1 : Int32) (n : Nat) (v : SY) : Prop := match v with
  | (f_length, f_inputs, f_zero, f_carry, f_allowed, f_asleep, f_halted, f_sp, f_pc, f_now, g_passed, f_taken, f_resets, f_edges, f_sent, f_data, f_serial, f_divider, g_converter, f_result, f_output, f_watch, f_address, f_storeControl, f_mask, g_since, f_received, f_overrun, l_s, f_sending, l_c, l_b, f_storing, f_storeAt, a_op, b_opA, b_opB, a_vectors, a_analogs, b_store, a_r, a_m, a_stack, a_line, b_pending, b_count, a_control, a_compare) => wY_run_28 post x1 n f_length f_inputs f_zero f_carry f_allowed f_asleep f_halted f_sp f_pc f_now g_passed f_taken f_resets f_edges f_sent f_data f_serial f_divider g_converter f_result f_output f_watch f_address f_storeControl f_mask g_since f_received f_overrun l_s f_sending l_c l_b f_storing f_storeAt a_op b_opA b_opB a_vectors a_analogs b_store a_r a_m a_stack a_line b_pending b_count a_control a_compare
def tc_y140 (post : Int32 → SY → Prop) (x1 : Int32) (m : Nat) (x3 : Int32) (n : Nat) (x4 : Int32) (v : SY) : Prop := match v with
  | (f_length, f_inputs, f_zero, f_carry, f_allowed, f_asleep, f_halted, f_sp, f_pc, f_now, g_passed, f_taken, f_resets, f_edges, f_sent, f_data, f_serial, f_divider, g_converter, f_result, f_output, f_watch, f_address, f_storeControl, f_mask, g_since, f_received, f_overrun, l_s, f_sending, l_c, l_b, f_storing, f_storeAt, a_op, b_opA, b_opB, a_vectors, a_analogs, b_store, a_r, a_m, a_stack, a_line, b_pending, b_count, a_control, a_compare) => wY_run_140 post (wY_run_28 post x1 m) x1 x3 n x4 f_length f_inputs f_zero f_carry f_allowed f_asleep f_halted f_sp f_pc f_now g_passed f_taken f_resets f_edges f_sent f_data f_serial f_divider g_converter f_result f_output f_watch f_address f_storeControl f_mask g_since f_received f_overrun l_s f_sending l_c l_b f_storing f_storeAt a_op b_opA b_opB a_vectors a_analogs b_store a_r a_m a_stack a_line b_pending b_count a_control a_compare
def tc_y62 (post : SY → Prop) (n : Nat) (x2 : Int32) (v : SY) : Prop := match v with
  | (f_length, f_inputs, f_zero, f_carry, f_allowed, f_asleep, f_halted, f_sp, f_pc, f_now, g_passed, f_taken, f_resets, f_edges, f_sent, f_data, f_serial, f_divider, g_converter, f_result, f_output, f_watch, f_address, f_storeControl, f_mask, g_since, f_received, f_overrun, l_s, f_sending, l_c, l_b, f_storing, f_storeAt, a_op, b_opA, b_opB, a_vectors, a_analogs, b_store, a_r, a_m, a_stack, a_line, b_pending, b_count, a_control, a_compare) => wY_interrupt_62 post n x2 f_length f_inputs f_zero f_carry f_allowed f_asleep f_halted f_sp f_pc f_now g_passed f_taken f_resets f_edges f_sent f_data f_serial f_divider g_converter f_result f_output f_watch f_address f_storeControl f_mask g_since f_received f_overrun l_s f_sending l_c l_b f_storing f_storeAt a_op b_opA b_opB a_vectors a_analogs b_store a_r a_m a_stack a_line b_pending b_count a_control a_compare
def tc_YR (x1 : Int32) (v v' : SY) : Prop := ∀ post : Int32 → SY → Prop, (∃ n, tc_yr post x1 n v') → ∃ n, tc_yr post x1 n v
def tc_XR (x1 x2 : Int32) (u u' : SX) : Prop := ∀ post : Int32 → SX → Prop, (∃ n, tc_xr post x1 x2 n u') → ∃ n, tc_xr post x1 x2 n u
theorem tc_YR_t {x1 : Int32} {a b c : SY} (h : tc_YR x1 a b) (h' : tc_YR x1 b c) : tc_YR x1 a c := fun post z => h post (h' post z)
theorem tc_y140L {post : Int32 → SY → Prop} {x1 : Int32} {m c : Nat} (c3 : c ≤ 3) : ∀ (d i : Nat) (v v' : SY), i + d = c → tc_YCs d v v' → tc_yr post x1 m v' → tc_y140 post x1 m (nI c) (d + 1) (nI i) v := by
  intro d
  induction d with
  | zero =>
    intro i v v' hi hc h
    have hc : v = v' := hc
    subst hc
    have hi : i = c := by omega
    subst hi
    obtain ⟨f_length, f_inputs, f_zero, f_carry, f_allowed, f_asleep, f_halted, f_sp, f_pc, f_now, g_passed, f_taken, f_resets, f_edges, f_sent, f_data, f_serial, f_divider, g_converter, f_result, f_output, f_watch, f_address, f_storeControl, f_mask, g_since, f_received, f_overrun, l_s, f_sending, l_c, l_b, f_storing, f_storeAt, a_op, b_opA, b_opB, a_vectors, a_analogs, b_store, a_r, a_m, a_stack, a_line, b_pending, b_count, a_control, a_compare⟩ := v
    exact br_t (Int32.le_refl _) h
  | succ d ih =>
    intro i v v' hi hc h
    obtain ⟨w, hw, hc⟩ := hc
    have q := ih (i + 1) w v' (by omega) hc h
    clear hc h ih
    obtain ⟨f_length, f_inputs, f_zero, f_carry, f_allowed, f_asleep, f_halted, f_sp, f_pc, f_now, g_passed, f_taken, f_resets, f_edges, f_sent, f_data, f_serial, f_divider, g_converter, f_result, f_output, f_watch, f_address, f_storeControl, f_mask, g_since, f_received, f_overrun, l_s, f_sending, l_c, l_b, f_storing, f_storeAt, a_op, b_opA, b_opB, a_vectors, a_analogs, b_store, a_r, a_m, a_stack, a_line, b_pending, b_count, a_control, a_compare⟩ := v
    refine br_f (nI_ge (by omega) (by omega)) ?_
    refine hw _ ?_
    clear hw
    obtain ⟨f_length, f_inputs, f_zero, f_carry, f_allowed, f_asleep, f_halted, f_sp, f_pc, f_now, g_passed, f_taken, f_resets, f_edges, f_sent, f_data, f_serial, f_divider, g_converter, f_result, f_output, f_watch, f_address, f_storeControl, f_mask, g_since, f_received, f_overrun, l_s, f_sending, l_c, l_b, f_storing, f_storeAt, a_op, b_opA, b_opB, a_vectors, a_analogs, b_store, a_r, a_m, a_stack, a_line, b_pending, b_count, a_control, a_compare⟩ := w
    exact nm_r (nI_1 i) q
theorem tc_y62L {post : SY → Prop} : ∀ (d i : Nat) (v v' : SY), i + d = 3 → tc_YCs d v v' → post v' → tc_y62 post (d + 1) (nI i) v := by
  intro d
  induction d with
  | zero =>
    intro i v v' hi hc h
    have hc : v = v' := hc
    subst hc
    have hi : i = 3 := by omega
    subst hi
    obtain ⟨f_length, f_inputs, f_zero, f_carry, f_allowed, f_asleep, f_halted, f_sp, f_pc, f_now, g_passed, f_taken, f_resets, f_edges, f_sent, f_data, f_serial, f_divider, g_converter, f_result, f_output, f_watch, f_address, f_storeControl, f_mask, g_since, f_received, f_overrun, l_s, f_sending, l_c, l_b, f_storing, f_storeAt, a_op, b_opA, b_opB, a_vectors, a_analogs, b_store, a_r, a_m, a_stack, a_line, b_pending, b_count, a_control, a_compare⟩ := v
    exact br_t (by decide) h
  | succ d ih =>
    intro i v v' hi hc h
    obtain ⟨w, hw, hc⟩ := hc
    have q := ih (i + 1) w v' (by omega) hc h
    clear hc h ih
    obtain ⟨f_length, f_inputs, f_zero, f_carry, f_allowed, f_asleep, f_halted, f_sp, f_pc, f_now, g_passed, f_taken, f_resets, f_edges, f_sent, f_data, f_serial, f_divider, g_converter, f_result, f_output, f_watch, f_address, f_storeControl, f_mask, g_since, f_received, f_overrun, l_s, f_sending, l_c, l_b, f_storing, f_storeAt, a_op, b_opA, b_opB, a_vectors, a_analogs, b_store, a_r, a_m, a_stack, a_line, b_pending, b_count, a_control, a_compare⟩ := v
    refine br_f (nI_ge (b := 3) (by omega) (by decide)) ?_
    refine hw _ ?_
    clear hw
    obtain ⟨f_length, f_inputs, f_zero, f_carry, f_allowed, f_asleep, f_halted, f_sp, f_pc, f_now, g_passed, f_taken, f_resets, f_edges, f_sent, f_data, f_serial, f_divider, g_converter, f_result, f_output, f_watch, f_address, f_storeControl, f_mask, g_since, f_received, f_overrun, l_s, f_sending, l_c, l_b, f_storing, f_storeAt, a_op, b_opA, b_opB, a_vectors, a_analogs, b_store, a_r, a_m, a_stack, a_line, b_pending, b_count, a_control, a_compare⟩ := w
    exact nm_r (nI_1 i) q
/-! Y's waiting, over states -/
theorem tc_ywN {T : Nat} {u : SX} {v : SY} (R : tc_RR T u v) (hn : tc_NR u) (pz : Int32 → Prop) (h : pz (nI 9)) : wpY_waiting pz v := by
  refine tc_RRe (P := fun u v => tc_NR u → wpY_waiting pz v) ?_ R hn
  intro f_length f_inputs f_sp f_pc f_zero f_carry f_allowed f_asleep f_halted f_pending f_resets f_taken f_data f_serial f_divider f_sending f_dueSent f_received f_overrun f_sent f_converter f_result f_dueResult f_output f_watch f_dueWatch f_address f_storing f_storeAt f_storeControl f_dueStore f_mask f_edges f_due f_head f_headAt f_headFlags f_stop f_pure a_op a_opA a_opB a_vectors a_analogs a_r a_m a_stack a_count a_since a_control a_compare a_dueEqual a_dueOver a_line a_store a_headR g_passed g_converter g_since l_s l_c l_b b_opA b_opB b_store b_pending b_count hLen hOp hA hB hAn hM hSt hR hR0 hZ hC hAl hAs hHa hRe hOv hPu hSp hT hSe hIn hDa hDi hRs hOu hWa hMa hSg hSo hAd hSA hSr hSC hCv hCw hPe hT0 hT1 hUs hUc hUb hW hD hn
  by_cases ha : f_allowed = 0
  · exact tc_wait0 ha h
  · refine tc_wait1 ha hSC hCv hPe ?_
    have hn : f_pending &&& tc_en (a_control 0) (a_control 1) f_serial f_converter f_storeControl f_mask = 0 := hn.resolve_left ha
    rw [(tc_rd0 _ _ _ _ _ _ _).mp hn]
    exact h
theorem tc_ywR {T : Nat} {u : SX} {v : SY} (R : tc_RR T u v) (hn : ¬ tc_NR u) : tc_xk u < 9 ∧ ∀ pz : Int32 → Prop, pz (nI (tc_xk u)) → wpY_waiting pz v := by
  refine tc_RRe (P := fun u v => ¬ tc_NR u → tc_xk u < 9 ∧ ∀ pz : Int32 → Prop, pz (nI (tc_xk u)) → wpY_waiting pz v) ?_ R hn
  intro f_length f_inputs f_sp f_pc f_zero f_carry f_allowed f_asleep f_halted f_pending f_resets f_taken f_data f_serial f_divider f_sending f_dueSent f_received f_overrun f_sent f_converter f_result f_dueResult f_output f_watch f_dueWatch f_address f_storing f_storeAt f_storeControl f_dueStore f_mask f_edges f_due f_head f_headAt f_headFlags f_stop f_pure a_op a_opA a_opB a_vectors a_analogs a_r a_m a_stack a_count a_since a_control a_compare a_dueEqual a_dueOver a_line a_store a_headR g_passed g_converter g_since l_s l_c l_b b_opA b_opB b_store b_pending b_count hLen hOp hA hB hAn hM hSt hR hR0 hZ hC hAl hAs hHa hRe hOv hPu hSp hT hSe hIn hDa hDi hRs hOu hWa hMa hSg hSo hAd hSA hSr hSC hCv hCw hPe hT0 hT1 hUs hUc hUb hW hD hn
  have ha : ¬ f_allowed = 0 := fun z => hn (Or.inl z)
  have hr : ¬ f_pending &&& tc_en (a_control 0) (a_control 1) f_serial f_converter f_storeControl f_mask = 0 := fun z => hn (Or.inr z)
  refine ⟨?_, fun pz h => tc_wait1 ha hSC hCv hPe h⟩
  have hle := tc_fst_le (tc_rd f_pending (a_control 0) (a_control 1) f_serial f_converter f_storeControl f_mask) 9 0
  have : tc_fst (tc_rd f_pending (a_control 0) (a_control 1) f_serial f_converter f_storeControl f_mask) 9 0 ≠ 9 := fun z => hr ((tc_rd0 _ _ _ _ _ _ _).mpr z)
  show tc_fst (tc_rd f_pending (a_control 0) (a_control 1) f_serial f_converter f_storeControl f_mask) 9 0 < 9
  omega
/-! Y's run, one turn of it -/
theorem tc_yrX {T n p c : Nat} {u : SX} {v v' v'' : SY} (R : tc_RR T u v) (h0 : tc_xha u = 0) (hn : tc_NR u) (ha : tc_xas u = 0) (hk : tc_pok u) (n31 : n < 2 ^ 31) (hp : tc_yps v = nI p) (hpn : p < n) (c3 : c ≤ 3)
    (hE : tc_YE v c v') (hC : tc_YCs c v' v'') : tc_YR (nI n) v v'' := by
  intro post ⟨m, h⟩
  have q := tc_y140L c3 c 0 v' v'' (by omega) hC h
  have w := tc_ywN R hn
  clear h hC
  refine ⟨m + 1, ?_⟩
  refine tc_RRe (P := fun u v => tc_xha u = 0 → tc_xas u = 0 → tc_pok u → tc_yps v = nI p → tc_YE v c v' → (∀ pz : Int32 → Prop, pz (nI 9) → wpY_waiting pz v) → tc_yr post (nI n) (m + 1) v) ?_ R h0 ha hk hp hE w
  clear R h0 hn ha hk hp hE w
  intro f_length f_inputs f_sp f_pc f_zero f_carry f_allowed f_asleep f_halted f_pending f_resets f_taken f_data f_serial f_divider f_sending f_dueSent f_received f_overrun f_sent f_converter f_result f_dueResult f_output f_watch f_dueWatch f_address f_storing f_storeAt f_storeControl f_dueStore f_mask f_edges f_due f_head f_headAt f_headFlags f_stop f_pure a_op a_opA a_opB a_vectors a_analogs a_r a_m a_stack a_count a_since a_control a_compare a_dueEqual a_dueOver a_line a_store a_headR g_passed g_converter g_since l_s l_c l_b b_opA b_opB b_store b_pending b_count hLen hOp hA hB hAn hM hSt hR hR0 hZ hC hAl hAs hHa hRe hOv hPu hSp hT hSe hIn hDa hDi hRs hOu hWa hMa hSg hSo hAd hSA hSr hSC hCv hCw hPe hT0 hT1 hUs hUc hUb hW hD h0 ha hk hp hE w
  obtain ⟨i, l, rfl, rfl, hil, l48⟩ := hk
  have hp : g_passed = nI p := hp
  have vi : vp_in (nI i) 48 := vp_in_nI (by omega) (by decide)
  refine br_f (by rw [hp]; exact nI_ge hpn n31) (br_t h0 ?_)
  refine w _ ?_
  refine br_t (by decide) (br_t ha (br_f (nI_pos (by omega)) (br_t (nI_lt hil (by omega)) ⟨vi, vi, vi, ?_⟩)))
  refine hE _ ?_
  obtain ⟨f_length, f_inputs, f_zero, f_carry, f_allowed, f_asleep, f_halted, f_sp, f_pc, f_now, g_passed, f_taken, f_resets, f_edges, f_sent, f_data, f_serial, f_divider, g_converter, f_result, f_output, f_watch, f_address, f_storeControl, f_mask, g_since, f_received, f_overrun, l_s, f_sending, l_c, l_b, f_storing, f_storeAt, a_op, b_opA, b_opB, a_vectors, a_analogs, b_store, a_r, a_m, a_stack, a_line, b_pending, b_count, a_control, a_compare⟩ := v'
  exact ⟨_, q⟩
theorem tc_yrC {T n p : Nat} {u : SX} {v v' : SY} (R : tc_RR T u v) (h0 : tc_xha u = 0) (hn : tc_NR u) (ha : ¬ tc_xas u = 0) (n31 : n < 2 ^ 31) (hp : tc_yps v = nI p) (hpn : p < n)
    (hC : tc_YC v v') : tc_YR (nI n) v v' := by
  intro post ⟨m, h⟩
  have w := tc_ywN R hn
  refine ⟨m + 1, ?_⟩
  refine tc_RRe (P := fun u v => tc_xha u = 0 → ¬ tc_xas u = 0 → tc_yps v = nI p → tc_YC v v' → (∀ pz : Int32 → Prop, pz (nI 9) → wpY_waiting pz v) → tc_yr post (nI n) (m + 1) v) ?_ R h0 ha hp hC w
  clear R h0 hn ha hp hC w
  intro f_length f_inputs f_sp f_pc f_zero f_carry f_allowed f_asleep f_halted f_pending f_resets f_taken f_data f_serial f_divider f_sending f_dueSent f_received f_overrun f_sent f_converter f_result f_dueResult f_output f_watch f_dueWatch f_address f_storing f_storeAt f_storeControl f_dueStore f_mask f_edges f_due f_head f_headAt f_headFlags f_stop f_pure a_op a_opA a_opB a_vectors a_analogs a_r a_m a_stack a_count a_since a_control a_compare a_dueEqual a_dueOver a_line a_store a_headR g_passed g_converter g_since l_s l_c l_b b_opA b_opB b_store b_pending b_count hLen hOp hA hB hAn hM hSt hR hR0 hZ hC hAl hAs hHa hRe hOv hPu hSp hT hSe hIn hDa hDi hRs hOu hWa hMa hSg hSo hAd hSA hSr hSC hCv hCw hPe hT0 hT1 hUs hUc hUb hW hD h0 ha hp hC w
  have hp : g_passed = nI p := hp
  refine br_f (by rw [hp]; exact nI_ge hpn n31) (br_t h0 ?_)
  refine w _ ?_
  refine br_t (by decide) (br_f ha ?_)
  refine hC _ ?_
  obtain ⟨f_length, f_inputs, f_zero, f_carry, f_allowed, f_asleep, f_halted, f_sp, f_pc, f_now, g_passed, f_taken, f_resets, f_edges, f_sent, f_data, f_serial, f_divider, g_converter, f_result, f_output, f_watch, f_address, f_storeControl, f_mask, g_since, f_received, f_overrun, l_s, f_sending, l_c, l_b, f_storing, f_storeAt, a_op, b_opA, b_opB, a_vectors, a_analogs, b_store, a_r, a_m, a_stack, a_line, b_pending, b_count, a_control, a_compare⟩ := v'
  exact h
theorem tc_yrI {T n p : Nat} {u : SX} {v v' : SY} (R : tc_RR T u v) (h0 : tc_xha u = 0) (hn : ¬ tc_NR u) (n31 : n < 2 ^ 31) (hp : tc_yps v = nI p) (hpn : p < n)
    (hI : ∀ post : SY → Prop, post v' → wpY_interrupt post v (nI (tc_xk u))) : tc_YR (nI n) v v' := by
  intro post ⟨m, h⟩
  obtain ⟨k9, w⟩ := tc_ywR R hn
  refine ⟨m + 1, ?_⟩
  generalize tc_xk u = k at *
  refine tc_RRe (P := fun u v => tc_xha u = 0 → tc_yps v = nI p → (∀ post : SY → Prop, post v' → wpY_interrupt post v (nI k)) → (∀ pz : Int32 → Prop, pz (nI k) → wpY_waiting pz v) → tc_yr post (nI n) (m + 1) v) ?_ R h0 hp hI w
  clear R h0 hn hp hI w
  intro f_length f_inputs f_sp f_pc f_zero f_carry f_allowed f_asleep f_halted f_pending f_resets f_taken f_data f_serial f_divider f_sending f_dueSent f_received f_overrun f_sent f_converter f_result f_dueResult f_output f_watch f_dueWatch f_address f_storing f_storeAt f_storeControl f_dueStore f_mask f_edges f_due f_head f_headAt f_headFlags f_stop f_pure a_op a_opA a_opB a_vectors a_analogs a_r a_m a_stack a_count a_since a_control a_compare a_dueEqual a_dueOver a_line a_store a_headR g_passed g_converter g_since l_s l_c l_b b_opA b_opB b_store b_pending b_count hLen hOp hA hB hAn hM hSt hR hR0 hZ hC hAl hAs hHa hRe hOv hPu hSp hT hSe hIn hDa hDi hRs hOu hWa hMa hSg hSo hAd hSA hSr hSC hCv hCw hPe hT0 hT1 hUs hUc hUb hW hD h0 hp hI w
  have hp : g_passed = nI p := hp
  refine br_f (by rw [hp]; exact nI_ge hpn n31) (br_t h0 ?_)
  refine w _ ?_
  refine br_f (nI_ge (b := 9) k9 (by decide)) ?_
  refine hI _ ?_
  obtain ⟨f_length, f_inputs, f_zero, f_carry, f_allowed, f_asleep, f_halted, f_sp, f_pc, f_now, g_passed, f_taken, f_resets, f_edges, f_sent, f_data, f_serial, f_divider, g_converter, f_result, f_output, f_watch, f_address, f_storeControl, f_mask, g_since, f_received, f_overrun, l_s, f_sending, l_c, l_b, f_storing, f_storeAt, a_op, b_opA, b_opB, a_vectors, a_analogs, b_store, a_r, a_m, a_stack, a_line, b_pending, b_count, a_control, a_compare⟩ := v'
  exact h
/-- the end of Y's run -/
theorem tc_yrE {T n p : Nat} {u : SX} {v : SY} (R : tc_RR T u v) (n31 : n < 2 ^ 31) (p31 : p < 2 ^ 31) (hp : tc_yps v = nI p) (hh : n ≤ p ∨ tc_xha u = 1) (post : Int32 → SY → Prop) (h : post (nI p) v) : tc_yr post (nI n) 1 v := by
  refine tc_RRe (P := fun u v => tc_yps v = nI p → (n ≤ p ∨ tc_xha u = 1) → post (nI p) v → tc_yr post (nI n) 1 v) ?_ R hp hh h
  clear R hp hh h
  intro f_length f_inputs f_sp f_pc f_zero f_carry f_allowed f_asleep f_halted f_pending f_resets f_taken f_data f_serial f_divider f_sending f_dueSent f_received f_overrun f_sent f_converter f_result f_dueResult f_output f_watch f_dueWatch f_address f_storing f_storeAt f_storeControl f_dueStore f_mask f_edges f_due f_head f_headAt f_headFlags f_stop f_pure a_op a_opA a_opB a_vectors a_analogs a_r a_m a_stack a_count a_since a_control a_compare a_dueEqual a_dueOver a_line a_store a_headR g_passed g_converter g_since l_s l_c l_b b_opA b_opB b_store b_pending b_count hLen hOp hA hB hAn hM hSt hR hR0 hZ hC hAl hAs hHa hRe hOv hPu hSp hT hSe hIn hDa hDi hRs hOu hWa hMa hSg hSo hAd hSA hSr hSC hCv hCw hPe hT0 hT1 hUs hUc hUb hW hD hp hh h
  have hp : g_passed = nI p := hp
  subst hp
  by_cases c : n ≤ p
  · exact br_t (nI_le c p31) h
  · have hh : f_halted = 1 := hh.resolve_left c
    exact br_f (nI_ge (by omega) n31) (br_f (by rw [hh]; decide) h)
end
section
/-! X's run, one turn of it; the interrupt on both sides; the end of a step -/
theorem tc_XR_t {x1 x2 : Int32} {a b c : SX} (h : tc_XR x1 x2 a b) (h' : tc_XR x1 x2 b c) : tc_XR x1 x2 a c := fun post z => h post (h' post z)
theorem tc_xrE {T n b : Nat} {u : SX} {v : SY} (R : tc_RR T u v) (hb : b ≤ T) (hB : T ≤ 1100000000) (n31 : n < 2 ^ 31) (hh : n ≤ T - b ∨ tc_xha u = 1) (post : Int32 → SX → Prop) (h : post (nI (T - b)) u) : tc_xr post (nI n) (nI b) 1 u := by
  refine tc_RRe (P := fun u v => (n ≤ T - b ∨ tc_xha u = 1) → post (nI (T - b)) u → tc_xr post (nI n) (nI b) 1 u) ?_ R hh h
  clear R hh h
  intro f_length f_inputs f_sp f_pc f_zero f_carry f_allowed f_asleep f_halted f_pending f_resets f_taken f_data f_serial f_divider f_sending f_dueSent f_received f_overrun f_sent f_converter f_result f_dueResult f_output f_watch f_dueWatch f_address f_storing f_storeAt f_storeControl f_dueStore f_mask f_edges f_due f_head f_headAt f_headFlags f_stop f_pure a_op a_opA a_opB a_vectors a_analogs a_r a_m a_stack a_count a_since a_control a_compare a_dueEqual a_dueOver a_line a_store a_headR g_passed g_converter g_since l_s l_c l_b b_opA b_opB b_store b_pending b_count hLen hOp hA hB hAn hM hSt hR hR0 hZ hC hAl hAs hHa hRe hOv hPu hSp hT hSe hIn hDa hDi hRs hOu hWa hMa hSg hSo hAd hSA hSr hSC hCv hCw hPe hT0 hT1 hUs hUc hUb hW hD hh h
  have e : nI T - nI b = nI (T - b) := pk_sub hb
  by_cases c : f_halted = 0
  · have hh : n ≤ T - b := by
      rcases hh with z | z
      · exact z
      · have z : f_halted = 1 := z
        rw [c] at z; exact absurd z (by decide)
    refine br_t c ?_
    rw [e]
    exact br_t (nI_le hh (by omega)) h
  · refine br_f c ?_
    rw [e]; exact h
theorem tc_xrS {T n b : Nat} {u u' : SX} {v : SY} (R : tc_RR T u v) (hb : b ≤ T) (n31 : n < 2 ^ 31) (hn : T - b < n) (h0 : tc_xha u = 0) (hN : tc_NR u) (ha : tc_xas u = 0)
    (hS : ∀ post : SX → Prop, post u' → wpX_step post u) : tc_XR (nI n) (nI b) u u' := by
  intro post ⟨m, h⟩
  refine ⟨m + 1, ?_⟩
  refine tc_RRe (P := fun u v => tc_xha u = 0 → tc_NR u → tc_xas u = 0 → (∀ post : SX → Prop, post u' → wpX_step post u) → tc_xr post (nI n) (nI b) (m + 1) u) ?_ R h0 hN ha hS
  clear R h0 hN ha hS
  intro f_length f_inputs f_sp f_pc f_zero f_carry f_allowed f_asleep f_halted f_pending f_resets f_taken f_data f_serial f_divider f_sending f_dueSent f_received f_overrun f_sent f_converter f_result f_dueResult f_output f_watch f_dueWatch f_address f_storing f_storeAt f_storeControl f_dueStore f_mask f_edges f_due f_head f_headAt f_headFlags f_stop f_pure a_op a_opA a_opB a_vectors a_analogs a_r a_m a_stack a_count a_since a_control a_compare a_dueEqual a_dueOver a_line a_store a_headR g_passed g_converter g_since l_s l_c l_b b_opA b_opB b_store b_pending b_count hLen hOp hA hB hAn hM hSt hR hR0 hZ hC hAl hAs hHa hRe hOv hPu hSp hT hSe hIn hDa hDi hRs hOu hWa hMa hSg hSo hAd hSA hSr hSC hCv hCw hPe hT0 hT1 hUs hUc hUb hW hD h0 hN ha hS
  have e : nI T - nI b = nI (T - b) := pk_sub hb
  have q : wX_run_75 post (wX_run_43 post (nI n) (nI b) m) (nI n) (nI b) 0 f_length f_inputs f_sp f_pc f_zero f_carry f_allowed f_asleep f_halted f_pending f_resets f_taken (nI T) f_data f_serial f_divider f_sending f_dueSent f_received f_overrun f_sent f_converter f_result f_dueResult f_output f_watch f_dueWatch f_address f_storing f_storeAt f_storeControl f_dueStore f_mask f_edges f_due f_head f_headAt f_headFlags f_stop f_pure a_op a_opA a_opB a_vectors a_analogs a_r a_m a_stack a_count a_since a_control a_compare a_dueEqual a_dueOver a_line a_store a_headR := by
    refine br_t rfl (br_t ha ?_)
    refine hS _ ?_
    clear hS
    obtain ⟨f_length, f_inputs, f_sp, f_pc, f_zero, f_carry, f_allowed, f_asleep, f_halted, f_pending, f_resets, f_taken, f_now, f_data, f_serial, f_divider, f_sending, f_dueSent, f_received, f_overrun, f_sent, f_converter, f_result, f_dueResult, f_output, f_watch, f_dueWatch, f_address, f_storing, f_storeAt, f_storeControl, f_dueStore, f_mask, f_edges, f_due, f_head, f_headAt, f_headFlags, f_stop, f_pure, a_op, a_opA, a_opB, a_vectors, a_analogs, a_r, a_m, a_stack, a_count, a_since, a_control, a_compare, a_dueEqual, a_dueOver, a_line, a_store, a_headR⟩ := u'
    exact h
  refine br_t h0 ?_
  rw [e]
  refine br_f (nI_ge hn n31) ?_
  by_cases c : f_allowed = 0
  · exact br_t c q
  · refine br_f c ?_
    have hN : f_pending &&& tc_en (a_control 0) (a_control 1) f_serial f_converter f_storeControl f_mask = 0 := hN.resolve_left c
    refine tc_Xen ?_
    rw [hN]; exact q
theorem tc_xrR {T n b : Nat} {u u' : SX} {v : SY} (R : tc_RR T u v) (hb : b ≤ T) (n31 : n < 2 ^ 31) (hn : T - b < n) (h0 : tc_xha u = 0) (hN : tc_NR u) (ha : ¬ tc_xas u = 0)
    (hS : ∀ post : SX → Prop, post u' → wpX_rest post u (nI b + nI n)) : tc_XR (nI n) (nI b) u u' := by
  intro post ⟨m, h⟩
  refine ⟨m + 1, ?_⟩
  refine tc_RRe (P := fun u v => tc_xha u = 0 → tc_NR u → ¬ tc_xas u = 0 → (∀ post : SX → Prop, post u' → wpX_rest post u (nI b + nI n)) → tc_xr post (nI n) (nI b) (m + 1) u) ?_ R h0 hN ha hS
  clear R h0 hN ha hS
  intro f_length f_inputs f_sp f_pc f_zero f_carry f_allowed f_asleep f_halted f_pending f_resets f_taken f_data f_serial f_divider f_sending f_dueSent f_received f_overrun f_sent f_converter f_result f_dueResult f_output f_watch f_dueWatch f_address f_storing f_storeAt f_storeControl f_dueStore f_mask f_edges f_due f_head f_headAt f_headFlags f_stop f_pure a_op a_opA a_opB a_vectors a_analogs a_r a_m a_stack a_count a_since a_control a_compare a_dueEqual a_dueOver a_line a_store a_headR g_passed g_converter g_since l_s l_c l_b b_opA b_opB b_store b_pending b_count hLen hOp hA hB hAn hM hSt hR hR0 hZ hC hAl hAs hHa hRe hOv hPu hSp hT hSe hIn hDa hDi hRs hOu hWa hMa hSg hSo hAd hSA hSr hSC hCv hCw hPe hT0 hT1 hUs hUc hUb hW hD h0 hN ha hS
  have e : nI T - nI b = nI (T - b) := pk_sub hb
  have q : wX_run_75 post (wX_run_43 post (nI n) (nI b) m) (nI n) (nI b) 0 f_length f_inputs f_sp f_pc f_zero f_carry f_allowed f_asleep f_halted f_pending f_resets f_taken (nI T) f_data f_serial f_divider f_sending f_dueSent f_received f_overrun f_sent f_converter f_result f_dueResult f_output f_watch f_dueWatch f_address f_storing f_storeAt f_storeControl f_dueStore f_mask f_edges f_due f_head f_headAt f_headFlags f_stop f_pure a_op a_opA a_opB a_vectors a_analogs a_r a_m a_stack a_count a_since a_control a_compare a_dueEqual a_dueOver a_line a_store a_headR := by
    refine br_t rfl (br_f ha ?_)
    refine hS _ ?_
    clear hS
    obtain ⟨f_length, f_inputs, f_sp, f_pc, f_zero, f_carry, f_allowed, f_asleep, f_halted, f_pending, f_resets, f_taken, f_now, f_data, f_serial, f_divider, f_sending, f_dueSent, f_received, f_overrun, f_sent, f_converter, f_result, f_dueResult, f_output, f_watch, f_dueWatch, f_address, f_storing, f_storeAt, f_storeControl, f_dueStore, f_mask, f_edges, f_due, f_head, f_headAt, f_headFlags, f_stop, f_pure, a_op, a_opA, a_opB, a_vectors, a_analogs, a_r, a_m, a_stack, a_count, a_since, a_control, a_compare, a_dueEqual, a_dueOver, a_line, a_store, a_headR⟩ := u'
    exact h
  refine br_t h0 ?_
  rw [e]
  refine br_f (nI_ge hn n31) ?_
  by_cases c : f_allowed = 0
  · exact br_t c q
  · refine br_f c ?_
    have hN : f_pending &&& tc_en (a_control 0) (a_control 1) f_serial f_converter f_storeControl f_mask = 0 := hN.resolve_left c
    refine tc_Xen ?_
    rw [hN]; exact q
theorem tc_xrI {T n b : Nat} {u u' : SX} {v : SY} (R : tc_RR T u v) (hb : b ≤ T) (n31 : n < 2 ^ 31) (hn : T - b < n) (h0 : tc_xha u = 0) (hN : ¬ tc_NR u)
    (hS : ∀ post : SX → Prop, post u' → wpX_interrupt post u (tc_xrd u)) : tc_XR (nI n) (nI b) u u' := by
  intro post ⟨m, h⟩
  refine ⟨m + 1, ?_⟩
  refine tc_RRe (P := fun u v => tc_xha u = 0 → ¬ tc_NR u → (∀ post : SX → Prop, post u' → wpX_interrupt post u (tc_xrd u)) → tc_xr post (nI n) (nI b) (m + 1) u) ?_ R h0 hN hS
  clear R h0 hN hS
  intro f_length f_inputs f_sp f_pc f_zero f_carry f_allowed f_asleep f_halted f_pending f_resets f_taken f_data f_serial f_divider f_sending f_dueSent f_received f_overrun f_sent f_converter f_result f_dueResult f_output f_watch f_dueWatch f_address f_storing f_storeAt f_storeControl f_dueStore f_mask f_edges f_due f_head f_headAt f_headFlags f_stop f_pure a_op a_opA a_opB a_vectors a_analogs a_r a_m a_stack a_count a_since a_control a_compare a_dueEqual a_dueOver a_line a_store a_headR g_passed g_converter g_since l_s l_c l_b b_opA b_opB b_store b_pending b_count hLen hOp hA hB hAn hM hSt hR hR0 hZ hC hAl hAs hHa hRe hOv hPu hSp hT hSe hIn hDa hDi hRs hOu hWa hMa hSg hSo hAd hSA hSr hSC hCv hCw hPe hT0 hT1 hUs hUc hUb hW hD h0 hN hS
  have e : nI T - nI b = nI (T - b) := pk_sub hb
  have c : ¬ f_allowed = 0 := fun z => hN (Or.inl z)
  have hr : ¬ f_pending &&& tc_en (a_control 0) (a_control 1) f_serial f_converter f_storeControl f_mask = 0 := fun z => hN (Or.inr z)
  refine br_t h0 ?_
  rw [e]
  refine br_f (nI_ge hn n31) (br_f c ?_)
  refine tc_Xen ?_
  refine br_f hr ?_
  refine hS _ ?_
  clear hS
  obtain ⟨f_length, f_inputs, f_sp, f_pc, f_zero, f_carry, f_allowed, f_asleep, f_halted, f_pending, f_resets, f_taken, f_now, f_data, f_serial, f_divider, f_sending, f_dueSent, f_received, f_overrun, f_sent, f_converter, f_result, f_dueResult, f_output, f_watch, f_dueWatch, f_address, f_storing, f_storeAt, f_storeControl, f_dueStore, f_mask, f_edges, f_due, f_head, f_headAt, f_headFlags, f_stop, f_pure, a_op, a_opA, a_opB, a_vectors, a_analogs, a_r, a_m, a_stack, a_count, a_since, a_control, a_compare, a_dueEqual, a_dueOver, a_line, a_store, a_headR⟩ := u'
  exact h
/-! the interrupt -/
section
variable {post : SX → Prop} {T k : Nat} {f_length f_inputs f_sp f_pc f_zero f_carry f_allowed f_asleep f_halted f_pending f_resets f_taken f_data f_serial f_divider f_sending f_dueSent f_received f_overrun f_sent f_converter f_result f_dueResult f_output f_watch f_dueWatch f_address f_storing f_storeAt f_storeControl f_dueStore f_mask f_edges f_due f_head f_headAt f_headFlags f_stop f_pure : Int32} {a_op a_opA a_opB a_vectors a_analogs a_r a_m a_stack a_count a_since a_control a_compare a_dueEqual a_dueOver a_line a_store a_headR : Nat → Int32} {g_passed g_converter g_since : Int32} {l_s l_c l_b : Nat} {b_opA b_opB b_store b_pending b_count : Nat → Int32}
theorem tc_int2 {rd : Int32} (hk : k < 9) (hf : ∀ j, j < k → bt rd j = false) : ∀ (d j : Nat) (n : Nat), j + d = k → wX_interrupt_2 post rd f_length f_inputs f_sp f_pc f_zero f_carry f_allowed f_asleep f_halted f_pending f_resets f_taken (nI T) f_data f_serial f_divider f_sending f_dueSent f_received f_overrun f_sent f_converter f_result f_dueResult f_output f_watch f_dueWatch f_address f_storing f_storeAt f_storeControl f_dueStore f_mask f_edges f_due f_head f_headAt f_headFlags f_stop f_pure a_op a_opA a_opB a_vectors a_analogs a_r a_m a_stack a_count a_since a_control a_compare a_dueEqual a_dueOver a_line a_store a_headR (n + 1) (nI k) → wX_interrupt_2 post rd f_length f_inputs f_sp f_pc f_zero f_carry f_allowed f_asleep f_halted f_pending f_resets f_taken (nI T) f_data f_serial f_divider f_sending f_dueSent f_received f_overrun f_sent f_converter f_result f_dueResult f_output f_watch f_dueWatch f_address f_storing f_storeAt f_storeControl f_dueStore f_mask f_edges f_due f_head f_headAt f_headFlags f_stop f_pure a_op a_opA a_opB a_vectors a_analogs a_r a_m a_stack a_count a_since a_control a_compare a_dueEqual a_dueOver a_line a_store a_headR (n + 1 + d) (nI j) := by
  intro d
  induction d with
  | zero =>
    intro j n hj h
    rw [show j = k by omega]; exact h
  | succ d ih =>
    intro j n hj h
    have q := ih (j + 1) n (by omega) h
    refine br_t ?_ (nm_r (nI_1 j) q)
    rw [tc_bit rd (by omega), tc_bI0]; exact hf j (by omega)
theorem tc_pF_clr {p : Int32} {b : Nat → Int32} (hk : k < 9) (h : tc_pF p b) : tc_pF (p &&& (((1 : Int32) <<< (nI k &&& 31)) ^^^ (-1))) (upd b k 0) := by
  intro i hi
  have e : bt ((1 : Int32) <<< (nI k &&& 31)) i = decide (i = k) := (by decide +kernel : ∀ k, k < 9 → ∀ i, i < 9 → bt ((1 : Int32) <<< (nI k &&& 31)) i = decide (i = k)) k hk i hi
  rw [b_and, b_xor, b_m1 i (by omega), e]
  by_cases c : i = k
  · rw [c, pk_us, decide_eq_true rfl, show (true ^^ true) = false from rfl, Bool.and_false]; rfl
  · rw [pk_un c, decide_eq_false c, show (false ^^ true) = true from rfl, Bool.and_true]; exact h i hi
end
def tc_IT (T : Nat) (u : SX) (v : SY) : Prop :=
  (∃ (u' : SX) (v' : SY), tc_RR T u' v' ∧ (∀ post : SX → Prop, post u' → wpX_interrupt post u (tc_xrd u)) ∧ (∀ post : SY → Prop, post v' → wpY_interrupt post v (nI (tc_xk u))) ∧ tc_xha u' = 1 ∧ tc_yps v' = tc_yps v) ∨
  (∃ (u1 : SX) (v1 : SY), tc_RR T u1 v1 ∧ tc_xpu u1 = 0 ∧ tc_xst u1 = tc_xst u ∧ tc_yps v1 = tc_yps v ∧
    (∀ u2 : SX, (∀ post : SX → Prop, post u2 → wpX_pass post u1 (nI 3)) → ∀ post : SX → Prop, post u2 → wpX_interrupt post u (tc_xrd u)) ∧
    (∀ v2 : SY, tc_YCs 3 v1 v2 → ∀ post : SY → Prop, post v2 → wpY_interrupt post v (nI (tc_xk u))))
section
variable {T k s : Nat} {f_length f_inputs f_sp f_pc f_zero f_carry f_allowed f_asleep f_halted f_pending f_resets f_taken f_data f_serial f_divider f_sending f_dueSent f_received f_overrun f_sent f_converter f_result f_dueResult f_output f_watch f_dueWatch f_address f_storing f_storeAt f_storeControl f_dueStore f_mask f_edges f_due f_head f_headAt f_headFlags f_stop f_pure : Int32} {a_op a_opA a_opB a_vectors a_analogs a_r a_m a_stack a_count a_since a_control a_compare a_dueEqual a_dueOver a_line a_store a_headR : Nat → Int32} {g_passed g_converter g_since : Int32} {l_s l_c l_b : Nat} {b_opA b_opB b_store b_pending b_count : Nat → Int32}
theorem tc_intY {v2 : SY} (hk : k < 9) (hs : s < 16) (hC : tc_YCs 3 (f_length, f_inputs, f_zero, f_carry, 0, 0, f_halted, nI s + 1, a_vectors k, nI T, g_passed, f_taken + 1, f_resets, f_edges, f_sent, f_data, f_serial, f_divider, g_converter, f_result, f_output, f_watch, f_address, f_storeControl, f_mask, g_since, f_received, f_overrun, nI l_s, f_sending, nI l_c, nI l_b, f_storing, f_storeAt, a_op, b_opA, b_opB, a_vectors, a_analogs, b_store, a_r, a_m, upd a_stack s f_pc, a_line, upd b_pending k 0, b_count, a_control, a_compare) v2) (post : SY → Prop) (h : post v2) : wpY_interrupt post (f_length, f_inputs, f_zero, f_carry, f_allowed, f_asleep, f_halted, nI s, f_pc, nI T, g_passed, f_taken, f_resets, f_edges, f_sent, f_data, f_serial, f_divider, g_converter, f_result, f_output, f_watch, f_address, f_storeControl, f_mask, g_since, f_received, f_overrun, nI l_s, f_sending, nI l_c, nI l_b, f_storing, f_storeAt, a_op, b_opA, b_opB, a_vectors, a_analogs, b_store, a_r, a_m, a_stack, a_line, b_pending, b_count, a_control, a_compare) (nI k) := by
  have ek := nI_clamp (n := k) (by omega)
  have es := nI_clamp (n := s) (by omega)
  have vk : vp_in (nI k) 9 := vp_in_nI hk (by decide)
  have q := tc_y62L (post := post) 3 0 _ v2 rfl hC h
  refine br_f (fun z => by have := (nI_eq (b := 16) (by omega) (by decide)).mp z; omega) ?_
  rw [ek]
  refine And.intro vk (nm_e ?_)
  refine And.intro (vp_in_nI hs (by decide)) ?_
  rw [es]
  refine nm_e (nm_e ?_)
  exact And.intro vk (nm_e (nm_e ⟨4, q⟩))
theorem tc_intX {rd : Int32} {u2 : SX} (hk : k < 9) (hs : s < 16) (hf : ∀ j, j < k → bt rd j = false) (ht : bt rd k = true)
    (hP : ∀ post : SX → Prop, post u2 → wpX_pass post (f_length, f_inputs, nI s + 1, a_vectors k, f_zero, f_carry, 0, 0, f_halted, f_pending &&& (((1 : Int32) <<< (nI k &&& 31)) ^^^ (-1)), f_resets, f_taken + 1, nI T, f_data, f_serial, f_divider, f_sending, f_dueSent, f_received, f_overrun, f_sent, f_converter, f_result, f_dueResult, f_output, f_watch, f_dueWatch, f_address, f_storing, f_storeAt, f_storeControl, f_dueStore, f_mask, f_edges, f_due, f_head, f_headAt, f_headFlags, f_stop, 0, a_op, a_opA, a_opB, a_vectors, a_analogs, a_r, a_m, upd a_stack s f_pc, a_count, a_since, a_control, a_compare, a_dueEqual, a_dueOver, a_line, a_store, a_headR) (nI 3)) (post : SX → Prop) (h : post u2) : wpX_interrupt post (f_length, f_inputs, nI s, f_pc, f_zero, f_carry, f_allowed, f_asleep, f_halted, f_pending, f_resets, f_taken, nI T, f_data, f_serial, f_divider, f_sending, f_dueSent, f_received, f_overrun, f_sent, f_converter, f_result, f_dueResult, f_output, f_watch, f_dueWatch, f_address, f_storing, f_storeAt, f_storeControl, f_dueStore, f_mask, f_edges, f_due, f_head, f_headAt, f_headFlags, f_stop, f_pure, a_op, a_opA, a_opB, a_vectors, a_analogs, a_r, a_m, a_stack, a_count, a_since, a_control, a_compare, a_dueEqual, a_dueOver, a_line, a_store, a_headR) rd := by
  have ek := nI_clamp (n := k) (by omega)
  have es := nI_clamp (n := s) (by omega)
  unfold wpX_interrupt
  refine ⟨0 + 1 + k, tc_int2 hk hf k 0 0 (by omega) ?_⟩
  refine br_f (by rw [tc_bit rd (by omega), tc_bI0, ht]; decide) ?_
  refine br_f (fun z => by have := (nI_eq (b := 16) (by omega) (by decide)).mp z; omega) ?_
  rw [ek, es]
  refine nm_e (nm_e (And.intro (vp_in_nI hs (by decide)) (nm_e (And.intro (vp_in_nI hk (by decide)) (nm_e (nm_e ?_))))))
  refine hP _ ?_
  clear hP
  obtain ⟨f_length, f_inputs, f_sp, f_pc, f_zero, f_carry, f_allowed, f_asleep, f_halted, f_pending, f_resets, f_taken, f_now, f_data, f_serial, f_divider, f_sending, f_dueSent, f_received, f_overrun, f_sent, f_converter, f_result, f_dueResult, f_output, f_watch, f_dueWatch, f_address, f_storing, f_storeAt, f_storeControl, f_dueStore, f_mask, f_edges, f_due, f_head, f_headAt, f_headFlags, f_stop, f_pure, a_op, a_opA, a_opB, a_vectors, a_analogs, a_r, a_m, a_stack, a_count, a_since, a_control, a_compare, a_dueEqual, a_dueOver, a_line, a_store, a_headR⟩ := u2
  exact h
end
theorem tc_int {T : Nat} {u : SX} {v : SY} (R : tc_RR T u v) (hN : ¬ tc_NR u) : tc_IT T u v := by
  obtain ⟨k9, -⟩ := tc_ywR R hN
  refine tc_RRe (P := fun u v => ¬ tc_NR u → tc_xk u < 9 → tc_IT T u v) ?_ R hN k9
  clear R hN k9
  intro f_length f_inputs f_sp f_pc f_zero f_carry f_allowed f_asleep f_halted f_pending f_resets f_taken f_data f_serial f_divider f_sending f_dueSent f_received f_overrun f_sent f_converter f_result f_dueResult f_output f_watch f_dueWatch f_address f_storing f_storeAt f_storeControl f_dueStore f_mask f_edges f_due f_head f_headAt f_headFlags f_stop f_pure a_op a_opA a_opB a_vectors a_analogs a_r a_m a_stack a_count a_since a_control a_compare a_dueEqual a_dueOver a_line a_store a_headR g_passed g_converter g_since l_s l_c l_b b_opA b_opB b_store b_pending b_count hLen hOp hA hB hAn hM hSt hR hR0 hZ hC hAl hAs hHa hRe hOv hPu hSp hT hSe hIn hDa hDi hRs hOu hWa hMa hSg hSo hAd hSA hSr hSC hCv hCw hPe hT0 hT1 hUs hUc hUb hW hD hN k9z
  have k9 : tc_fst (tc_rd f_pending (a_control 0) (a_control 1) f_serial f_converter f_storeControl f_mask) 9 0 < 9 := k9z
  clear k9z
  have ht := tc_fst_t (tc_rd f_pending (a_control 0) (a_control 1) f_serial f_converter f_storeControl f_mask) 9 0 (by omega)
  have hf := fun j (h : j < tc_fst (tc_rd f_pending (a_control 0) (a_control 1) f_serial f_converter f_storeControl f_mask) 9 0) => tc_fst_f (tc_rd f_pending (a_control 0) (a_control 1) f_serial f_converter f_storeControl f_mask) 9 0 j (Nat.zero_le _) h
  have ek : tc_xk (f_length, f_inputs, f_sp, f_pc, f_zero, f_carry, f_allowed, f_asleep, f_halted, f_pending, f_resets, f_taken, nI T, f_data, f_serial, f_divider, f_sending, f_dueSent, f_received, f_overrun, f_sent, f_converter, f_result, f_dueResult, f_output, f_watch, f_dueWatch, f_address, f_storing, f_storeAt, f_storeControl, f_dueStore, f_mask, f_edges, f_due, f_head, f_headAt, f_headFlags, f_stop, f_pure, a_op, a_opA, a_opB, a_vectors, a_analogs, a_r, a_m, a_stack, a_count, a_since, a_control, a_compare, a_dueEqual, a_dueOver, a_line, a_store, a_headR) = tc_fst (tc_rd f_pending (a_control 0) (a_control 1) f_serial f_converter f_storeControl f_mask) 9 0 := rfl
  have er : tc_xrd (f_length, f_inputs, f_sp, f_pc, f_zero, f_carry, f_allowed, f_asleep, f_halted, f_pending, f_resets, f_taken, nI T, f_data, f_serial, f_divider, f_sending, f_dueSent, f_received, f_overrun, f_sent, f_converter, f_result, f_dueResult, f_output, f_watch, f_dueWatch, f_address, f_storing, f_storeAt, f_storeControl, f_dueStore, f_mask, f_edges, f_due, f_head, f_headAt, f_headFlags, f_stop, f_pure, a_op, a_opA, a_opB, a_vectors, a_analogs, a_r, a_m, a_stack, a_count, a_since, a_control, a_compare, a_dueEqual, a_dueOver, a_line, a_store, a_headR) = f_pending &&& tc_en (a_control 0) (a_control 1) f_serial f_converter f_storeControl f_mask := rfl
  unfold tc_IT
  rw [ek, er]
  generalize tc_fst (tc_rd f_pending (a_control 0) (a_control 1) f_serial f_converter f_storeControl f_mask) 9 0 = k at *
  have ht : bt (f_pending &&& tc_en (a_control 0) (a_control 1) f_serial f_converter f_storeControl f_mask) k = true := by rw [tc_rdb _ _ _ _ _ _ _ _ (by omega)]; exact ht
  have hf : ∀ j, j < k → bt (f_pending &&& tc_en (a_control 0) (a_control 1) f_serial f_converter f_storeControl f_mask) j = false := fun j hj => by rw [tc_rdb _ _ _ _ _ _ _ _ (by omega)]; exact hf j hj
  clear ek er hN
  generalize f_pending &&& tc_en (a_control 0) (a_control 1) f_serial f_converter f_storeControl f_mask = rd at *
  have hSp' := hSp
  obtain ⟨s, s16, rfl⟩ := hSp'
  by_cases hs : s = 16
  · left
    subst hs
    refine ⟨(f_length, f_inputs, nI 16, f_pc, f_zero, f_carry, f_allowed, f_asleep, 1, f_pending, f_resets, f_taken, nI T, f_data, f_serial, f_divider, f_sending, f_dueSent, f_received, f_overrun, f_sent, f_converter, f_result, f_dueResult, f_output, f_watch, f_dueWatch, f_address, f_storing, f_storeAt, f_storeControl, f_dueStore, f_mask, f_edges, f_due, f_head, f_headAt, f_headFlags, f_stop, f_pure, a_op, a_opA, a_opB, a_vectors, a_analogs, a_r, a_m, a_stack, a_count, a_since, a_control, a_compare, a_dueEqual, a_dueOver, a_line, a_store, a_headR), (f_length, f_inputs, f_zero, f_carry, f_allowed, f_asleep, 1, nI 16, f_pc, nI T, g_passed, f_taken, f_resets, f_edges, f_sent, f_data, f_serial, f_divider, g_converter, f_result, f_output, f_watch, f_address, f_storeControl, f_mask, g_since, f_received, f_overrun, nI l_s, f_sending, nI l_c, nI l_b, f_storing, f_storeAt, a_op, b_opA, b_opB, a_vectors, a_analogs, b_store, a_r, a_m, a_stack, a_line, b_pending, b_count, a_control, a_compare), tc_RRi hLen hOp hA hB hAn hM hSt hR hR0 hZ hC hAl hAs tc_bo1 hRe hOv hPu hSp hT hSe hIn hDa hDi hRs hOu hWa hMa hSg hSo hAd hSA hSr hSC hCv hCw hPe hT0 hT1 hUs hUc hUb hW hD, fun post h => ?_, fun post h => br_t rfl h, rfl, rfl⟩
    unfold wpX_interrupt
    refine ⟨0 + 1 + k, tc_int2 k9 hf k 0 0 (by omega) ?_⟩
    refine br_f (by rw [tc_bit rd (by omega), tc_bI0, ht]; decide) ?_
    exact br_t rfl h
  · right
    refine ⟨(f_length, f_inputs, nI s + 1, a_vectors k, f_zero, f_carry, 0, 0, f_halted, f_pending &&& (((1 : Int32) <<< (nI k &&& 31)) ^^^ (-1)), f_resets, f_taken + 1, nI T, f_data, f_serial, f_divider, f_sending, f_dueSent, f_received, f_overrun, f_sent, f_converter, f_result, f_dueResult, f_output, f_watch, f_dueWatch, f_address, f_storing, f_storeAt, f_storeControl, f_dueStore, f_mask, f_edges, f_due, f_head, f_headAt, f_headFlags, f_stop, 0, a_op, a_opA, a_opB, a_vectors, a_analogs, a_r, a_m, upd a_stack s f_pc, a_count, a_since, a_control, a_compare, a_dueEqual, a_dueOver, a_line, a_store, a_headR), (f_length, f_inputs, f_zero, f_carry, 0, 0, f_halted, nI s + 1, a_vectors k, nI T, g_passed, f_taken + 1, f_resets, f_edges, f_sent, f_data, f_serial, f_divider, g_converter, f_result, f_output, f_watch, f_address, f_storeControl, f_mask, g_since, f_received, f_overrun, nI l_s, f_sending, nI l_c, nI l_b, f_storing, f_storeAt, a_op, b_opA, b_opB, a_vectors, a_analogs, b_store, a_r, a_m, upd a_stack s f_pc, a_line, upd b_pending k 0, b_count, a_control, a_compare), ?_, rfl, rfl, rfl, fun u2 hP post h => tc_intX k9 (by omega) hf ht hP post h, fun v2 hC post h => tc_intY k9 (by omega) hC post h⟩
    exact tc_RRi hLen hOp hA hB hAn hM hSt hR hR0 hZ hC tc_bo0 tc_bo0 hHa hRe hOv tc_bo0 (⟨s + 1, by omega, nI_1 s⟩) hT hSe hIn hDa hDi hRs hOu hWa hMa hSg hSo hAd hSA hSr hSC hCv hCw (tc_pF_clr k9 hPe) hT0 hT1 hUs hUc hUb hW hD
/-! the end of a step -/
theorem tc_s220a {x1 x2 x5 : Int32} {u' u2 : SX} (hp : ∀ post : SX → Prop, post u2 → wpX_pass post u' x5) :
    (∀ post : SX → Prop, post u2 → tc_s220 post x1 x2 x5 u') ∨ (∀ u3 : SX, (∀ post : SX → Prop, post u3 → wpX_again post u2) → ∀ post : SX → Prop, post u3 → tc_s220 post x1 x2 x5 u') := by
  obtain ⟨f_length, f_inputs, f_sp, f_pc, f_zero, f_carry, f_allowed, f_asleep, f_halted, f_pending, f_resets, f_taken, f_now, f_data, f_serial, f_divider, f_sending, f_dueSent, f_received, f_overrun, f_sent, f_converter, f_result, f_dueResult, f_output, f_watch, f_dueWatch, f_address, f_storing, f_storeAt, f_storeControl, f_dueStore, f_mask, f_edges, f_due, f_head, f_headAt, f_headFlags, f_stop, f_pure, a_op, a_opA, a_opB, a_vectors, a_analogs, a_r, a_m, a_stack, a_count, a_since, a_control, a_compare, a_dueEqual, a_dueOver, a_line, a_store, a_headR⟩ := u'
  have q0 : ∀ post : SX → Prop, post u2 → wX_step_262 post x5 f_length f_inputs f_sp f_pc f_zero f_carry f_allowed f_asleep f_halted f_pending f_resets f_taken f_now f_data f_serial f_divider f_sending f_dueSent f_received f_overrun f_sent f_converter f_result f_dueResult f_output f_watch f_dueWatch f_address f_storing f_storeAt f_storeControl f_dueStore f_mask f_edges f_due f_head f_headAt f_headFlags f_stop f_pure a_op a_opA a_opB a_vectors a_analogs a_r a_m a_stack a_count a_since a_control a_compare a_dueEqual a_dueOver a_line a_store a_headR := by
    intro post h
    refine hp _ ?_
    clear hp
    obtain ⟨f_length, f_inputs, f_sp, f_pc, f_zero, f_carry, f_allowed, f_asleep, f_halted, f_pending, f_resets, f_taken, f_now, f_data, f_serial, f_divider, f_sending, f_dueSent, f_received, f_overrun, f_sent, f_converter, f_result, f_dueResult, f_output, f_watch, f_dueWatch, f_address, f_storing, f_storeAt, f_storeControl, f_dueStore, f_mask, f_edges, f_due, f_head, f_headAt, f_headFlags, f_stop, f_pure, a_op, a_opA, a_opB, a_vectors, a_analogs, a_r, a_m, a_stack, a_count, a_since, a_control, a_compare, a_dueEqual, a_dueOver, a_line, a_store, a_headR⟩ := u2
    exact br_t rfl h
  have q1 : ∀ u3 : SX, (∀ post : SX → Prop, post u3 → wpX_again post u2) → ∀ post : SX → Prop, post u3 → wX_step_263 post x5 1 f_length f_inputs f_sp f_pc f_zero f_carry f_allowed f_asleep f_halted f_pending f_resets f_taken f_now f_data f_serial f_divider f_sending f_dueSent f_received f_overrun f_sent f_converter f_result f_dueResult f_output f_watch f_dueWatch f_address f_storing f_storeAt f_storeControl f_dueStore f_mask f_edges f_due f_head f_headAt f_headFlags f_stop f_pure a_op a_opA a_opB a_vectors a_analogs a_r a_m a_stack a_count a_since a_control a_compare a_dueEqual a_dueOver a_line a_store a_headR := by
    intro u3 ha post h
    refine hp _ ?_
    clear hp q0
    obtain ⟨f_length, f_inputs, f_sp, f_pc, f_zero, f_carry, f_allowed, f_asleep, f_halted, f_pending, f_resets, f_taken, f_now, f_data, f_serial, f_divider, f_sending, f_dueSent, f_received, f_overrun, f_sent, f_converter, f_result, f_dueResult, f_output, f_watch, f_dueWatch, f_address, f_storing, f_storeAt, f_storeControl, f_dueStore, f_mask, f_edges, f_due, f_head, f_headAt, f_headFlags, f_stop, f_pure, a_op, a_opA, a_opB, a_vectors, a_analogs, a_r, a_m, a_stack, a_count, a_since, a_control, a_compare, a_dueEqual, a_dueOver, a_line, a_store, a_headR⟩ := u2
    refine br_f (by decide) ?_
    refine ha _ ?_
    clear ha
    obtain ⟨f_length, f_inputs, f_sp, f_pc, f_zero, f_carry, f_allowed, f_asleep, f_halted, f_pending, f_resets, f_taken, f_now, f_data, f_serial, f_divider, f_sending, f_dueSent, f_received, f_overrun, f_sent, f_converter, f_result, f_dueResult, f_output, f_watch, f_dueWatch, f_address, f_storing, f_storeAt, f_storeControl, f_dueStore, f_mask, f_edges, f_due, f_head, f_headAt, f_headFlags, f_stop, f_pure, a_op, a_opA, a_opB, a_vectors, a_analogs, a_r, a_m, a_stack, a_count, a_since, a_control, a_compare, a_dueEqual, a_dueOver, a_line, a_store, a_headR⟩ := u3
    exact h
  by_cases b0 : x1 < f_pc
  · left
    intro post h
    have q := q0 post h
    exact br_c (fun _ => br_t b0 q) (fun _ => br_c (fun _ => br_c (fun _ => q) (fun _ => br_c (fun _ => q) (fun _ => br_c (fun _ => q) (fun _ => br_t b0 q)))) (fun _ => q))
  · by_cases b1 : x2 = 14
    · right
      intro u3 ha post h
      exact br_t b1 (br_f b0 (q1 u3 ha post h))
    · by_cases b2 : x5 = 2
      · by_cases b3 : x2 ≤ 14
        · left; intro post h; exact br_f b1 (br_t b2 (br_t b3 (q0 post h)))
        · by_cases b4 : x2 = 19
          · left; intro post h; exact br_f b1 (br_t b2 (br_f b3 (br_t b4 (q0 post h))))
          · by_cases b5 : x2 = 20
            · left; intro post h; exact br_f b1 (br_t b2 (br_f b3 (br_f b4 (br_t b5 (q0 post h)))))
            · right; intro u3 ha post h; exact br_f b1 (br_t b2 (br_f b3 (br_f b4 (br_f b5 (br_f b0 (q1 u3 ha post h))))))
      · left; intro post h; exact br_f b1 (br_f b2 (q0 post h))
/-- a place outside of the program: both halt -/
theorem tc_stepH {T n p : Nat} {u : SX} {v : SY} (R : tc_RR T u v) (h0 : tc_xha u = 0) (hn : tc_NR u) (ha : tc_xas u = 0) (hk : ¬ tc_pok u) (n31 : n < 2 ^ 31) (hp : tc_yps v = nI p) (hpn : p < n) :
    ∃ (u' : SX) (v' : SY), tc_RR T u' v' ∧ (∀ post : SX → Prop, post u' → wpX_step post u) ∧ tc_YR (nI n) v v' ∧ tc_xha u' = 1 ∧ tc_yps v' = tc_yps v := by
  have w := tc_ywN R hn
  refine tc_RRe (P := fun u v => tc_xha u = 0 → tc_xas u = 0 → ¬ tc_pok u → tc_yps v = nI p → (∀ pz : Int32 → Prop, pz (nI 9) → wpY_waiting pz v) → ∃ (u' : SX) (v' : SY), tc_RR T u' v' ∧ (∀ post : SX → Prop, post u' → wpX_step post u) ∧ tc_YR (nI n) v v' ∧ tc_xha u' = 1 ∧ tc_yps v' = tc_yps v) ?_ R h0 ha hk hp w
  clear R h0 hn ha hk hp w
  intro f_length f_inputs f_sp f_pc f_zero f_carry f_allowed f_asleep f_halted f_pending f_resets f_taken f_data f_serial f_divider f_sending f_dueSent f_received f_overrun f_sent f_converter f_result f_dueResult f_output f_watch f_dueWatch f_address f_storing f_storeAt f_storeControl f_dueStore f_mask f_edges f_due f_head f_headAt f_headFlags f_stop f_pure a_op a_opA a_opB a_vectors a_analogs a_r a_m a_stack a_count a_since a_control a_compare a_dueEqual a_dueOver a_line a_store a_headR g_passed g_converter g_since l_s l_c l_b b_opA b_opB b_store b_pending b_count hLen hOp hA hB hAn hM hSt hR hR0 hZ hC hAl hAs hHa hRe hOv hPu hSp hT hSe hIn hDa hDi hRs hOu hWa hMa hSg hSo hAd hSA hSr hSC hCv hCw hPe hT0 hT1 hUs hUc hUb hW hD h0 ha hk hp w
  have hp : g_passed = nI p := hp
  have c : f_pc < 0 ∨ (¬ f_pc < 0 ∧ ¬ f_pc < f_length) := by
    by_cases c : f_pc < 0
    · exact Or.inl c
    · refine Or.inr ⟨c, fun z => hk ?_⟩
      obtain ⟨j, j31, ej⟩ := nI_of c
      obtain ⟨l, l48, el⟩ := hLen
      rw [ej, el] at z
      exact ⟨j, l, ej, el, (nI_ltI j31 (by omega)).mp z, l48⟩
  refine ⟨(f_length, f_inputs, f_sp, f_pc, f_zero, f_carry, f_allowed, f_asleep, 1, f_pending, f_resets, f_taken, nI T, f_data, f_serial, f_divider, f_sending, f_dueSent, f_received, f_overrun, f_sent, f_converter, f_result, f_dueResult, f_output, f_watch, f_dueWatch, f_address, f_storing, f_storeAt, f_storeControl, f_dueStore, f_mask, f_edges, f_due, f_head, f_headAt, f_headFlags, f_stop, f_pure, a_op, a_opA, a_opB, a_vectors, a_analogs, a_r, a_m, a_stack, a_count, a_since, a_control, a_compare, a_dueEqual, a_dueOver, a_line, a_store, a_headR), (f_length, f_inputs, f_zero, f_carry, f_allowed, f_asleep, 1, f_sp, f_pc, nI T, g_passed, f_taken, f_resets, f_edges, f_sent, f_data, f_serial, f_divider, g_converter, f_result, f_output, f_watch, f_address, f_storeControl, f_mask, g_since, f_received, f_overrun, nI l_s, f_sending, nI l_c, nI l_b, f_storing, f_storeAt, a_op, b_opA, b_opB, a_vectors, a_analogs, b_store, a_r, a_m, a_stack, a_line, b_pending, b_count, a_control, a_compare), tc_RRi hLen hOp hA hB hAn hM hSt hR hR0 hZ hC hAl hAs tc_bo1 hRe hOv hPu hSp hT hSe hIn hDa hDi hRs hOu hWa hMa hSg hSo hAd hSA hSr hSC hCv hCw hPe hT0 hT1 hUs hUc hUb hW hD, fun post h => ?_, fun post h => ?_, rfl, rfl⟩
  · rcases c with c | ⟨c, c2⟩
    · exact br_t c h
    · exact br_f c (br_f c2 h)
  · obtain ⟨m, h⟩ := h
    refine ⟨m + 1, ?_⟩
    refine br_f (by rw [hp]; exact nI_ge hpn n31) (br_t h0 ?_)
    refine w _ ?_
    refine br_t (by decide) (br_t ha ?_)
    rcases c with c | ⟨c, c2⟩
    · exact br_t c h
    · exact br_f c (br_f c2 h)
end
section
/-! a jump back: whole rounds at once -/
def tc_fl (z c a : Int32) : Int32 := ((if z = 0 then 0 else 1) + (if c = 0 then 0 else 2)) + (if a = 0 then 0 else 4)
theorem tc_fl_inj {z c z' c' a : Int32} (hz : tc_bo z) (hc : tc_bo c) (hz' : tc_bo z') (hc' : tc_bo c') (h : tc_fl z c a = tc_fl z' c' a) : z = z' ∧ c = c' := by
  unfold tc_fl at h
  generalize (if a = 0 then (0 : Int32) else 4) = A at h
  have h2 : ((if z = 0 then (0 : Int32) else 1) + (if c = 0 then 0 else 2)) + A - A = ((if z' = 0 then (0 : Int32) else 1) + (if c' = 0 then 0 else 2)) + A - A := by rw [h]
  rw [Int32.add_sub_cancel, Int32.add_sub_cancel] at h2
  rcases hz with rfl | rfl <;> rcases hc with rfl | rfl <;> rcases hz' with rfl | rfl <;> rcases hc' with rfl | rfl <;> first | exact ⟨rfl, rfl⟩ | exact absurd h2 (by decide)
section
variable {pz : Int32 → Prop} {post : SX → Prop} {T : Nat} {f_length f_inputs f_sp f_pc f_zero f_carry f_allowed f_asleep f_halted f_pending f_resets f_taken f_data f_serial f_divider f_sending f_dueSent f_received f_overrun f_sent f_converter f_result f_dueResult f_output f_watch f_dueWatch f_address f_storing f_storeAt f_storeControl f_dueStore f_mask f_edges f_due f_head f_headAt f_headFlags f_stop f_pure : Int32} {a_op a_opA a_opB a_vectors a_analogs a_r a_m a_stack a_count a_since a_control a_compare a_dueEqual a_dueOver a_line a_store a_headR : Nat → Int32}
theorem tc_flags (h : pz (tc_fl f_zero f_carry f_allowed)) : wpX_flags pz (f_length, f_inputs, f_sp, f_pc, f_zero, f_carry, f_allowed, f_asleep, f_halted, f_pending, f_resets, f_taken, nI T, f_data, f_serial, f_divider, f_sending, f_dueSent, f_received, f_overrun, f_sent, f_converter, f_result, f_dueResult, f_output, f_watch, f_dueWatch, f_address, f_storing, f_storeAt, f_storeControl, f_dueStore, f_mask, f_edges, f_due, f_head, f_headAt, f_headFlags, f_stop, f_pure, a_op, a_opA, a_opB, a_vectors, a_analogs, a_r, a_m, a_stack, a_count, a_since, a_control, a_compare, a_dueEqual, a_dueOver, a_line, a_store, a_headR) := by
  unfold tc_fl at h
  by_cases c1 : f_zero = 0 <;> by_cases c2 : f_carry = 0 <;> by_cases c3 : f_allowed = 0
  · rw [if_pos c1, if_pos c2, if_pos c3] at h; exact br_t c1 (br_t c2 (br_t c3 h))
  · rw [if_pos c1, if_pos c2, if_neg c3] at h; exact br_t c1 (br_t c2 (br_f c3 h))
  · rw [if_pos c1, if_neg c2, if_pos c3] at h; exact br_t c1 (br_f c2 (br_t c3 h))
  · rw [if_pos c1, if_neg c2, if_neg c3] at h; exact br_t c1 (br_f c2 (br_f c3 h))
  · rw [if_neg c1, if_pos c2, if_pos c3] at h; exact br_f c1 (br_t c2 (br_t c3 h))
  · rw [if_neg c1, if_pos c2, if_neg c3] at h; exact br_f c1 (br_t c2 (br_f c3 h))
  · rw [if_neg c1, if_neg c2, if_pos c3] at h; exact br_f c1 (br_f c2 (br_t c3 h))
  · rw [if_neg c1, if_neg c2, if_neg c3] at h; exact br_f c1 (br_f c2 (br_f c3 h))
theorem tc_same0 (h : pz 0) : ∀ (d i : Nat), i + d = 8 → wX_same_19 pz f_length f_inputs f_sp f_pc f_zero f_carry f_allowed f_asleep f_halted f_pending f_resets f_taken (nI T) f_data f_serial f_divider f_sending f_dueSent f_received f_overrun f_sent f_converter f_result f_dueResult f_output f_watch f_dueWatch f_address f_storing f_storeAt f_storeControl f_dueStore f_mask f_edges f_due f_head f_headAt f_headFlags f_stop f_pure a_op a_opA a_opB a_vectors a_analogs a_r a_m a_stack a_count a_since a_control a_compare a_dueEqual a_dueOver a_line a_store a_headR (d + 1) 0 (nI i) := by
  intro d
  induction d with
  | zero =>
    intro i hi
    have h8 : i = 8 := by omega
    subst h8
    exact br_t (by decide) ⟨tc_n0, h⟩
  | succ d ih =>
    intro i hi
    exact br_f (nI_ge (b := 8) (by omega) (by decide)) (br_t rfl (nm_r (nI_1 i) (ih (i + 1) (by omega))))
theorem tc_same19 (h1 : (∀ k, k < 8 → a_r k = a_headR k) → pz 1) (h0 : ¬ (∀ k, k < 8 → a_r k = a_headR k) → pz 0) : ∀ (d i : Nat), i + d = 8 → (∀ k, k < i → a_r k = a_headR k) → wX_same_19 pz f_length f_inputs f_sp f_pc f_zero f_carry f_allowed f_asleep f_halted f_pending f_resets f_taken (nI T) f_data f_serial f_divider f_sending f_dueSent f_received f_overrun f_sent f_converter f_result f_dueResult f_output f_watch f_dueWatch f_address f_storing f_storeAt f_storeControl f_dueStore f_mask f_edges f_due f_head f_headAt f_headFlags f_stop f_pure a_op a_opA a_opB a_vectors a_analogs a_r a_m a_stack a_count a_since a_control a_compare a_dueEqual a_dueOver a_line a_store a_headR (d + 1) 1 (nI i) := by
  intro d
  induction d with
  | zero =>
    intro i hi hk
    have h8 : i = 8 := by omega
    subst h8
    exact br_t (by decide) ⟨tc_n1, h1 hk⟩
  | succ d ih =>
    intro i hi hk
    have e := nI_clamp (n := i) (by omega)
    have vi : vp_in (nI i) 8 := vp_in_nI (by omega) (by decide)
    refine br_f (nI_ge (b := 8) (by omega) (by decide)) (br_f (by decide) ?_)
    rw [e, nI_1]
    refine ⟨vi, vi, ?_⟩
    by_cases c : a_r i = a_headR i
    · refine br_t c (nm_e (ih (i + 1) (by omega) ?_))
      intro k hk2
      by_cases ek : k = i
      · rw [ek]; exact c
      · exact hk k (by omega)
    · refine br_f c (nm_e (tc_same0 (h0 (fun z => c (z i (by omega)))) d (i + 1) (by omega)))
theorem tc_same (h1 : (tc_fl f_zero f_carry f_allowed = f_headFlags ∧ ∀ k, k < 8 → a_r k = a_headR k) → pz 1) (h0 : ¬ (tc_fl f_zero f_carry f_allowed = f_headFlags ∧ ∀ k, k < 8 → a_r k = a_headR k) → pz 0) : wpX_same pz (f_length, f_inputs, f_sp, f_pc, f_zero, f_carry, f_allowed, f_asleep, f_halted, f_pending, f_resets, f_taken, nI T, f_data, f_serial, f_divider, f_sending, f_dueSent, f_received, f_overrun, f_sent, f_converter, f_result, f_dueResult, f_output, f_watch, f_dueWatch, f_address, f_storing, f_storeAt, f_storeControl, f_dueStore, f_mask, f_edges, f_due, f_head, f_headAt, f_headFlags, f_stop, f_pure, a_op, a_opA, a_opB, a_vectors, a_analogs, a_r, a_m, a_stack, a_count, a_since, a_control, a_compare, a_dueEqual, a_dueOver, a_line, a_store, a_headR) := by
  unfold wpX_same
  refine tc_flags ?_
  by_cases c : tc_fl f_zero f_carry f_allowed = f_headFlags
  · refine br_t c ⟨9, tc_same19 (fun z => h1 ⟨c, z⟩) (fun z => h0 (fun w => z w.2)) 8 0 rfl (fun k hk => absurd hk (by omega))⟩
  · exact br_f c ⟨9, tc_same0 (h0 (fun w => c w.1)) 8 0 rfl⟩
def tc_cp (r h : Nat → Int32) : Nat → (Nat → Int32)
  | 0 => h
  | i + 1 => upd (tc_cp r h i) i (r i)
theorem tc_cp_in {r h : Nat → Int32} : ∀ {n i : Nat}, i < n → tc_cp r h n i = r i := by
  intro n
  induction n with
  | zero => intro i h; omega
  | succ n ih =>
    intro i hi
    show upd (tc_cp r h n) n (r n) i = r i
    by_cases e : i = n
    · rw [e, pk_us]
    · rw [pk_un e]; exact ih (by omega)
theorem tc_ag115 : ∀ (d i : Nat), i + d = 8 → post (f_length, f_inputs, f_sp, f_pc, f_zero, f_carry, f_allowed, f_asleep, f_halted, f_pending, f_resets, f_taken, nI T, f_data, f_serial, f_divider, f_sending, f_dueSent, f_received, f_overrun, f_sent, f_converter, f_result, f_dueResult, f_output, f_watch, f_dueWatch, f_address, f_storing, f_storeAt, f_storeControl, f_dueStore, f_mask, f_edges, f_due, f_head, f_headAt, f_headFlags, f_stop, 1, a_op, a_opA, a_opB, a_vectors, a_analogs, a_r, a_m, a_stack, a_count, a_since, a_control, a_compare, a_dueEqual, a_dueOver, a_line, a_store, tc_cp a_r a_headR 8) → wX_again_115 post f_length f_inputs f_sp f_pc f_zero f_carry f_allowed f_asleep f_halted f_pending f_resets f_taken (nI T) f_data f_serial f_divider f_sending f_dueSent f_received f_overrun f_sent f_converter f_result f_dueResult f_output f_watch f_dueWatch f_address f_storing f_storeAt f_storeControl f_dueStore f_mask f_edges f_due f_head f_headAt f_headFlags f_stop f_pure (d + 1) (nI i) a_op a_opA a_opB a_vectors a_analogs a_r a_m a_stack a_count a_since a_control a_compare a_dueEqual a_dueOver a_line a_store (tc_cp a_r a_headR i) := by
  intro d
  induction d with
  | zero =>
    intro i hi h
    have h8 : i = 8 := by omega
    subst h8
    exact br_t (by decide) h
  | succ d ih =>
    intro i hi h
    have e := nI_clamp (n := i) (by omega)
    have vi : vp_in (nI i) 8 := vp_in_nI (by omega) (by decide)
    refine br_f (nI_ge (b := 8) (by omega) (by decide)) ?_
    rw [e, nI_1]
    exact ⟨vi, vi, nm_e (nm_e (ih (i + 1) (by omega) h))⟩
theorem tc_ag89 (h : post (f_length, f_inputs, f_sp, f_pc, f_zero, f_carry, f_allowed, f_asleep, f_halted, f_pending, f_resets, f_taken, nI T, f_data, f_serial, f_divider, f_sending, f_dueSent, f_received, f_overrun, f_sent, f_converter, f_result, f_dueResult, f_output, f_watch, f_dueWatch, f_address, f_storing, f_storeAt, f_storeControl, f_dueStore, f_mask, f_edges, f_due, f_pc, nI T, tc_fl f_zero f_carry f_allowed, f_stop, 1, a_op, a_opA, a_opB, a_vectors, a_analogs, a_r, a_m, a_stack, a_count, a_since, a_control, a_compare, a_dueEqual, a_dueOver, a_line, a_store, tc_cp a_r a_headR 8)) : wX_again_89 post f_length f_inputs f_sp f_pc f_zero f_carry f_allowed f_asleep f_halted f_pending f_resets f_taken (nI T) f_data f_serial f_divider f_sending f_dueSent f_received f_overrun f_sent f_converter f_result f_dueResult f_output f_watch f_dueWatch f_address f_storing f_storeAt f_storeControl f_dueStore f_mask f_edges f_due f_head f_headAt f_headFlags f_stop f_pure a_op a_opA a_opB a_vectors a_analogs a_r a_m a_stack a_count a_since a_control a_compare a_dueEqual a_dueOver a_line a_store a_headR := by
  unfold wX_again_89
  refine tc_flags ?_
  exact ⟨9, tc_ag115 (f_head := f_pc) (f_headAt := nI T) (f_headFlags := tc_fl f_zero f_carry f_allowed) 8 0 rfl h⟩
theorem tc_divneg {a : Int32} {p : Nat} (ha : a.toInt ≤ 0) (hp : 0 < p) (p31 : p < 2 ^ 31) : a / nI p ≤ 0 := by
  have hne : nI p ≠ -1 := by
    intro z
    have := congrArg Int32.toInt z
    rw [nI_toInt p31, show (-1 : Int32).toInt = -1 from by decide] at this
    omega
  rw [Int32.le_iff_toInt_le, Int32.toInt_div_of_ne_right _ _ hne, nI_toInt p31, show (0 : Int32).toInt = 0 from by decide]
  have e : a.toInt.tdiv p = -((-a.toInt).tdiv p) := by rw [Int.neg_tdiv, Int.neg_neg]
  have := Int.tdiv_nonneg (a := -a.toInt) (b := (p : Int)) (by omega) (by omega)
  rw [e]; omega
theorem tc_ag61 {p L : Nat} (hp : 0 < p) (hp31 : p < 2 ^ 31) (hL : 0 < L) (hL31 : L < 2 ^ 31) (hT : T ≤ 1100000010) :
    ∃ k : Nat, (k = 0 ∨ T + k * p < L) ∧ (∀ post : SX → Prop, wX_again_89 post f_length f_inputs f_sp f_pc f_zero f_carry f_allowed f_asleep f_halted f_pending f_resets f_taken (nI (T + k * p)) f_data f_serial f_divider f_sending f_dueSent f_received f_overrun f_sent f_converter f_result f_dueResult f_output f_watch f_dueWatch f_address f_storing f_storeAt f_storeControl f_dueStore f_mask f_edges f_due f_head f_headAt f_headFlags f_stop f_pure a_op a_opA a_opB a_vectors a_analogs a_r a_m a_stack a_count a_since a_control a_compare a_dueEqual a_dueOver a_line a_store a_headR → wX_again_61 post (nI p) (nI L) f_length f_inputs f_sp f_pc f_zero f_carry f_allowed f_asleep f_halted f_pending f_resets f_taken (nI T) f_data f_serial f_divider f_sending f_dueSent f_received f_overrun f_sent f_converter f_result f_dueResult f_output f_watch f_dueWatch f_address f_storing f_storeAt f_storeControl f_dueStore f_mask f_edges f_due f_head f_headAt f_headFlags f_stop f_pure a_op a_opA a_opB a_vectors a_analogs a_r a_m a_stack a_count a_since a_control a_compare a_dueEqual a_dueOver a_line a_store a_headR) := by
  have eL : nI L - 1 = nI (L - 1) := pk_sub (b := 1) (by omega)
  by_cases c : T < L
  · have eq : (nI L - 1 - nI T) / nI p = nI ((L - 1 - T) / p) := by
      rw [eL, pk_sub (by omega), pk_div (by omega) hp hp31]
    by_cases k0 : (L - 1 - T) / p = 0
    · refine ⟨0, Or.inl rfl, fun post h => ?_⟩
      rw [Nat.zero_mul, Nat.add_zero] at h
      unfold wX_again_61
      rw [eq, k0]
      exact ⟨nI_ne0 hp hp31, nm_e (br_t (by decide) h)⟩
    · have hm := Nat.div_mul_le_self (L - 1 - T) p
      have hd := Nat.div_le_self (L - 1 - T) p
      refine ⟨(L - 1 - T) / p, Or.inr (by omega), fun post h => ?_⟩
      unfold wX_again_61
      rw [eq]
      refine ⟨nI_ne0 hp hp31, nm_e (br_f (nI_nle (Nat.pos_of_ne_zero k0) (Nat.lt_of_le_of_lt hd (by omega))) (nm_r (e' := nI (T + (L - 1 - T) / p * p)) (by rw [pk_mul, nI_add]) h))⟩
  · refine ⟨0, Or.inl rfl, fun post h => ?_⟩
    rw [Nat.zero_mul, Nat.add_zero] at h
    unfold wX_again_61
    refine ⟨nI_ne0 hp hp31, nm_e (br_t (tc_divneg ?_ hp hp31) h)⟩
    rw [eL, Int32.toInt_sub, nI_toInt (by omega), nI_toInt (by omega), Int.bmod_eq_of_le (by omega) (by omega)]
    omega
end
/-! what is known while pure is on -/
def tc_xhe (u : SX) : Int32 := match u with
  | (f_length, f_inputs, f_sp, f_pc, f_zero, f_carry, f_allowed, f_asleep, f_halted, f_pending, f_resets, f_taken, f_now, f_data, f_serial, f_divider, f_sending, f_dueSent, f_received, f_overrun, f_sent, f_converter, f_result, f_dueResult, f_output, f_watch, f_dueWatch, f_address, f_storing, f_storeAt, f_storeControl, f_dueStore, f_mask, f_edges, f_due, f_head, f_headAt, f_headFlags, f_stop, f_pure, a_op, a_opA, a_opB, a_vectors, a_analogs, a_r, a_m, a_stack, a_count, a_since, a_control, a_compare, a_dueEqual, a_dueOver, a_line, a_store, a_headR) => f_headAt
def tc_HD (u0 u : SX) : Prop := match u with
  | (f_length, f_inputs, f_sp, f_pc, f_zero, f_carry, f_allowed, f_asleep, f_halted, f_pending, f_resets, f_taken, f_now, f_data, f_serial, f_divider, f_sending, f_dueSent, f_received, f_overrun, f_sent, f_converter, f_result, f_dueResult, f_output, f_watch, f_dueWatch, f_address, f_storing, f_storeAt, f_storeControl, f_dueStore, f_mask, f_edges, f_due, f_head, f_headAt, f_headFlags, f_stop, f_pure, a_op, a_opA, a_opB, a_vectors, a_analogs, a_r, a_m, a_stack, a_count, a_since, a_control, a_compare, a_dueEqual, a_dueOver, a_line, a_store, a_headR) => ∃ (r0 : Nat → Int32) (z0 c0 : Int32), u0 = (f_length, f_inputs, f_sp, f_head, z0, c0, f_allowed, f_asleep, f_halted, f_pending, f_resets, f_taken, 0, f_data, f_serial, f_divider, f_sending, f_dueSent, f_received, f_overrun, f_sent, f_converter, f_result, f_dueResult, f_output, f_watch, f_dueWatch, f_address, f_storing, f_storeAt, f_storeControl, f_dueStore, f_mask, f_edges, f_due, f_head, f_headAt, f_headFlags, f_stop, f_pure, a_op, a_opA, a_opB, a_vectors, a_analogs, r0, a_m, a_stack, a_count, a_since, a_control, a_compare, a_dueEqual, a_dueOver, a_line, a_store, a_headR) ∧ (∀ k, k < 8 → a_headR k = r0 k) ∧ (∀ k, 8 ≤ k → r0 k = 0) ∧ tc_bo z0 ∧ tc_bo c0 ∧ f_headFlags = tc_fl z0 c0 f_allowed
def tc_SEM (n : Nat) (u0 u1 : SX) (p : Nat) : Prop := ∀ (T q d : Nat) (v : SY), tc_RR T (tc_sh T u0) v → tc_xdu u0 = nI d → d < 2 ^ 31 → T + p < d → tc_yps v = nI q → q + p < n → T + p ≤ 1100000000 →
  ∃ v', tc_RR (T + p) (tc_sh (T + p) u1) v' ∧ tc_YR (nI n) v v' ∧ tc_yps v' = nI (q + p)
def tc_PI (n T : Nat) (u : SX) : Prop := ∃ (u0 : SX) (p : Nat), p ≤ T ∧ tc_HD u0 u ∧ tc_xhe u = nI (T - p) ∧ tc_SEM n u0 u p
theorem tc_YR_r (x1 : Int32) (v : SY) : tc_YR x1 v v := fun _ h => h
section
variable {T : Nat} {f_length f_inputs f_sp f_pc f_zero f_carry f_allowed f_asleep f_halted f_pending f_resets f_taken f_data f_serial f_divider f_sending f_dueSent f_received f_overrun f_sent f_converter f_result f_dueResult f_output f_watch f_dueWatch f_address f_storing f_storeAt f_storeControl f_dueStore f_mask f_edges f_due f_head f_headAt f_headFlags f_stop f_pure : Int32} {a_op a_opA a_opB a_vectors a_analogs a_r a_m a_stack a_count a_since a_control a_compare a_dueEqual a_dueOver a_line a_store a_headR : Nat → Int32} {g_passed g_converter g_since : Int32} {l_s l_c l_b : Nat} {b_opA b_opB b_store b_pending b_count : Nat → Int32}
theorem tc_shn {f_now f_now' : Int32} (x : Nat) : tc_sh x (f_length, f_inputs, f_sp, f_pc, f_zero, f_carry, f_allowed, f_asleep, f_halted, f_pending, f_resets, f_taken, f_now, f_data, f_serial, f_divider, f_sending, f_dueSent, f_received, f_overrun, f_sent, f_converter, f_result, f_dueResult, f_output, f_watch, f_dueWatch, f_address, f_storing, f_storeAt, f_storeControl, f_dueStore, f_mask, f_edges, f_due, f_head, f_headAt, f_headFlags, f_stop, f_pure, a_op, a_opA, a_opB, a_vectors, a_analogs, a_r, a_m, a_stack, a_count, a_since, a_control, a_compare, a_dueEqual, a_dueOver, a_line, a_store, a_headR) = tc_sh x (f_length, f_inputs, f_sp, f_pc, f_zero, f_carry, f_allowed, f_asleep, f_halted, f_pending, f_resets, f_taken, f_now', f_data, f_serial, f_divider, f_sending, f_dueSent, f_received, f_overrun, f_sent, f_converter, f_result, f_dueResult, f_output, f_watch, f_dueWatch, f_address, f_storing, f_storeAt, f_storeControl, f_dueStore, f_mask, f_edges, f_due, f_head, f_headAt, f_headFlags, f_stop, f_pure, a_op, a_opA, a_opB, a_vectors, a_analogs, a_r, a_m, a_stack, a_count, a_since, a_control, a_compare, a_dueEqual, a_dueOver, a_line, a_store, a_headR) := by
  unfold tc_sh
  rfl
theorem tc_PI0 {n : Nat} (hR0 : ∀ i, 8 ≤ i → a_r i = 0) (hZ : tc_bo f_zero) (hC : tc_bo f_carry) : tc_PI n T (f_length, f_inputs, f_sp, f_pc, f_zero, f_carry, f_allowed, f_asleep, f_halted, f_pending, f_resets, f_taken, nI T, f_data, f_serial, f_divider, f_sending, f_dueSent, f_received, f_overrun, f_sent, f_converter, f_result, f_dueResult, f_output, f_watch, f_dueWatch, f_address, f_storing, f_storeAt, f_storeControl, f_dueStore, f_mask, f_edges, f_due, f_pc, nI T, tc_fl f_zero f_carry f_allowed, f_stop, 1, a_op, a_opA, a_opB, a_vectors, a_analogs, a_r, a_m, a_stack, a_count, a_since, a_control, a_compare, a_dueEqual, a_dueOver, a_line, a_store, tc_cp a_r a_headR 8) := by
  refine ⟨(f_length, f_inputs, f_sp, f_pc, f_zero, f_carry, f_allowed, f_asleep, f_halted, f_pending, f_resets, f_taken, 0, f_data, f_serial, f_divider, f_sending, f_dueSent, f_received, f_overrun, f_sent, f_converter, f_result, f_dueResult, f_output, f_watch, f_dueWatch, f_address, f_storing, f_storeAt, f_storeControl, f_dueStore, f_mask, f_edges, f_due, f_pc, nI T, tc_fl f_zero f_carry f_allowed, f_stop, 1, a_op, a_opA, a_opB, a_vectors, a_analogs, a_r, a_m, a_stack, a_count, a_since, a_control, a_compare, a_dueEqual, a_dueOver, a_line, a_store, tc_cp a_r a_headR 8), 0, Nat.zero_le _, ⟨a_r, f_zero, f_carry, rfl, fun k hk => tc_cp_in hk, hR0, hZ, hC, rfl⟩, rfl, ?_⟩
  intro T' q d v R _ _ _ hp _ _
  rw [tc_shn (f_now' := nI T) T'] at R
  refine ⟨v, ?_, tc_YR_r _ _, ?_⟩
  · rw [Nat.add_zero]; exact R
  · rw [Nat.add_zero]; exact hp
end
theorem tc_SEMk {n p : Nat} {u : SX} (hS : tc_SEM n u u p) {d : Nat} (hd : tc_xdu u = nI d) (d31 : d < 2 ^ 31) (T q : Nat) (v : SY) (R : tc_RR T (tc_sh T u) v) (hp : tc_yps v = nI q) :
    ∀ k : Nat, T + k * p < d → (k = 0 ∨ q + k * p < n) → T + k * p ≤ 1100000000 → ∃ v', tc_RR (T + k * p) (tc_sh (T + k * p) u) v' ∧ tc_YR (nI n) v v' ∧ tc_yps v' = nI (q + k * p) := by
  intro k
  induction k with
  | zero =>
    intro _ _ _
    rw [Nat.zero_mul, Nat.add_zero, Nat.add_zero]
    exact ⟨v, R, tc_YR_r _ _, hp⟩
  | succ k ih =>
    intro h1 h2 h3
    have e : (k + 1) * p = k * p + p := Nat.succ_mul k p
    rw [e] at h1 h2 h3 ⊢
    obtain ⟨v1, R1, Y1, p1⟩ := ih (by omega) (by omega) (by omega)
    obtain ⟨v2, R2, Y2, p2⟩ := hS (T + k * p) (q + k * p) d v1 R1 hd d31 (by omega) p1 (by omega) (by omega)
    refine ⟨v2, ?_, tc_YR_t Y1 Y2, ?_⟩
    · rw [← Nat.add_assoc]; exact R2
    · rw [p2, Nat.add_assoc]
theorem tc_RRh {T : Nat} {v : SY} {f_length f_inputs f_sp f_pc f_zero f_carry f_allowed f_asleep f_halted f_pending f_resets f_taken f_data f_serial f_divider f_sending f_dueSent f_received f_overrun f_sent f_converter f_result f_dueResult f_output f_watch f_dueWatch f_address f_storing f_storeAt f_storeControl f_dueStore f_mask f_edges f_due f_head f_headAt f_headFlags f_stop f_pure : Int32} {a_op a_opA a_opB a_vectors a_analogs a_r a_m a_stack a_count a_since a_control a_compare a_dueEqual a_dueOver a_line a_store a_headR : Nat → Int32} {h1 h2 h3 : Int32} {h4 : Nat → Int32} (R : tc_RR T (f_length, f_inputs, f_sp, f_pc, f_zero, f_carry, f_allowed, f_asleep, f_halted, f_pending, f_resets, f_taken, nI T, f_data, f_serial, f_divider, f_sending, f_dueSent, f_received, f_overrun, f_sent, f_converter, f_result, f_dueResult, f_output, f_watch, f_dueWatch, f_address, f_storing, f_storeAt, f_storeControl, f_dueStore, f_mask, f_edges, f_due, f_head, f_headAt, f_headFlags, f_stop, f_pure, a_op, a_opA, a_opB, a_vectors, a_analogs, a_r, a_m, a_stack, a_count, a_since, a_control, a_compare, a_dueEqual, a_dueOver, a_line, a_store, a_headR) v) : tc_RR T (f_length, f_inputs, f_sp, f_pc, f_zero, f_carry, f_allowed, f_asleep, f_halted, f_pending, f_resets, f_taken, nI T, f_data, f_serial, f_divider, f_sending, f_dueSent, f_received, f_overrun, f_sent, f_converter, f_result, f_dueResult, f_output, f_watch, f_dueWatch, f_address, f_storing, f_storeAt, f_storeControl, f_dueStore, f_mask, f_edges, f_due, h1, h2, h3, f_stop, 1, a_op, a_opA, a_opB, a_vectors, a_analogs, a_r, a_m, a_stack, a_count, a_since, a_control, a_compare, a_dueEqual, a_dueOver, a_line, a_store, h4) v := by
  unfold tc_RR at R
  obtain ⟨g_passed, g_converter, g_since, l_s, l_c, l_b, b_opA, b_opB, b_store, b_pending, b_count, -, rfl, hLen, hOp, hA, hB, hAn, hM, hSt, hR, hR0, hZ, hC, hAl, hAs, hHa, hRe, hOv, hPu, hSp, hT, hSe, hIn, hDa, hDi, hRs, hOu, hWa, hMa, hSg, hSo, hAd, hSA, hSr, hSC, hCv, hCw, hPe, hT0, hT1, hUs, hUc, hUb, hW, hD⟩ := R
  exact tc_RRi hLen hOp hA hB hAn hM hSt hR hR0 hZ hC hAl hAs hHa hRe hOv tc_bo1 hSp hT hSe hIn hDa hDi hRs hOu hWa hMa hSg hSo hAd hSA hSr hSC hCv hCw hPe hT0 hT1 hUs hUc hUb hW hD
end
section
/-! again, over states; a pure step keeps what is known -/
def tc_AG (n b T : Nat) (u : SX) (v : SY) : Prop := ∃ (T' : Nat) (u' : SX) (v' : SY), T ≤ T' ∧ T' ≤ b + n + 2 ∧ tc_RR T' u' v' ∧ (∀ post : SX → Prop, post u' → wpX_again post u) ∧ tc_YR (nI n) v v' ∧ tc_yps v' = nI (T' - b) ∧ tc_xst u' = nI (b + n) ∧ tc_PI n T' u'
section
variable {T n b : Nat} {f_length f_inputs f_sp f_pc f_zero f_carry f_allowed f_asleep f_halted f_pending f_resets f_taken f_data f_serial f_divider f_sending f_dueSent f_received f_overrun f_sent f_converter f_result f_dueResult f_output f_watch f_dueWatch f_address f_storing f_storeAt f_storeControl f_dueStore f_mask f_edges f_due f_head f_headAt f_headFlags f_stop f_pure : Int32} {a_op a_opA a_opB a_vectors a_analogs a_r a_m a_stack a_count a_since a_control a_compare a_dueEqual a_dueOver a_line a_store a_headR : Nat → Int32} {v : SY}
/-- no round is skipped -/
theorem tc_agN (R : tc_RR T (f_length, f_inputs, f_sp, f_pc, f_zero, f_carry, f_allowed, f_asleep, f_halted, f_pending, f_resets, f_taken, nI T, f_data, f_serial, f_divider, f_sending, f_dueSent, f_received, f_overrun, f_sent, f_converter, f_result, f_dueResult, f_output, f_watch, f_dueWatch, f_address, f_storing, f_storeAt, f_storeControl, f_dueStore, f_mask, f_edges, f_due, f_head, f_headAt, f_headFlags, f_stop, f_pure, a_op, a_opA, a_opB, a_vectors, a_analogs, a_r, a_m, a_stack, a_count, a_since, a_control, a_compare, a_dueEqual, a_dueOver, a_line, a_store, a_headR) v) (hR0 : ∀ i, 8 ≤ i → a_r i = 0) (hZ : tc_bo f_zero) (hC : tc_bo f_carry) (hTn : T ≤ b + n + 2) (hst : f_stop = nI (b + n)) (hps : tc_yps v = nI (T - b))
    (hq : ∀ post : SX → Prop, wX_again_89 post f_length f_inputs f_sp f_pc f_zero f_carry f_allowed f_asleep f_halted f_pending f_resets f_taken (nI T) f_data f_serial f_divider f_sending f_dueSent f_received f_overrun f_sent f_converter f_result f_dueResult f_output f_watch f_dueWatch f_address f_storing f_storeAt f_storeControl f_dueStore f_mask f_edges f_due f_head f_headAt f_headFlags f_stop f_pure a_op a_opA a_opB a_vectors a_analogs a_r a_m a_stack a_count a_since a_control a_compare a_dueEqual a_dueOver a_line a_store a_headR → wpX_again post (f_length, f_inputs, f_sp, f_pc, f_zero, f_carry, f_allowed, f_asleep, f_halted, f_pending, f_resets, f_taken, nI T, f_data, f_serial, f_divider, f_sending, f_dueSent, f_received, f_overrun, f_sent, f_converter, f_result, f_dueResult, f_output, f_watch, f_dueWatch, f_address, f_storing, f_storeAt, f_storeControl, f_dueStore, f_mask, f_edges, f_due, f_head, f_headAt, f_headFlags, f_stop, f_pure, a_op, a_opA, a_opB, a_vectors, a_analogs, a_r, a_m, a_stack, a_count, a_since, a_control, a_compare, a_dueEqual, a_dueOver, a_line, a_store, a_headR)) : tc_AG n b T (f_length, f_inputs, f_sp, f_pc, f_zero, f_carry, f_allowed, f_asleep, f_halted, f_pending, f_resets, f_taken, nI T, f_data, f_serial, f_divider, f_sending, f_dueSent, f_received, f_overrun, f_sent, f_converter, f_result, f_dueResult, f_output, f_watch, f_dueWatch, f_address, f_storing, f_storeAt, f_storeControl, f_dueStore, f_mask, f_edges, f_due, f_head, f_headAt, f_headFlags, f_stop, f_pure, a_op, a_opA, a_opB, a_vectors, a_analogs, a_r, a_m, a_stack, a_count, a_since, a_control, a_compare, a_dueEqual, a_dueOver, a_line, a_store, a_headR) v :=
  ⟨T, (f_length, f_inputs, f_sp, f_pc, f_zero, f_carry, f_allowed, f_asleep, f_halted, f_pending, f_resets, f_taken, nI T, f_data, f_serial, f_divider, f_sending, f_dueSent, f_received, f_overrun, f_sent, f_converter, f_result, f_dueResult, f_output, f_watch, f_dueWatch, f_address, f_storing, f_storeAt, f_storeControl, f_dueStore, f_mask, f_edges, f_due, f_pc, nI T, tc_fl f_zero f_carry f_allowed, f_stop, 1, a_op, a_opA, a_opB, a_vectors, a_analogs, a_r, a_m, a_stack, a_count, a_since, a_control, a_compare, a_dueEqual, a_dueOver, a_line, a_store, tc_cp a_r a_headR 8), v, Nat.le_refl _, hTn, tc_RRh R, fun post h => hq post (tc_ag89 h), tc_YR_r _ _, hps, hst, tc_PI0 hR0 hZ hC⟩
theorem tc_agS {p d L : Nat} (R : tc_RR T (f_length, f_inputs, f_sp, f_pc, f_zero, f_carry, f_allowed, f_asleep, f_halted, f_pending, f_resets, f_taken, nI T, f_data, f_serial, f_divider, f_sending, f_dueSent, f_received, f_overrun, f_sent, f_converter, f_result, f_dueResult, f_output, f_watch, f_dueWatch, f_address, f_storing, f_storeAt, f_storeControl, f_dueStore, f_mask, f_edges, f_due, f_head, f_headAt, f_headFlags, f_stop, f_pure, a_op, a_opA, a_opB, a_vectors, a_analogs, a_r, a_m, a_stack, a_count, a_since, a_control, a_compare, a_dueEqual, a_dueOver, a_line, a_store, a_headR) v) (hR0 : ∀ i, 8 ≤ i → a_r i = 0) (hZ : tc_bo f_zero) (hC : tc_bo f_carry) (hb : b ≤ T) (hTn : T ≤ b + n + 2) (hbn : b + n + 5 ≤ 1100000000) (hst : f_stop = nI (b + n)) (hps : tc_yps v = nI (T - b))
    (hS : tc_SEM n (f_length, f_inputs, f_sp, f_pc, f_zero, f_carry, f_allowed, f_asleep, f_halted, f_pending, f_resets, f_taken, nI T, f_data, f_serial, f_divider, f_sending, f_dueSent, f_received, f_overrun, f_sent, f_converter, f_result, f_dueResult, f_output, f_watch, f_dueWatch, f_address, f_storing, f_storeAt, f_storeControl, f_dueStore, f_mask, f_edges, f_due, f_head, f_headAt, f_headFlags, f_stop, f_pure, a_op, a_opA, a_opB, a_vectors, a_analogs, a_r, a_m, a_stack, a_count, a_since, a_control, a_compare, a_dueEqual, a_dueOver, a_line, a_store, a_headR) (f_length, f_inputs, f_sp, f_pc, f_zero, f_carry, f_allowed, f_asleep, f_halted, f_pending, f_resets, f_taken, nI T, f_data, f_serial, f_divider, f_sending, f_dueSent, f_received, f_overrun, f_sent, f_converter, f_result, f_dueResult, f_output, f_watch, f_dueWatch, f_address, f_storing, f_storeAt, f_storeControl, f_dueStore, f_mask, f_edges, f_due, f_head, f_headAt, f_headFlags, f_stop, f_pure, a_op, a_opA, a_opB, a_vectors, a_analogs, a_r, a_m, a_stack, a_count, a_since, a_control, a_compare, a_dueEqual, a_dueOver, a_line, a_store, a_headR) p) (hd : f_due = nI d) (d31 : d < 2 ^ 31) (Td : T < d) (p0 : 0 < p) (p31 : p < 2 ^ 31) (L0 : 0 < L) (Ld : L ≤ d) (Ln : L ≤ b + n)
    (hq : ∀ post : SX → Prop, wX_again_61 post (nI p) (nI L) f_length f_inputs f_sp f_pc f_zero f_carry f_allowed f_asleep f_halted f_pending f_resets f_taken (nI T) f_data f_serial f_divider f_sending f_dueSent f_received f_overrun f_sent f_converter f_result f_dueResult f_output f_watch f_dueWatch f_address f_storing f_storeAt f_storeControl f_dueStore f_mask f_edges f_due f_head f_headAt f_headFlags f_stop f_pure a_op a_opA a_opB a_vectors a_analogs a_r a_m a_stack a_count a_since a_control a_compare a_dueEqual a_dueOver a_line a_store a_headR → wpX_again post (f_length, f_inputs, f_sp, f_pc, f_zero, f_carry, f_allowed, f_asleep, f_halted, f_pending, f_resets, f_taken, nI T, f_data, f_serial, f_divider, f_sending, f_dueSent, f_received, f_overrun, f_sent, f_converter, f_result, f_dueResult, f_output, f_watch, f_dueWatch, f_address, f_storing, f_storeAt, f_storeControl, f_dueStore, f_mask, f_edges, f_due, f_head, f_headAt, f_headFlags, f_stop, f_pure, a_op, a_opA, a_opB, a_vectors, a_analogs, a_r, a_m, a_stack, a_count, a_since, a_control, a_compare, a_dueEqual, a_dueOver, a_line, a_store, a_headR)) : tc_AG n b T (f_length, f_inputs, f_sp, f_pc, f_zero, f_carry, f_allowed, f_asleep, f_halted, f_pending, f_resets, f_taken, nI T, f_data, f_serial, f_divider, f_sending, f_dueSent, f_received, f_overrun, f_sent, f_converter, f_result, f_dueResult, f_output, f_watch, f_dueWatch, f_address, f_storing, f_storeAt, f_storeControl, f_dueStore, f_mask, f_edges, f_due, f_head, f_headAt, f_headFlags, f_stop, f_pure, a_op, a_opA, a_opB, a_vectors, a_analogs, a_r, a_m, a_stack, a_count, a_since, a_control, a_compare, a_dueEqual, a_dueOver, a_line, a_store, a_headR) v := by
  obtain ⟨k, hk, hX⟩ := tc_ag61 (T := T) (f_length := f_length) (f_inputs := f_inputs) (f_sp := f_sp) (f_pc := f_pc) (f_zero := f_zero) (f_carry := f_carry) (f_allowed := f_allowed) (f_asleep := f_asleep) (f_halted := f_halted) (f_pending := f_pending) (f_resets := f_resets) (f_taken := f_taken) (f_data := f_data) (f_serial := f_serial) (f_divider := f_divider) (f_sending := f_sending) (f_dueSent := f_dueSent) (f_received := f_received) (f_overrun := f_overrun) (f_sent := f_sent) (f_converter := f_converter) (f_result := f_result) (f_dueResult := f_dueResult) (f_output := f_output) (f_watch := f_watch) (f_dueWatch := f_dueWatch) (f_address := f_address) (f_storing := f_storing) (f_storeAt := f_storeAt) (f_storeControl := f_storeControl) (f_dueStore := f_dueStore) (f_mask := f_mask) (f_edges := f_edges) (f_due := f_due) (f_head := f_head) (f_headAt := f_headAt) (f_headFlags := f_headFlags) (f_stop := f_stop) (f_pure := f_pure) (a_op := a_op) (a_opA := a_opA) (a_opB := a_opB) (a_vectors := a_vectors) (a_analogs := a_analogs) (a_r := a_r) (a_m := a_m) (a_stack := a_stack) (a_count := a_count) (a_since := a_since) (a_control := a_control) (a_compare := a_compare) (a_dueEqual := a_dueEqual) (a_dueOver := a_dueOver) (a_line := a_line) (a_store := a_store) (a_headR := a_headR) (p := p) (L := L) p0 p31 L0 (by omega) (by omega)
  have kp : k = 0 → k * p = 0 := fun z => by rw [z, Nat.zero_mul]
  obtain ⟨v', R', Y', p'⟩ := tc_SEMk hS hd d31 T (T - b) v R hps k (by rcases hk with z | z; have := kp z; omega; omega) (by rcases hk with z | z; exact Or.inl z; exact Or.inr (by omega)) (by rcases hk with z | z; have := kp z; omega; omega)
  have R' : tc_RR (T + k * p) (f_length, f_inputs, f_sp, f_pc, f_zero, f_carry, f_allowed, f_asleep, f_halted, f_pending, f_resets, f_taken, nI (T + k * p), f_data, f_serial, f_divider, f_sending, f_dueSent, f_received, f_overrun, f_sent, f_converter, f_result, f_dueResult, f_output, f_watch, f_dueWatch, f_address, f_storing, f_storeAt, f_storeControl, f_dueStore, f_mask, f_edges, f_due, f_head, f_headAt, f_headFlags, f_stop, f_pure, a_op, a_opA, a_opB, a_vectors, a_analogs, a_r, a_m, a_stack, a_count, a_since, a_control, a_compare, a_dueEqual, a_dueOver, a_line, a_store, a_headR) v' := R'
  refine ⟨T + k * p, (f_length, f_inputs, f_sp, f_pc, f_zero, f_carry, f_allowed, f_asleep, f_halted, f_pending, f_resets, f_taken, nI (T + k * p), f_data, f_serial, f_divider, f_sending, f_dueSent, f_received, f_overrun, f_sent, f_converter, f_result, f_dueResult, f_output, f_watch, f_dueWatch, f_address, f_storing, f_storeAt, f_storeControl, f_dueStore, f_mask, f_edges, f_due, f_pc, nI (T + k * p), tc_fl f_zero f_carry f_allowed, f_stop, 1, a_op, a_opA, a_opB, a_vectors, a_analogs, a_r, a_m, a_stack, a_count, a_since, a_control, a_compare, a_dueEqual, a_dueOver, a_line, a_store, tc_cp a_r a_headR 8), v', by omega, ?_, tc_RRh (T := T + k * p) R', fun post h => hq post (hX post (tc_ag89 (T := T + k * p) h)), Y', ?_, hst, tc_PI0 (T := T + k * p) hR0 hZ hC⟩
  · rcases hk with z | z
    · have := kp z; omega
    · omega
  · rw [p']; exact congrArg nI (by omega)
end
end
section
section
variable {T n b : Nat} {f_length f_inputs f_sp f_pc f_zero f_carry f_allowed f_asleep f_halted f_pending f_resets f_taken f_data f_serial f_divider f_sending f_dueSent f_received f_overrun f_sent f_converter f_result f_dueResult f_output f_watch f_dueWatch f_address f_storing f_storeAt f_storeControl f_dueStore f_mask f_edges f_due f_head f_headAt f_headFlags f_stop f_pure : Int32} {a_op a_opA a_opB a_vectors a_analogs a_r a_m a_stack a_count a_since a_control a_compare a_dueEqual a_dueOver a_line a_store a_headR : Nat → Int32} {v : SY}
theorem tc_SEMn {f_now f_now' : Int32} {u1 : SX} {p : Nat} (h : tc_SEM n (f_length, f_inputs, f_sp, f_pc, f_zero, f_carry, f_allowed, f_asleep, f_halted, f_pending, f_resets, f_taken, f_now, f_data, f_serial, f_divider, f_sending, f_dueSent, f_received, f_overrun, f_sent, f_converter, f_result, f_dueResult, f_output, f_watch, f_dueWatch, f_address, f_storing, f_storeAt, f_storeControl, f_dueStore, f_mask, f_edges, f_due, f_head, f_headAt, f_headFlags, f_stop, f_pure, a_op, a_opA, a_opB, a_vectors, a_analogs, a_r, a_m, a_stack, a_count, a_since, a_control, a_compare, a_dueEqual, a_dueOver, a_line, a_store, a_headR) u1 p) : tc_SEM n (f_length, f_inputs, f_sp, f_pc, f_zero, f_carry, f_allowed, f_asleep, f_halted, f_pending, f_resets, f_taken, f_now', f_data, f_serial, f_divider, f_sending, f_dueSent, f_received, f_overrun, f_sent, f_converter, f_result, f_dueResult, f_output, f_watch, f_dueWatch, f_address, f_storing, f_storeAt, f_storeControl, f_dueStore, f_mask, f_edges, f_due, f_head, f_headAt, f_headFlags, f_stop, f_pure, a_op, a_opA, a_opB, a_vectors, a_analogs, a_r, a_m, a_stack, a_count, a_since, a_control, a_compare, a_dueEqual, a_dueOver, a_line, a_store, a_headR) u1 p := by
  intro T q d v R a1 a2 a3 a4 a5 a6
  refine h T q d v ?_ ?_ a2 a3 a4 a5 a6
  · rw [tc_shn (f_now' := f_now') T]; exact R
  · exact a1
theorem tc_agY {p d : Nat} (R : tc_RR T (f_length, f_inputs, f_sp, f_pc, f_zero, f_carry, f_allowed, f_asleep, f_halted, f_pending, f_resets, f_taken, nI T, f_data, f_serial, f_divider, f_sending, f_dueSent, f_received, f_overrun, f_sent, f_converter, f_result, f_dueResult, f_output, f_watch, f_dueWatch, f_address, f_storing, f_storeAt, f_storeControl, f_dueStore, f_mask, f_edges, f_due, f_head, f_headAt, f_headFlags, f_stop, f_pure, a_op, a_opA, a_opB, a_vectors, a_analogs, a_r, a_m, a_stack, a_count, a_since, a_control, a_compare, a_dueEqual, a_dueOver, a_line, a_store, a_headR) v) (hR0 : ∀ i, 8 ≤ i → a_r i = 0) (hZ : tc_bo f_zero) (hC : tc_bo f_carry) (hb : b ≤ T) (hTn : T ≤ b + n + 2) (hbn : b + n + 5 ≤ 1100000000) (hst : f_stop = nI (b + n)) (hps : tc_yps v = nI (T - b))
    (hS : tc_SEM n (f_length, f_inputs, f_sp, f_pc, f_zero, f_carry, f_allowed, f_asleep, f_halted, f_pending, f_resets, f_taken, nI T, f_data, f_serial, f_divider, f_sending, f_dueSent, f_received, f_overrun, f_sent, f_converter, f_result, f_dueResult, f_output, f_watch, f_dueWatch, f_address, f_storing, f_storeAt, f_storeControl, f_dueStore, f_mask, f_edges, f_due, f_head, f_headAt, f_headFlags, f_stop, f_pure, a_op, a_opA, a_opB, a_vectors, a_analogs, a_r, a_m, a_stack, a_count, a_since, a_control, a_compare, a_dueEqual, a_dueOver, a_line, a_store, a_headR) (f_length, f_inputs, f_sp, f_pc, f_zero, f_carry, f_allowed, f_asleep, f_halted, f_pending, f_resets, f_taken, nI T, f_data, f_serial, f_divider, f_sending, f_dueSent, f_received, f_overrun, f_sent, f_converter, f_result, f_dueResult, f_output, f_watch, f_dueWatch, f_address, f_storing, f_storeAt, f_storeControl, f_dueStore, f_mask, f_edges, f_due, f_head, f_headAt, f_headFlags, f_stop, f_pure, a_op, a_opA, a_opB, a_vectors, a_analogs, a_r, a_m, a_stack, a_count, a_since, a_control, a_compare, a_dueEqual, a_dueOver, a_line, a_store, a_headR) p) (d1 : f_due = nI d) (d3 : d < 2 ^ 31) (d2 : T < d) (p0 : 0 < p) (p31 : p < 2 ^ 31) (c : ¬ f_pure = 0) (ch : f_head = f_pc) (ep : nI T - f_headAt = nI p)
    (n0 : 0 < n) (cs1 : tc_fl f_zero f_carry f_allowed = f_headFlags) (cs2 : ∀ k, k < 8 → a_r k = a_headR k) : tc_AG n b T (f_length, f_inputs, f_sp, f_pc, f_zero, f_carry, f_allowed, f_asleep, f_halted, f_pending, f_resets, f_taken, nI T, f_data, f_serial, f_divider, f_sending, f_dueSent, f_received, f_overrun, f_sent, f_converter, f_result, f_dueResult, f_output, f_watch, f_dueWatch, f_address, f_storing, f_storeAt, f_storeControl, f_dueStore, f_mask, f_edges, f_due, f_head, f_headAt, f_headFlags, f_stop, f_pure, a_op, a_opA, a_opB, a_vectors, a_analogs, a_r, a_m, a_stack, a_count, a_since, a_control, a_compare, a_dueEqual, a_dueOver, a_line, a_store, a_headR) v := by
  have pp : ¬ nI p ≤ 0 := nI_nle p0 p31
  by_cases cl : f_stop ≤ f_due
  · have cl' : b + n ≤ d := by
      rw [hst, d1] at cl
      exact (nI_leI (by omega) d3).mp cl
    refine tc_agS (L := b + n) R hR0 hZ hC hb hTn hbn hst hps hS d1 d3 d2 p0 p31 (by omega) cl' (by omega) (fun post h => ?_)
    refine nm_r (e' := nI p) ep (br_f c (br_t ch (br_f pp ?_)))
    refine tc_same (fun _ => ?_) (fun z => absurd ⟨cs1, cs2⟩ z)
    refine br_f (by decide) (br_t cl ?_)
    rw [← hst] at h
    exact h
  · have cl' : d < b + n := by
      refine Classical.byContradiction fun z => cl ?_
      rw [hst, d1]
      exact nI_le (by omega) d3
    refine tc_agS (L := d) R hR0 hZ hC hb hTn hbn hst hps hS d1 d3 d2 p0 p31 (by omega) (Nat.le_refl _) (by omega) (fun post h => ?_)
    refine nm_r (e' := nI p) ep (br_f c (br_t ch (br_f pp ?_)))
    refine tc_same (fun _ => ?_) (fun z => absurd ⟨cs1, cs2⟩ z)
    refine br_f (by decide) (br_f cl ?_)
    rw [← d1] at h
    exact h
end
end
section
theorem tc_again {n b T : Nat} {u : SX} {v : SY} (R : tc_RR T u v) (hb : b ≤ T) (hTn : T ≤ b + n + 2) (hbn : b + n + 5 ≤ 1100000000) (n0 : 0 < n) (hst : tc_xst u = nI (b + n)) (hps : tc_yps v = nI (T - b)) (hPI : tc_xpu u = 1 → tc_PI n T u) : tc_AG n b T u v := by
  refine tc_RRe (P := fun u v => tc_xst u = nI (b + n) → tc_yps v = nI (T - b) → (tc_xpu u = 1 → tc_PI n T u) → tc_RR T u v → tc_AG n b T u v) ?_ R hst hps hPI R
  clear R hst hps hPI
  intro f_length f_inputs f_sp f_pc f_zero f_carry f_allowed f_asleep f_halted f_pending f_resets f_taken f_data f_serial f_divider f_sending f_dueSent f_received f_overrun f_sent f_converter f_result f_dueResult f_output f_watch f_dueWatch f_address f_storing f_storeAt f_storeControl f_dueStore f_mask f_edges f_due f_head f_headAt f_headFlags f_stop f_pure a_op a_opA a_opB a_vectors a_analogs a_r a_m a_stack a_count a_since a_control a_compare a_dueEqual a_dueOver a_line a_store a_headR g_passed g_converter g_since l_s l_c l_b b_opA b_opB b_store b_pending b_count hLen hOp hA hB hAn hM hSt hR hR0 hZ hC hAl hAs hHa hRe hOv hPu hSp hT hSe hIn hDa hDi hRs hOu hWa hMa hSg hSo hAd hSA hSr hSC hCv hCw hPe hT0 hT1 hUs hUc hUb hW hD hst hps hPI R
  obtain ⟨d, d1, d2, d3, _⟩ := tc_dueN hT hT0 hT1 hUs hUc hUb hW hD
  have hst : f_stop = nI (b + n) := hst
  by_cases c : f_pure = 0
  · exact tc_agN R hR0 hZ hC hTn hst hps (fun post h => nm_e (br_t c h))
  · obtain ⟨u0, p, hpT, ⟨r0, z0, c0, e0, g1, g2, g3, g4, g5⟩, he, hS⟩ := hPI (hPu.resolve_left c)
    have he : f_headAt = nI (T - p) := he
    have ep : nI T - f_headAt = nI p := by
      rw [he, pk_sub (by omega)]
      exact congrArg nI (by omega)
    by_cases ch : f_head = f_pc
    · subst ch
      by_cases p0 : p = 0
      · exact tc_agN R hR0 hZ hC hTn hst hps (fun post h => nm_r (e' := nI p) ep (br_f c (br_t rfl (br_t (by rw [p0]; decide) h))))
      · have pp : ¬ nI p ≤ 0 := nI_nle (by omega) (by omega)
        by_cases cs : tc_fl f_zero f_carry f_allowed = f_headFlags ∧ ∀ k, k < 8 → a_r k = a_headR k
        · obtain ⟨cs1, cs2⟩ := cs
          have er : r0 = a_r := by
            funext k
            by_cases k8 : k < 8
            · rw [← g1 k k8, cs2 k k8]
            · rw [g2 k (by omega), hR0 k (by omega)]
          obtain ⟨ez, ec⟩ := tc_fl_inj hZ hC g3 g4 (cs1.trans g5)
          rw [er, ← ez, ← ec] at e0
          rw [e0] at hS
          exact tc_agY R hR0 hZ hC hb hTn hbn hst hps (tc_SEMn (f_now := 0) (f_now' := nI T) hS) d1 d3 d2 (by omega) (by omega) c rfl ep n0 cs1 cs2
        · refine tc_agN R hR0 hZ hC hTn hst hps (fun post h => nm_r (e' := nI p) ep (br_f c (br_t rfl (br_f pp ?_))))
          exact tc_same (fun z => absurd z cs) (fun _ => br_t rfl h)
    · exact tc_agN R hR0 hZ hC hTn hst hps (fun post h => nm_e (br_f c (br_f ch h)))
end
section
/-! what a change of the core, or of the time, leaves -/
theorem tc_xha_sh (x : Nat) (u : SX) : tc_xha (tc_sh x u) = tc_xha u := rfl
theorem tc_xas_sh (x : Nat) (u : SX) : tc_xas (tc_sh x u) = tc_xas u := rfl
theorem tc_xhe_sh (x : Nat) (u : SX) : tc_xhe (tc_sh x u) = tc_xhe u := rfl
theorem tc_xal_sh (x : Nat) (u : SX) : tc_xal (tc_sh x u) = tc_xal u := rfl
theorem tc_xrd_sh (x : Nat) (u : SX) : tc_xrd (tc_sh x u) = tc_xrd u := rfl
theorem tc_NR_sh (x : Nat) (u : SX) (h : tc_NR u) : tc_NR (tc_sh x u) := by
  unfold tc_NR
  rw [tc_xal_sh, tc_xrd_sh]; exact h
theorem tc_pok_sh (x : Nat) (u : SX) (h : tc_pok u) : tc_pok (tc_sh x u) := by
  obtain ⟨f_length, f_inputs, f_sp, f_pc, f_zero, f_carry, f_allowed, f_asleep, f_halted, f_pending, f_resets, f_taken, f_now, f_data, f_serial, f_divider, f_sending, f_dueSent, f_received, f_overrun, f_sent, f_converter, f_result, f_dueResult, f_output, f_watch, f_dueWatch, f_address, f_storing, f_storeAt, f_storeControl, f_dueStore, f_mask, f_edges, f_due, f_head, f_headAt, f_headFlags, f_stop, f_pure, a_op, a_opA, a_opB, a_vectors, a_analogs, a_r, a_m, a_stack, a_count, a_since, a_control, a_compare, a_dueEqual, a_dueOver, a_line, a_store, a_headR⟩ := u
  exact h
theorem tc_CC_all {u u' : SX} (h : tc_CC u u') : tc_xdu u' = tc_xdu u ∧ tc_xhe u' = tc_xhe u ∧ tc_xpu u' = tc_xpu u ∧ tc_xst u' = tc_xst u ∧ (∀ u0, tc_HD u0 u → tc_HD u0 u') ∧ (∀ T : Nat, tc_sh T u = u → tc_sh T u' = u') := by
  obtain ⟨f_length, f_inputs, f_sp, f_pc, f_zero, f_carry, f_allowed, f_asleep, f_halted, f_pending, f_resets, f_taken, f_now, f_data, f_serial, f_divider, f_sending, f_dueSent, f_received, f_overrun, f_sent, f_converter, f_result, f_dueResult, f_output, f_watch, f_dueWatch, f_address, f_storing, f_storeAt, f_storeControl, f_dueStore, f_mask, f_edges, f_due, f_head, f_headAt, f_headFlags, f_stop, f_pure, a_op, a_opA, a_opB, a_vectors, a_analogs, a_r, a_m, a_stack, a_count, a_since, a_control, a_compare, a_dueEqual, a_dueOver, a_line, a_store, a_headR⟩ := u
  obtain ⟨pc, r, z, c, e, -⟩ := h
  subst e
  refine ⟨rfl, rfl, rfl, rfl, fun u0 h => h, fun T h => ?_⟩
  have h : nI T = f_now := by
    have := congrArg (fun u : SX => match u with | (f_length, f_inputs, f_sp, f_pc, f_zero, f_carry, f_allowed, f_asleep, f_halted, f_pending, f_resets, f_taken, f_now, f_data, f_serial, f_divider, f_sending, f_dueSent, f_received, f_overrun, f_sent, f_converter, f_result, f_dueResult, f_output, f_watch, f_dueWatch, f_address, f_storing, f_storeAt, f_storeControl, f_dueStore, f_mask, f_edges, f_due, f_head, f_headAt, f_headFlags, f_stop, f_pure, a_op, a_opA, a_opB, a_vectors, a_analogs, a_r, a_m, a_stack, a_count, a_since, a_control, a_compare, a_dueEqual, a_dueOver, a_line, a_store, a_headR) => f_now) h
    exact this
  subst h
  rfl
end
section
theorem tc_HD_sh {u0 u : SX} (x : Nat) (h : tc_HD u0 u) : tc_HD u0 (tc_sh x u) := by
  obtain ⟨f_length, f_inputs, f_sp, f_pc, f_zero, f_carry, f_allowed, f_asleep, f_halted, f_pending, f_resets, f_taken, f_now, f_data, f_serial, f_divider, f_sending, f_dueSent, f_received, f_overrun, f_sent, f_converter, f_result, f_dueResult, f_output, f_watch, f_dueWatch, f_address, f_storing, f_storeAt, f_storeControl, f_dueStore, f_mask, f_edges, f_due, f_head, f_headAt, f_headFlags, f_stop, f_pure, a_op, a_opA, a_opB, a_vectors, a_analogs, a_r, a_m, a_stack, a_count, a_since, a_control, a_compare, a_dueEqual, a_dueOver, a_line, a_store, a_headR⟩ := u
  exact h
theorem tc_HD_du {u0 u : SX} (h : tc_HD u0 u) : tc_xdu u0 = tc_xdu u := by
  obtain ⟨f_length, f_inputs, f_sp, f_pc, f_zero, f_carry, f_allowed, f_asleep, f_halted, f_pending, f_resets, f_taken, f_now, f_data, f_serial, f_divider, f_sending, f_dueSent, f_received, f_overrun, f_sent, f_converter, f_result, f_dueResult, f_output, f_watch, f_dueWatch, f_address, f_storing, f_storeAt, f_storeControl, f_dueStore, f_mask, f_edges, f_due, f_head, f_headAt, f_headFlags, f_stop, f_pure, a_op, a_opA, a_opB, a_vectors, a_analogs, a_r, a_m, a_stack, a_count, a_since, a_control, a_compare, a_dueEqual, a_dueOver, a_line, a_store, a_headR⟩ := u
  obtain ⟨r0, z0, c0, e0, -⟩ := h
  rw [e0]
  rfl
theorem tc_PIs {n T c : Nat} {u u' : SX} (hPI : tc_PI n T u) (hPX : tc_PX u c u') (hCC : tc_CC u u') (h0 : tc_xha u = 0) (hN : tc_NR u) (ha : tc_xas u = 0) (hk : tc_pok u) (c3 : c ≤ 3) (n31 : n < 2 ^ 31) : tc_PI n (T + c) (tc_sh (T + c) u') := by
  obtain ⟨u0, p, hpT, hH, he, hS⟩ := hPI
  obtain ⟨q1, q2, q3, q4, q5, q6⟩ := tc_CC_all hCC
  refine ⟨u0, p + c, by omega, tc_HD_sh _ (q5 u0 hH), ?_, ?_⟩
  · rw [tc_xhe_sh, q2, he]; exact congrArg nI (by omega)
  · intro T1 q d v R hd d31 hT hq hn hB
    obtain ⟨v1, R1, Y1, p1⟩ := hS T1 q d v R hd d31 (by omega) hq (by omega) (by omega)
    obtain ⟨v2, hE, R2, e2⟩ := hPX (T1 + p) v1 R1
    obtain ⟨u3, v3, R3, hC, p3, _, _, hdue, _⟩ := tc_pass c (T1 + p) _ v2 (by omega) R2
    have hu3 := hdue d (by rw [tc_xdu_sh, q1, ← tc_HD_du hH]; exact hd) d31 (by omega)
    rw [tc_sh_sh] at hu3
    rw [hu3, Nat.add_assoc] at R3
    refine ⟨v3, ?_, tc_YR_t Y1 (tc_yrX R1 (by rw [tc_xha_sh]; exact h0) (tc_NR_sh _ _ hN) (by rw [tc_xas_sh]; exact ha) (tc_pok_sh _ _ hk) n31 p1 (by omega) c3 hE hC), ?_⟩
    · rw [tc_sh_sh]; exact R3
    · rw [p3, e2, p1, nI_add, Nat.add_assoc]
end
section
/-! asleep: Y goes cycle by cycle, X at once -/
def tc_RS (n c T : Nat) (u : SX) (v : SY) : Prop := ∃ (u' : SX) (v' : SY), tc_RR (T + c) u' v' ∧ tc_YR (nI n) v v' ∧ tc_yps v' = tc_yps v + nI c ∧ tc_xst u' = tc_xst u ∧
  (u' = tc_sh (T + c) u ∨ tc_xpu u' = 0) ∧ (∀ d : Nat, tc_xdu u = nI d → d < 2 ^ 31 → T + c < d → u' = tc_sh (T + c) u) ∧
  (∀ e : Nat, T + c ≤ e → e < 2 ^ 31 → ∀ post : SX → Prop, (∃ m, tc_xW post (nI e) m u') → ∃ m, tc_xW post (nI e) m u)
theorem tc_rest {n d : Nat} {u : SX} (h0 : tc_xha u = 0) (hN : tc_NR u) (ha : ¬ tc_xas u = 0) (n31 : n < 2 ^ 31) (hd : tc_xdu u = nI d) (d31 : d < 2 ^ 31) {T q : Nat} {v : SY} (R : tc_RR T u v) (hq : tc_yps v = nI q) :
    ∀ c : Nat, T + c ≤ d → q + c ≤ n → T + c ≤ 1100000000 → tc_RS n c T u v := by
  intro c
  induction c with
  | zero =>
    intro _ _ _
    have e := tc_sh_self R
    exact ⟨u, v, R, tc_YR_r _ _, (Int32.add_zero _).symm, rfl, Or.inl e.symm, fun _ _ _ _ => e.symm, fun _ _ _ _ h => h⟩
  | succ c ih =>
    intro h1 h2 h3
    obtain ⟨u1, v1, R1, Y1, p1, s1, a1, b1, x1⟩ := ih (by omega) (by omega) (by omega)
    have e1 := b1 d hd d31 (by omega)
    subst e1
    obtain ⟨u2, v2, R2, y2, p2, s2, x2, a2, b2⟩ := tc_tick (by omega) R1
    rw [tc_sh_sh, Nat.add_assoc] at a2 b2
    rw [Nat.add_assoc] at R2
    rw [tc_xdu_sh] at b2
    have Y2 := tc_yrC (n := n) R1 (by rw [tc_xha_sh]; exact h0) (tc_NR_sh _ _ hN) (by rw [tc_xas_sh]; exact ha) n31 (p := q + c) (by rw [p1, hq, nI_add]) (by omega) y2
    refine ⟨u2, v2, R2, tc_YR_t Y1 Y2, ?_, s2.trans s1, a2, fun d' e1 e2 e3 => b2 d' e1 e2 (by omega), fun e g1 g2 post h => x1 e (by omega) g2 post (x2 e (by omega) g2 post h)⟩
    rw [p2, p1, Int32.add_assoc, nI_1]
/-- X's rest -/
theorem tc_restX {T c E d : Nat} {u u2 : SX} {v : SY} (R : tc_RR T u v) (hd : tc_xdu u = nI d) (d31 : d < 2 ^ 31) (E31 : E < 2 ^ 31) (hc : (E ≤ d ∧ T + c = E) ∨ (d < E ∧ T + c = d)) (hP : ∀ post : SX → Prop, post u2 → wpX_pass post u (nI c)) (post : SX → Prop) (h : post u2) : wpX_rest post u (nI E) := by
  refine tc_RRe (P := fun u v => tc_xdu u = nI d → (∀ post : SX → Prop, post u2 → wpX_pass post u (nI c)) → wpX_rest post u (nI E)) ?_ R hd hP
  clear R hd hP
  intro f_length f_inputs f_sp f_pc f_zero f_carry f_allowed f_asleep f_halted f_pending f_resets f_taken f_data f_serial f_divider f_sending f_dueSent f_received f_overrun f_sent f_converter f_result f_dueResult f_output f_watch f_dueWatch f_address f_storing f_storeAt f_storeControl f_dueStore f_mask f_edges f_due f_head f_headAt f_headFlags f_stop f_pure a_op a_opA a_opB a_vectors a_analogs a_r a_m a_stack a_count a_since a_control a_compare a_dueEqual a_dueOver a_line a_store a_headR g_passed g_converter g_since l_s l_c l_b b_opA b_opB b_store b_pending b_count hLen hOp hA hB hAn hM hSt hR hR0 hZ hC hAl hAs hHa hRe hOv hPu hSp hT hSe hIn hDa hDi hRs hOu hWa hMa hSg hSo hAd hSA hSr hSC hCv hCw hPe hT0 hT1 hUs hUc hUb hW hD hd hP
  have hd : f_due = nI d := hd
  have q : wpX_pass (fun u => post u) (f_length, f_inputs, f_sp, f_pc, f_zero, f_carry, f_allowed, f_asleep, f_halted, f_pending, f_resets, f_taken, nI T, f_data, f_serial, f_divider, f_sending, f_dueSent, f_received, f_overrun, f_sent, f_converter, f_result, f_dueResult, f_output, f_watch, f_dueWatch, f_address, f_storing, f_storeAt, f_storeControl, f_dueStore, f_mask, f_edges, f_due, f_head, f_headAt, f_headFlags, f_stop, f_pure, a_op, a_opA, a_opB, a_vectors, a_analogs, a_r, a_m, a_stack, a_count, a_since, a_control, a_compare, a_dueEqual, a_dueOver, a_line, a_store, a_headR) (nI c) := hP _ h
  have q16 : ∀ z, z = nI (T + c) → wX_rest_16 post z f_length f_inputs f_sp f_pc f_zero f_carry f_allowed f_asleep f_halted f_pending f_resets f_taken (nI T) f_data f_serial f_divider f_sending f_dueSent f_received f_overrun f_sent f_converter f_result f_dueResult f_output f_watch f_dueWatch f_address f_storing f_storeAt f_storeControl f_dueStore f_mask f_edges f_due f_head f_headAt f_headFlags f_stop f_pure a_op a_opA a_opB a_vectors a_analogs a_r a_m a_stack a_count a_since a_control a_compare a_dueEqual a_dueOver a_line a_store a_headR := by
    intro z hz
    subst hz
    have e : nI (T + c) - nI T = nI c := by
      rw [pk_sub (by omega)]; exact congrArg nI (by omega)
    unfold wX_rest_16
    rw [e]
    refine hP _ ?_
    clear q hP
    obtain ⟨f_length, f_inputs, f_sp, f_pc, f_zero, f_carry, f_allowed, f_asleep, f_halted, f_pending, f_resets, f_taken, f_now, f_data, f_serial, f_divider, f_sending, f_dueSent, f_received, f_overrun, f_sent, f_converter, f_result, f_dueResult, f_output, f_watch, f_dueWatch, f_address, f_storing, f_storeAt, f_storeControl, f_dueStore, f_mask, f_edges, f_due, f_head, f_headAt, f_headFlags, f_stop, f_pure, a_op, a_opA, a_opB, a_vectors, a_analogs, a_r, a_m, a_stack, a_count, a_since, a_control, a_compare, a_dueEqual, a_dueOver, a_line, a_store, a_headR⟩ := u2
    exact h
  rcases hc with ⟨g1, g2⟩ | ⟨g1, g2⟩
  · refine br_t (by rw [hd]; exact nI_le g1 d31) (q16 _ (by rw [g2]))
  · refine br_f (by rw [hd]; exact nI_ge g1 E31) (q16 _ (by rw [g2]; exact hd))
/-- the rest keeps what is known while pure is on -/
theorem tc_PIr {n T c : Nat} {u : SX} (hPI : tc_PI n T u) (h0 : tc_xha u = 0) (hN : tc_NR u) (ha : ¬ tc_xas u = 0) (n31 : n < 2 ^ 31) : tc_PI n (T + c) (tc_sh (T + c) u) := by
  obtain ⟨u0, p, hpT, hH, he, hS⟩ := hPI
  refine ⟨u0, p + c, by omega, tc_HD_sh _ hH, ?_, ?_⟩
  · rw [tc_xhe_sh, he]; exact congrArg nI (by omega)
  · intro T1 q d v R hd d31 hT hq hn hB
    obtain ⟨v1, R1, Y1, p1⟩ := hS T1 q d v R hd d31 (by omega) hq (by omega) (by omega)
    have hd1 : tc_xdu (tc_sh (T1 + p) u) = nI d := by rw [tc_xdu_sh, ← tc_HD_du hH]; exact hd
    obtain ⟨u3, v3, R3, Y3, p3, _, _, b3, _⟩ := tc_rest (n := n) (by rw [tc_xha_sh]; exact h0) (tc_NR_sh _ _ hN) (by rw [tc_xas_sh]; exact ha) n31 hd1 d31 R1 p1 c (by omega) (by omega) (by omega)
    have hu3 := b3 d hd1 d31 (by omega)
    rw [tc_sh_sh] at hu3
    rw [hu3, Nat.add_assoc] at R3
    refine ⟨v3, ?_, tc_YR_t Y1 Y3, ?_⟩
    · rw [tc_sh_sh]; exact R3
    · rw [p3, p1, nI_add, Nat.add_assoc]
end
section
/-! one turn of the run, and the run -/
def tc_RI (b n T : Nat) (u : SX) (v : SY) : Prop := tc_RR T u v ∧ tc_xst u = nI (b + n) ∧ tc_yps v = nI (T - b) ∧ b ≤ T ∧ T ≤ b + n + 2 ∧ (tc_xpu u = 1 → tc_PI n T u)
def tc_TH (b n T : Nat) (u : SX) (v : SY) : Prop := ∃ (u' : SX) (v' : SY), tc_RR T u' v' ∧ tc_XR (nI n) (nI b) u u' ∧ tc_YR (nI n) v v' ∧ tc_xha u' = 1 ∧ tc_yps v' = tc_yps v
def tc_TG (b n T : Nat) (u : SX) (v : SY) : Prop := ∃ (T' : Nat) (u' : SX) (v' : SY), T < T' ∧ tc_RI b n T' u' v' ∧ tc_XR (nI n) (nI b) u u' ∧ tc_YR (nI n) v v'
theorem tc_01 {x : Int32} (h : x = 0) : ¬ x = 1 := by rw [h]; decide
/-- behind an instruction: the cycles pass, and a jump back may skip rounds -/
theorem tc_after {b n T c : Nat} {u u' : SX} {v v' : SY} (hbn : b + n + 5 ≤ 1100000000) (n0 : 0 < n) (hb : b ≤ T) (hTn : T < b + n) (c1 : 1 ≤ c) (c3 : c ≤ 3)
    (R : tc_RR T u' v') (hst : tc_xst u' = nI (b + n)) (hps : tc_yps v' = nI (T - b)) (hXE : tc_XE u c u')
    (hXR : ∀ u2 : SX, (∀ post : SX → Prop, post u2 → wpX_step post u) → tc_XR (nI n) (nI b) u u2)
    (hYR : ∀ v2 : SY, tc_YCs c v' v2 → tc_YR (nI n) v v2)
    (hPI : ∀ u2 : SX, u2 = tc_sh (T + c) u' → tc_xpu u2 = 1 → tc_PI n (T + c) u2) : tc_TG b n T u v := by
  obtain ⟨u2, v2, R2, hC, p2, s2, a2, _, x2⟩ := tc_pass c T u' v' (by omega) R
  have hP : ∀ post : SX → Prop, post u2 → wpX_pass post u' (nI c) := fun post h => tc_passW R (x2 post h)
  have p2' : tc_yps v2 = nI (T + c - b) := by
    rw [p2, hps, nI_add]; exact congrArg nI (by omega)
  have s2' : tc_xst u2 = nI (b + n) := s2.trans hst
  have i2 : tc_xpu u2 = 1 → tc_PI n (T + c) u2 := by
    intro z
    rcases a2 with a2 | a2
    · exact hPI u2 a2 z
    · exact absurd z (tc_01 a2)
  have Y2 := hYR v2 hC
  obtain ⟨x1, x2', hE⟩ := hXE
  rcases tc_s220a (x1 := x1) (x2 := x2') hP with hs | hs
  · exact ⟨T + c, u2, v2, by omega, ⟨R2, s2', p2', by omega, by omega, i2⟩, hXR u2 (fun post h => hE post (hs post h)), Y2⟩
  · obtain ⟨T3, u3, v3, t1, t2, R3, hA, Y3, p3, s3, i3⟩ := tc_again R2 (by omega) (by omega) hbn n0 s2' p2' i2
    exact ⟨T3, u3, v3, by omega, ⟨R3, s3, p3, by omega, t2, fun _ => i3⟩, hXR u3 (fun post h => hE post (hs u3 hA post h)), tc_YR_t Y2 Y3⟩
theorem tc_exec {T : Nat} {u : SX} {v : SY} (R : tc_RR T u v) (h0 : tc_xha u = 0) (hk : tc_pok u) : tc_E0 T u v ∨ tc_E1 u ∨ tc_E2 T u v := by
  refine tc_RRe (P := fun u v => tc_xha u = 0 → tc_pok u → tc_E0 T u v ∨ tc_E1 u ∨ tc_E2 T u v) ?_ R h0 hk
  clear R h0 hk
  intro f_length f_inputs f_sp f_pc f_zero f_carry f_allowed f_asleep f_halted f_pending f_resets f_taken f_data f_serial f_divider f_sending f_dueSent f_received f_overrun f_sent f_converter f_result f_dueResult f_output f_watch f_dueWatch f_address f_storing f_storeAt f_storeControl f_dueStore f_mask f_edges f_due f_head f_headAt f_headFlags f_stop f_pure a_op a_opA a_opB a_vectors a_analogs a_r a_m a_stack a_count a_since a_control a_compare a_dueEqual a_dueOver a_line a_store a_headR g_passed g_converter g_since l_s l_c l_b b_opA b_opB b_store b_pending b_count hLen hOp hA hB hAn hM hSt hR hR0 hZ hC hAl hAs hHa hRe hOv hPu hSp hT hSe hIn hDa hDi hRs hOu hWa hMa hSg hSo hAd hSA hSr hSC hCv hCw hPe hT0 hT1 hUs hUc hUb hW hD h0 hk
  obtain ⟨i, l, rfl, hl, hil, l48⟩ := hk
  have hOp' := hOp i
  obtain ⟨o, o26, ho⟩ := hOp'
  exact tc_execT (f_pc := nI i) ⟨hLen, hOp, hA, hB, hAn, hM, hSt, hR, hR0, hZ, hC, hAl, hAs, hHa, hRe, hOv, hPu, hSp, hT, hSe, hIn, hDa, hDi, hRs, hOu, hWa, hMa, hSg, hSo, hAd, hSA, hSr, hSC, hCv, hCw, hPe, hT0, hT1, hUs, hUc, hUb, hW, hD⟩ hl hil l48 h0 ho o26
theorem tc_turn {b n T : Nat} {u : SX} {v : SY} (hbn : b + n + 5 ≤ 1100000000) (n0 : 0 < n) (I : tc_RI b n T u v) (hTn : T < b + n) (h0 : tc_xha u = 0) : tc_TH b n T u v ∨ tc_TG b n T u v := by
  obtain ⟨R, hst, hps, hb, _, hPI⟩ := I
  have n31 : n < 2 ^ 31 := by omega
  by_cases hN : tc_NR u
  · by_cases ha : tc_xas u = 0
    · by_cases hk : tc_pok u
      · rcases tc_exec R h0 hk with hE | hE | hE
        · obtain ⟨u', v', R', hX, hY, e1, e2⟩ := hE
          exact Or.inl ⟨u', v', R', tc_xrS R hb n31 (by omega) h0 hN ha hX, tc_yrX R h0 hN ha hk n31 hps (by omega) (by omega) hY rfl, e1, e2⟩
        · obtain ⟨u', c, c1, c3, hX, hPX, hCC⟩ := hE
          obtain ⟨q1, q2, q3, q4, q5, q6⟩ := tc_CC_all hCC
          have es := tc_sh_self R
          have es' := q6 T es
          obtain ⟨v', hY, R', e2⟩ := hPX T v (by rw [es]; exact R)
          rw [es'] at R'
          exact Or.inr (tc_after hbn n0 hb hTn c1 c3 R' (q4.trans hst) (e2.trans hps) hX (fun u2 hS => tc_xrS R hb n31 (by omega) h0 hN ha hS) (fun v2 hC => tc_yrX R h0 hN ha hk n31 hps (by omega) c3 hY hC)
            (fun u2 e z => by rw [e] at z ⊢; exact tc_PIs (hPI (by rw [← q3]; rw [tc_xpu_sh] at z; exact z)) hPX hCC h0 hN ha hk c3 n31))
        · obtain ⟨u', v', c, c1, c3, hX, hY, R', e0, e1, e2⟩ := hE
          exact Or.inr (tc_after hbn n0 hb hTn c1 c3 R' (e1.trans hst) (e2.trans hps) hX (fun u2 hS => tc_xrS R hb n31 (by omega) h0 hN ha hS) (fun v2 hC => tc_yrX R h0 hN ha hk n31 hps (by omega) c3 hY hC)
            (fun u2 e z => absurd z (tc_01 (by rw [e, tc_xpu_sh]; exact e0))))
      · obtain ⟨u', v', R', hX, hY, e1, e2⟩ := tc_stepH (n := n) R h0 hN ha hk n31 hps (by omega)
        exact Or.inl ⟨u', v', R', tc_xrS R hb n31 (by omega) h0 hN ha hX, hY, e1, e2⟩
    · obtain ⟨d, d1, d2, d3⟩ := tc_due R
      have hc : ∃ c, 0 < c ∧ T + c ≤ d ∧ T + c ≤ b + n ∧ ((b + n ≤ d ∧ T + c = b + n) ∨ (d < b + n ∧ T + c = d)) := by
        by_cases z : b + n ≤ d
        · exact ⟨b + n - T, by omega, by omega, by omega, Or.inl ⟨z, by omega⟩⟩
        · exact ⟨d - T, by omega, by omega, by omega, Or.inr ⟨by omega, by omega⟩⟩
      obtain ⟨c, c0, c1, c2, hc⟩ := hc
      obtain ⟨u2, v2, R2, Y2, p2, s2, a2, _, x2⟩ := tc_rest (n := n) h0 hN ha n31 d1 d3 R hps c c1 (by omega) (by omega)
      have hP : ∀ post : SX → Prop, post u2 → wpX_pass post u (nI c) := fun post h => tc_passW R (x2 (T + c) (Nat.le_refl _) (by omega) post ⟨1, tc_pass0 R2 post h⟩)
      refine Or.inr ⟨T + c, u2, v2, by omega, ⟨R2, s2.trans hst, ?_, by omega, by omega, ?_⟩, tc_xrR R hb n31 (by omega) h0 hN ha (fun post h => ?_), Y2⟩
      · rw [p2, hps, nI_add]; exact congrArg nI (by omega)
      · intro z
        rcases a2 with a2 | a2
        · rw [a2] at z ⊢
          exact tc_PIr (hPI (by rw [tc_xpu_sh] at z; exact z)) h0 hN ha n31
        · exact absurd z (tc_01 a2)
      · rw [nI_add]
        exact tc_restX R d1 d3 (by omega) hc hP post h
  · rcases tc_int R hN with ⟨u', v', R', hX, hY, e1, e2⟩ | ⟨u1, v1, R1, e0, e1, e2, hX, hY⟩
    · exact Or.inl ⟨u', v', R', tc_xrI R hb n31 (by omega) h0 hN hX, tc_yrI R h0 hN n31 hps (by omega) hY, e1, e2⟩
    · obtain ⟨u2, v2, R2, hC, p2, s2, a2, _, x2⟩ := tc_pass 3 T u1 v1 (by omega) R1
      have hP : ∀ post : SX → Prop, post u2 → wpX_pass post u1 (nI 3) := fun post h => tc_passW R1 (x2 post h)
      refine Or.inr ⟨T + 3, u2, v2, by omega, ⟨R2, (s2.trans e1).trans hst, ?_, by omega, by omega, ?_⟩, tc_xrI R hb n31 (by omega) h0 hN (fun post h => hX u2 hP post h), tc_yrI R h0 hN n31 hps (by omega) (fun post h => hY v2 hC post h)⟩
      · rw [p2, e2, hps, nI_add]; exact congrArg nI (by omega)
      · intro z
        rcases a2 with a2 | a2
        · rw [a2, tc_xpu_sh] at z; exact absurd z (tc_01 e0)
        · exact absurd z (tc_01 a2)
def tc_RO (b n : Nat) (u : SX) (v : SY) : Prop := ∃ (T' : Nat) (u' : SX) (v' : SY), tc_RR T' u' v' ∧ T' ≤ b + n + 2 ∧ (∀ post : Int32 → SX → Prop, post (nI (T' - b)) u' → ∃ m, tc_xr post (nI n) (nI b) m u) ∧ (∀ post : Int32 → SY → Prop, post (nI (T' - b)) v' → ∃ m, tc_yr post (nI n) m v)
theorem tc_xha_01 {T : Nat} {u : SX} {v : SY} (R : tc_RR T u v) : tc_xha u = 0 ∨ tc_xha u = 1 := by
  refine tc_RRe (P := fun u v => tc_xha u = 0 ∨ tc_xha u = 1) ?_ R
  intro f_length f_inputs f_sp f_pc f_zero f_carry f_allowed f_asleep f_halted f_pending f_resets f_taken f_data f_serial f_divider f_sending f_dueSent f_received f_overrun f_sent f_converter f_result f_dueResult f_output f_watch f_dueWatch f_address f_storing f_storeAt f_storeControl f_dueStore f_mask f_edges f_due f_head f_headAt f_headFlags f_stop f_pure a_op a_opA a_opB a_vectors a_analogs a_r a_m a_stack a_count a_since a_control a_compare a_dueEqual a_dueOver a_line a_store a_headR g_passed g_converter g_since l_s l_c l_b b_opA b_opB b_store b_pending b_count hLen hOp hA hB hAn hM hSt hR hR0 hZ hC hAl hAs hHa hRe hOv hPu hSp hT hSe hIn hDa hDi hRs hOu hWa hMa hSg hSo hAd hSA hSr hSC hCv hCw hPe hT0 hT1 hUs hUc hUb hW hD
  exact hHa
theorem tc_run {b n : Nat} (hbn : b + n + 5 ≤ 1100000000) (n0 : 0 < n) : ∀ (m T : Nat) (u : SX) (v : SY), b + n + 3 - T ≤ m → tc_RI b n T u v → tc_RO b n u v := by
  intro m
  induction m with
  | zero =>
    intro T u v hm I
    obtain ⟨R, hst, hps, hb, hT, hPI⟩ := I
    omega
  | succ m ih =>
    intro T u v hm I
    have I' := I
    obtain ⟨R, hst, hps, hb, hT, hPI⟩ := I'
    have hend : ∀ (u' : SX) (v' : SY), tc_RR T u' v' → tc_yps v' = nI (T - b) → (n ≤ T - b ∨ tc_xha u' = 1) → tc_XR (nI n) (nI b) u u' → tc_YR (nI n) v v' → tc_RO b n u v := by
      intro u' v' R' p' hh X Y
      exact ⟨T, u', v', R', hT, fun post h => X post ⟨1, tc_xrE R' hb (by omega) (by omega) hh post h⟩, fun post h => Y post ⟨1, tc_yrE R' (by omega) (by omega) p' hh post h⟩⟩
    by_cases hTn : T < b + n
    · rcases tc_xha_01 R with h0 | h0
      · rcases tc_turn hbn n0 I hTn h0 with ⟨u', v', R', X, Y, e1, e2⟩ | ⟨T', u', v', t1, I2, X, Y⟩
        · exact hend u' v' R' (e2.trans hps) (Or.inr e1) X Y
        · obtain ⟨T2, u2, v2, R2, t2, X2, Y2⟩ := ih T' u' v' (by omega) I2
          exact ⟨T2, u2, v2, R2, t2, fun post h => X post (X2 post h), fun post h => Y post (Y2 post h)⟩
      · exact hend u v R hps (Or.inr h0) (fun _ h => h) (tc_YR_r _ _)
    · exact hend u v R hps (Or.inl (by omega)) (fun _ h => h) (tc_YR_r _ _)
end
section
/-! the relation between the turns; the small methods -/
def i_Rel (k : Nat) (u : SX) (v : SY) : Prop := ∃ T : Nat, T ≤ 1000003010 ∧ tc_RR T u v
theorem i_up {k : Nat} {u : SX} {v : SY} (h : i_Rel k u v) : i_Rel (k + 4) u v := h
theorem tc_nb48 : ∀ o, o < 48 → (nI o).toInt8.toInt32 = nI o := by decide +kernel
theorem tc_ns256 : ∀ o, o < 256 → (nI o).toInt16.toInt32 = nI o := by decide +kernel
theorem tc_y8_andr {x m : Int32} (hm : tc_y8 m) : tc_y8 (x &&& m) :=
  tc_y8_of fun i h _ => by rw [b_and, tc_y8_bt hm h, Bool.and_false]
theorem i_vc_load {k : Nat} {u : SX} {v : SY} (I : i_Rel k u v) (hk : k + 4 ≤ 2048) (v1 : Int32) (v2 : Int32) (v3 : Int32) : wpX_load (fun r u' => wpY_load (fun r' v' => r' = r ∧ i_Rel (k + 4) u' v') v v1 v2 v3) u v1 v2 v3 := by
  obtain ⟨T, T9, R⟩ := I
  refine tc_RRe (P := fun u v => wpX_load (fun r u' => wpY_load (fun r' v' => r' = r ∧ i_Rel (k + 4) u' v') v v1 v2 v3) u v1 v2 v3) ?_ R
  clear R
  intro f_length f_inputs f_sp f_pc f_zero f_carry f_allowed f_asleep f_halted f_pending f_resets f_taken f_data f_serial f_divider f_sending f_dueSent f_received f_overrun f_sent f_converter f_result f_dueResult f_output f_watch f_dueWatch f_address f_storing f_storeAt f_storeControl f_dueStore f_mask f_edges f_due f_head f_headAt f_headFlags f_stop f_pure a_op a_opA a_opB a_vectors a_analogs a_r a_m a_stack a_count a_since a_control a_compare a_dueEqual a_dueOver a_line a_store a_headR g_passed g_converter g_since l_s l_c l_b b_opA b_opB b_store b_pending b_count hLen hOp hA hB hAn hM hSt hR hR0 hZ hC hAl hAs hHa hRe hOv hPu hSp hT hSe hIn hDa hDi hRs hOu hWa hMa hSg hSo hAd hSA hSr hSC hCv hCw hPe hT0 hT1 hUs hUc hUb hW hD
  have R : i_Rel (k + 4) (f_length, f_inputs, f_sp, f_pc, f_zero, f_carry, f_allowed, f_asleep, f_halted, f_pending, f_resets, f_taken, nI T, f_data, f_serial, f_divider, f_sending, f_dueSent, f_received, f_overrun, f_sent, f_converter, f_result, f_dueResult, f_output, f_watch, f_dueWatch, f_address, f_storing, f_storeAt, f_storeControl, f_dueStore, f_mask, f_edges, f_due, f_head, f_headAt, f_headFlags, f_stop, f_pure, a_op, a_opA, a_opB, a_vectors, a_analogs, a_r, a_m, a_stack, a_count, a_since, a_control, a_compare, a_dueEqual, a_dueOver, a_line, a_store, a_headR) (f_length, f_inputs, f_zero, f_carry, f_allowed, f_asleep, f_halted, f_sp, f_pc, nI T, g_passed, f_taken, f_resets, f_edges, f_sent, f_data, f_serial, f_divider, g_converter, f_result, f_output, f_watch, f_address, f_storeControl, f_mask, g_since, f_received, f_overrun, nI l_s, f_sending, nI l_c, nI l_b, f_storing, f_storeAt, a_op, b_opA, b_opB, a_vectors, a_analogs, b_store, a_r, a_m, a_stack, a_line, b_pending, b_count, a_control, a_compare) := ⟨T, T9, tc_RRi hLen hOp hA hB hAn hM hSt hR hR0 hZ hC hAl hAs hHa hRe hOv hPu hSp hT hSe hIn hDa hDi hRs hOu hWa hMa hSg hSo hAd hSA hSr hSC hCv hCw hPe hT0 hT1 hUs hUc hUb hW hD⟩
  by_cases c1 : v1 < 0
  · exact br_t c1 (br_t c1 ⟨rfl, R⟩)
  · by_cases c2 : 26 < v1
    · exact br_f c1 (br_t c2 (br_f c1 (br_t c2 ⟨rfl, R⟩)))
    · by_cases c3 : f_length = 48
      · exact br_f c1 (br_f c2 (br_t c3 (br_f c1 (br_f c2 (br_t c3 ⟨rfl, R⟩)))))
      · obtain ⟨o, o26, eo⟩ := nI_of2 (M := 26) (n := 26) (by decide) c1 (Int32.not_lt.mp c2)
        subst eo
        have hLen' := hLen
        obtain ⟨l, l48, el⟩ := hLen'
        subst el
        have l47 : l < 48 := by
          refine Classical.byContradiction fun z => c3 ?_
          rw [show l = 48 by omega]; rfl
        have es := nI_clamp (n := l) (by omega)
        have vl : vp_in (nI l) 48 := vp_in_nI l47 (by decide)
        obtain ⟨a, ha, ea⟩ := pk_andE v2 (m := 7) 3 (by decide)
        obtain ⟨w, hw, ew⟩ := pk_andE v3 (m := 255) 8 (by decide)
        have ha : a < 8 := ha
        have hw : w < 256 := hw
        have eA : vp_nar .byte ((v2 &&& 7).toInt8.toInt32) = v2 &&& 7 := by rw [pk_vb, ea, tc_nb48 a (by omega)]
        have eB : vp_nar .short ((v3 &&& 255).toInt16.toInt32) = v3 &&& 255 := by rw [pk_vs, ew, tc_ns256 w hw]
        have eO : vp_nar .byte ((nI o).toInt8.toInt32) = nI o := by rw [pk_vb, tc_nb48 o (by omega)]
        refine br_f c1 (br_f c2 (br_f c3 ?_))
        rw [es, eA, eB, eO]
        refine ⟨vl, nm_e ⟨vl, nm_e ⟨vl, nm_e (nm_e ?_)⟩⟩⟩
        refine br_f c1 (br_f c2 (br_f c3 ?_))
        rw [es]
        refine ⟨vl, nm_e ⟨vl, nm_e ⟨vl, nm_e (nm_e ⟨Int32.add_sub_cancel _ _, T, T9, ?_⟩)⟩⟩⟩
        refine tc_RRi (⟨l + 1, by omega, nI_1 l⟩) (?_) (?_) (?_) hAn hM hSt hR hR0 hZ hC hAl hAs hHa hRe hOv hPu hSp hT hSe hIn hDa hDi hRs hOu hWa hMa hSg hSo hAd hSA hSr hSC hCv hCw hPe hT0 hT1 hUs hUc hUb hW hD
        · intro i
          by_cases q : i = l
          · rw [q, pk_us]; exact ⟨o, o26, rfl⟩
          · rw [pk_un q]; exact hOp i
        · intro i
          by_cases q : i = l
          · rw [q, pk_us, pk_us]
          · rw [pk_un q, pk_un q]; exact hA i
        · intro i
          by_cases q : i = l
          · rw [q, pk_us, pk_us]
          · rw [pk_un q, pk_un q]; exact hB i
theorem i_vc_vector {k : Nat} {u : SX} {v : SY} (I : i_Rel k u v) (hk : k + 4 ≤ 2048) (v1 : Int32) (v2 : Int32) : wpX_vector (fun r u' => wpY_vector (fun r' v' => r' = r ∧ i_Rel (k + 4) u' v') v v1 v2) u v1 v2 := by
  obtain ⟨T, T9, R⟩ := I
  refine tc_RRe (P := fun u v => wpX_vector (fun r u' => wpY_vector (fun r' v' => r' = r ∧ i_Rel (k + 4) u' v') v v1 v2) u v1 v2) ?_ R
  clear R
  intro f_length f_inputs f_sp f_pc f_zero f_carry f_allowed f_asleep f_halted f_pending f_resets f_taken f_data f_serial f_divider f_sending f_dueSent f_received f_overrun f_sent f_converter f_result f_dueResult f_output f_watch f_dueWatch f_address f_storing f_storeAt f_storeControl f_dueStore f_mask f_edges f_due f_head f_headAt f_headFlags f_stop f_pure a_op a_opA a_opB a_vectors a_analogs a_r a_m a_stack a_count a_since a_control a_compare a_dueEqual a_dueOver a_line a_store a_headR g_passed g_converter g_since l_s l_c l_b b_opA b_opB b_store b_pending b_count hLen hOp hA hB hAn hM hSt hR hR0 hZ hC hAl hAs hHa hRe hOv hPu hSp hT hSe hIn hDa hDi hRs hOu hWa hMa hSg hSo hAd hSA hSr hSC hCv hCw hPe hT0 hT1 hUs hUc hUb hW hD
  have R : i_Rel (k + 4) (f_length, f_inputs, f_sp, f_pc, f_zero, f_carry, f_allowed, f_asleep, f_halted, f_pending, f_resets, f_taken, nI T, f_data, f_serial, f_divider, f_sending, f_dueSent, f_received, f_overrun, f_sent, f_converter, f_result, f_dueResult, f_output, f_watch, f_dueWatch, f_address, f_storing, f_storeAt, f_storeControl, f_dueStore, f_mask, f_edges, f_due, f_head, f_headAt, f_headFlags, f_stop, f_pure, a_op, a_opA, a_opB, a_vectors, a_analogs, a_r, a_m, a_stack, a_count, a_since, a_control, a_compare, a_dueEqual, a_dueOver, a_line, a_store, a_headR) (f_length, f_inputs, f_zero, f_carry, f_allowed, f_asleep, f_halted, f_sp, f_pc, nI T, g_passed, f_taken, f_resets, f_edges, f_sent, f_data, f_serial, f_divider, g_converter, f_result, f_output, f_watch, f_address, f_storeControl, f_mask, g_since, f_received, f_overrun, nI l_s, f_sending, nI l_c, nI l_b, f_storing, f_storeAt, a_op, b_opA, b_opB, a_vectors, a_analogs, b_store, a_r, a_m, a_stack, a_line, b_pending, b_count, a_control, a_compare) := ⟨T, T9, tc_RRi hLen hOp hA hB hAn hM hSt hR hR0 hZ hC hAl hAs hHa hRe hOv hPu hSp hT hSe hIn hDa hDi hRs hOu hWa hMa hSg hSo hAd hSA hSr hSC hCv hCw hPe hT0 hT1 hUs hUc hUb hW hD⟩
  by_cases c1 : v1 < 0
  · exact br_t c1 (br_t c1 ⟨rfl, R⟩)
  · by_cases c2 : 8 < v1
    · exact br_f c1 (br_t c2 (br_f c1 (br_t c2 ⟨rfl, R⟩)))
    · by_cases c3 : v2 < 0
      · exact br_f c1 (br_f c2 (br_t c3 (br_f c1 (br_f c2 (br_t c3 ⟨rfl, R⟩)))))
      · by_cases c4 : v2 ≤ 47
        · obtain ⟨o, o8, eo⟩ := nI_of2 (M := 8) (n := 8) (by decide) c1 (Int32.not_lt.mp c2)
          obtain ⟨a, a47, ea⟩ := nI_of2 (M := 47) (n := 47) (by decide) c3 c4
          have vo : vp_in v1 9 := by rw [eo]; exact vp_in_nI (by omega) (by decide)
          have eA : vp_nar .byte (v2.toInt8.toInt32) = v2 := by rw [pk_vb, ea, tc_nb48 a (by omega)]
          refine br_f c1 (br_f c2 (br_f c3 (br_t c4 ?_)))
          rw [eA]
          exact ⟨vo, nm_e (br_f c1 (br_f c2 (br_f c3 (br_t c4 ⟨vo, nm_e ⟨rfl, T, T9, tc_RRi hLen hOp hA hB hAn hM hSt hR hR0 hZ hC hAl hAs hHa hRe hOv hPu hSp hT hSe hIn hDa hDi hRs hOu hWa hMa hSg hSo hAd hSA hSr hSC hCv hCw hPe hT0 hT1 hUs hUc hUb hW hD⟩⟩))))⟩
        · exact br_f c1 (br_f c2 (br_f c3 (br_f c4 (br_f c1 (br_f c2 (br_f c3 (br_f c4 ⟨rfl, R⟩)))))))
theorem i_vc_pins {k : Nat} {u : SX} {v : SY} (I : i_Rel k u v) (hk : k + 4 ≤ 2048) (v1 : Int32) : wpX_pins (fun r u' => wpY_pins (fun r' v' => r' = r ∧ i_Rel (k + 4) u' v') v v1) u v1 := by
  obtain ⟨T, T9, R⟩ := I
  refine tc_RRe (P := fun u v => wpX_pins (fun r u' => wpY_pins (fun r' v' => r' = r ∧ i_Rel (k + 4) u' v') v v1) u v1) ?_ R
  clear R
  intro f_length f_inputs f_sp f_pc f_zero f_carry f_allowed f_asleep f_halted f_pending f_resets f_taken f_data f_serial f_divider f_sending f_dueSent f_received f_overrun f_sent f_converter f_result f_dueResult f_output f_watch f_dueWatch f_address f_storing f_storeAt f_storeControl f_dueStore f_mask f_edges f_due f_head f_headAt f_headFlags f_stop f_pure a_op a_opA a_opB a_vectors a_analogs a_r a_m a_stack a_count a_since a_control a_compare a_dueEqual a_dueOver a_line a_store a_headR g_passed g_converter g_since l_s l_c l_b b_opA b_opB b_store b_pending b_count hLen hOp hA hB hAn hM hSt hR hR0 hZ hC hAl hAs hHa hRe hOv hPu hSp hT hSe hIn hDa hDi hRs hOu hWa hMa hSg hSo hAd hSA hSr hSC hCv hCw hPe hT0 hT1 hUs hUc hUb hW hD
  have em : ((f_inputs ^^^ v1) &&& f_mask) &&& 255 = (f_inputs ^^^ v1) &&& f_mask := tc_y8_andr hMa
  have hI : tc_y8 (v1 &&& 255) := tc_y8_and _
  by_cases c : (f_inputs ^^^ v1) &&& f_mask = 0
  · refine br_t c (nm_e (br_t rfl ⟨tc_n0, br_t (by rw [em]; exact c) (nm_e (br_t rfl ⟨tc_n0, rfl, T, T9, ?_⟩))⟩))
    exact tc_RRi hLen hOp hA hB hAn hM hSt hR hR0 hZ hC hAl hAs hHa hRe hOv hPu hSp hT hSe hI hDa hDi hRs hOu hWa hMa hSg hSo hAd hSA hSr hSC hCv hCw hPe hT0 hT1 hUs hUc hUb hW hD
  · refine br_f c (nm_e (br_f (by decide) (nm_e ⟨tc_n1, br_f (by rw [em]; exact c) (nm_e (br_f (by decide) (nm_e ⟨tc_n1, rfl, T, T9, ?_⟩)))⟩)))
    exact tc_RRi hLen hOp hA hB hAn hM hSt hR hR0 hZ hC hAl hAs hHa hRe hOv hPu hSp hT hSe hI hDa hDi hRs hOu hWa hMa hSg hSo hAd hSA hSr hSC hCv hCw (tc_pF_or hPe (by decide +kernel)) hT0 hT1 hUs hUc hUb hW hD
theorem i_vc_analog {k : Nat} {u : SX} {v : SY} (I : i_Rel k u v) (hk : k + 4 ≤ 2048) (v1 : Int32) (v2 : Int32) : wpX_analog (fun r u' => wpY_analog (fun r' v' => r' = r ∧ i_Rel (k + 4) u' v') v v1 v2) u v1 v2 := by
  obtain ⟨T, T9, R⟩ := I
  refine tc_RRe (P := fun u v => wpX_analog (fun r u' => wpY_analog (fun r' v' => r' = r ∧ i_Rel (k + 4) u' v') v v1 v2) u v1 v2) ?_ R
  clear R
  intro f_length f_inputs f_sp f_pc f_zero f_carry f_allowed f_asleep f_halted f_pending f_resets f_taken f_data f_serial f_divider f_sending f_dueSent f_received f_overrun f_sent f_converter f_result f_dueResult f_output f_watch f_dueWatch f_address f_storing f_storeAt f_storeControl f_dueStore f_mask f_edges f_due f_head f_headAt f_headFlags f_stop f_pure a_op a_opA a_opB a_vectors a_analogs a_r a_m a_stack a_count a_since a_control a_compare a_dueEqual a_dueOver a_line a_store a_headR g_passed g_converter g_since l_s l_c l_b b_opA b_opB b_store b_pending b_count hLen hOp hA hB hAn hM hSt hR hR0 hZ hC hAl hAs hHa hRe hOv hPu hSp hT hSe hIn hDa hDi hRs hOu hWa hMa hSg hSo hAd hSA hSr hSC hCv hCw hPe hT0 hT1 hUs hUc hUb hW hD
  have R : i_Rel (k + 4) (f_length, f_inputs, f_sp, f_pc, f_zero, f_carry, f_allowed, f_asleep, f_halted, f_pending, f_resets, f_taken, nI T, f_data, f_serial, f_divider, f_sending, f_dueSent, f_received, f_overrun, f_sent, f_converter, f_result, f_dueResult, f_output, f_watch, f_dueWatch, f_address, f_storing, f_storeAt, f_storeControl, f_dueStore, f_mask, f_edges, f_due, f_head, f_headAt, f_headFlags, f_stop, f_pure, a_op, a_opA, a_opB, a_vectors, a_analogs, a_r, a_m, a_stack, a_count, a_since, a_control, a_compare, a_dueEqual, a_dueOver, a_line, a_store, a_headR) (f_length, f_inputs, f_zero, f_carry, f_allowed, f_asleep, f_halted, f_sp, f_pc, nI T, g_passed, f_taken, f_resets, f_edges, f_sent, f_data, f_serial, f_divider, g_converter, f_result, f_output, f_watch, f_address, f_storeControl, f_mask, g_since, f_received, f_overrun, nI l_s, f_sending, nI l_c, nI l_b, f_storing, f_storeAt, a_op, b_opA, b_opB, a_vectors, a_analogs, b_store, a_r, a_m, a_stack, a_line, b_pending, b_count, a_control, a_compare) := ⟨T, T9, tc_RRi hLen hOp hA hB hAn hM hSt hR hR0 hZ hC hAl hAs hHa hRe hOv hPu hSp hT hSe hIn hDa hDi hRs hOu hWa hMa hSg hSo hAd hSA hSr hSC hCv hCw hPe hT0 hT1 hUs hUc hUb hW hD⟩
  by_cases c1 : v1 < 0
  · exact br_t c1 (br_t c1 ⟨rfl, R⟩)
  · by_cases c2 : v1 ≤ 3
    · obtain ⟨o, o3, eo⟩ := nI_of2 (M := 3) (n := 3) (by decide) c1 c2
      have vo : vp_in v1 4 := by rw [eo]; exact vp_in_nI (by omega) (by decide)
      exact br_f c1 (br_t c2 ⟨vo, nm_e (br_f c1 (br_t c2 ⟨vo, nm_e ⟨rfl, T, T9, tc_RRi hLen hOp hA hB (tc_mup hAn (tc_y8_and _)) hM hSt hR hR0 hZ hC hAl hAs hHa hRe hOv hPu hSp hT hSe hIn hDa hDi hRs hOu hWa hMa hSg hSo hAd hSA hSr hSC hCv hCw hPe hT0 hT1 hUs hUc hUb hW hD⟩⟩))⟩)
    · exact br_f c1 (br_f c2 (br_f c1 (br_f c2 ⟨rfl, R⟩)))
theorem i_vc_receive {k : Nat} {u : SX} {v : SY} (I : i_Rel k u v) (hk : k + 4 ≤ 2048) (v1 : Int32) : wpX_receive (fun r u' => wpY_receive (fun r' v' => r' = r ∧ i_Rel (k + 4) u' v') v v1) u v1 := by
  obtain ⟨T, T9, R⟩ := I
  refine tc_RRe (P := fun u v => wpX_receive (fun r u' => wpY_receive (fun r' v' => r' = r ∧ i_Rel (k + 4) u' v') v v1) u v1) ?_ R
  clear R
  intro f_length f_inputs f_sp f_pc f_zero f_carry f_allowed f_asleep f_halted f_pending f_resets f_taken f_data f_serial f_divider f_sending f_dueSent f_received f_overrun f_sent f_converter f_result f_dueResult f_output f_watch f_dueWatch f_address f_storing f_storeAt f_storeControl f_dueStore f_mask f_edges f_due f_head f_headAt f_headFlags f_stop f_pure a_op a_opA a_opB a_vectors a_analogs a_r a_m a_stack a_count a_since a_control a_compare a_dueEqual a_dueOver a_line a_store a_headR g_passed g_converter g_since l_s l_c l_b b_opA b_opB b_store b_pending b_count hLen hOp hA hB hAn hM hSt hR hR0 hZ hC hAl hAs hHa hRe hOv hPu hSp hT hSe hIn hDa hDi hRs hOu hWa hMa hSg hSo hAd hSA hSr hSC hCv hCw hPe hT0 hT1 hUs hUc hUb hW hD
  by_cases c : f_received = 0
  · exact br_t c (nm_e (nm_e (br_t c (nm_e (nm_e ⟨rfl, T, T9, tc_RRi hLen hOp hA hB hAn hM hSt hR hR0 hZ hC hAl hAs hHa tc_bo1 hOv hPu hSp hT hSe hIn (tc_y8_and _) hDi hRs hOu hWa hMa hSg hSo hAd hSA hSr hSC hCv hCw (tc_pF_or hPe (by decide +kernel)) hT0 hT1 hUs hUc hUb hW hD⟩)))))
  · exact br_f c (br_f c ⟨rfl, T, T9, tc_RRi hLen hOp hA hB hAn hM hSt hR hR0 hZ hC hAl hAs hHa hRe tc_bo1 hPu hSp hT hSe hIn hDa hDi hRs hOu hWa hMa hSg hSo hAd hSA hSr hSC hCv hCw hPe hT0 hT1 hUs hUc hUb hW hD⟩)
theorem i_vc_register {k : Nat} {u : SX} {v : SY} (I : i_Rel k u v) (hk : k + 4 ≤ 2048) (v1 : Int32) : wpX_register (fun r => wpY_register (fun r' => r' = r ∧ i_Rel (k + 4) u v) v v1) u v1 := by
  have I' := I
  obtain ⟨T, T9, R⟩ := I
  refine tc_RRe (P := fun u v => i_Rel k u v → wpX_register (fun r => wpY_register (fun r' => r' = r ∧ i_Rel (k + 4) u v) v v1) u v1) ?_ R I'
  clear R I'
  intro f_length f_inputs f_sp f_pc f_zero f_carry f_allowed f_asleep f_halted f_pending f_resets f_taken f_data f_serial f_divider f_sending f_dueSent f_received f_overrun f_sent f_converter f_result f_dueResult f_output f_watch f_dueWatch f_address f_storing f_storeAt f_storeControl f_dueStore f_mask f_edges f_due f_head f_headAt f_headFlags f_stop f_pure a_op a_opA a_opB a_vectors a_analogs a_r a_m a_stack a_count a_since a_control a_compare a_dueEqual a_dueOver a_line a_store a_headR g_passed g_converter g_since l_s l_c l_b b_opA b_opB b_store b_pending b_count hLen hOp hA hB hAn hM hSt hR hR0 hZ hC hAl hAs hHa hRe hOv hPu hSp hT hSe hIn hDa hDi hRs hOu hWa hMa hSg hSo hAd hSA hSr hSC hCv hCw hPe hT0 hT1 hUs hUc hUb hW hD I
  by_cases c1 : v1 < 0
  · exact br_t c1 (br_t c1 ⟨rfl, I⟩)
  · by_cases c2 : v1 ≤ 7
    · obtain ⟨o, o3, eo⟩ := nI_of2 (M := 7) (n := 7) (by decide) c1 c2
      have vo : vp_in v1 8 := by rw [eo]; exact vp_in_nI (by omega) (by decide)
      exact br_f c1 (br_t c2 ⟨vo, br_f c1 (br_t c2 ⟨vo, rfl, I⟩)⟩)
    · exact br_f c1 (br_f c2 (br_f c1 (br_f c2 ⟨rfl, I⟩)))
theorem i_vc_memory {k : Nat} {u : SX} {v : SY} (I : i_Rel k u v) (hk : k + 4 ≤ 2048) (v1 : Int32) : wpX_memory (fun r => wpY_memory (fun r' => r' = r ∧ i_Rel (k + 4) u v) v v1) u v1 := by
  have I' := I
  obtain ⟨T, T9, R⟩ := I
  refine tc_RRe (P := fun u v => i_Rel k u v → wpX_memory (fun r => wpY_memory (fun r' => r' = r ∧ i_Rel (k + 4) u v) v v1) u v1) ?_ R I'
  clear R I'
  intro f_length f_inputs f_sp f_pc f_zero f_carry f_allowed f_asleep f_halted f_pending f_resets f_taken f_data f_serial f_divider f_sending f_dueSent f_received f_overrun f_sent f_converter f_result f_dueResult f_output f_watch f_dueWatch f_address f_storing f_storeAt f_storeControl f_dueStore f_mask f_edges f_due f_head f_headAt f_headFlags f_stop f_pure a_op a_opA a_opB a_vectors a_analogs a_r a_m a_stack a_count a_since a_control a_compare a_dueEqual a_dueOver a_line a_store a_headR g_passed g_converter g_since l_s l_c l_b b_opA b_opB b_store b_pending b_count hLen hOp hA hB hAn hM hSt hR hR0 hZ hC hAl hAs hHa hRe hOv hPu hSp hT hSe hIn hDa hDi hRs hOu hWa hMa hSg hSo hAd hSA hSr hSC hCv hCw hPe hT0 hT1 hUs hUc hUb hW hD I
  by_cases c1 : v1 < 0
  · exact br_t c1 (br_t c1 ⟨rfl, I⟩)
  · by_cases c2 : v1 ≤ 31
    · obtain ⟨o, o3, eo⟩ := nI_of2 (M := 31) (n := 31) (by decide) c1 c2
      have vo : vp_in v1 32 := by rw [eo]; exact vp_in_nI (by omega) (by decide)
      exact br_f c1 (br_t c2 ⟨vo, br_f c1 (br_t c2 ⟨vo, rfl, I⟩)⟩)
    · exact br_f c1 (br_f c2 (br_f c1 (br_f c2 ⟨rfl, I⟩)))
theorem i_vc_port {k : Nat} {u : SX} {v : SY} (I : i_Rel k u v) (hk : k + 4 ≤ 2048) (v1 : Int32) : wpX_port (fun r => wpY_port (fun r' => r' = r ∧ i_Rel (k + 4) u v) v v1) u v1 := by
  have I' := I
  obtain ⟨T, T9, R⟩ := I
  refine tc_RRe (P := fun u v => i_Rel k u v → wpX_port (fun r => wpY_port (fun r' => r' = r ∧ i_Rel (k + 4) u v) v v1) u v1) ?_ R I'
  clear R I'
  intro f_length f_inputs f_sp f_pc f_zero f_carry f_allowed f_asleep f_halted f_pending f_resets f_taken f_data f_serial f_divider f_sending f_dueSent f_received f_overrun f_sent f_converter f_result f_dueResult f_output f_watch f_dueWatch f_address f_storing f_storeAt f_storeControl f_dueStore f_mask f_edges f_due f_head f_headAt f_headFlags f_stop f_pure a_op a_opA a_opB a_vectors a_analogs a_r a_m a_stack a_count a_since a_control a_compare a_dueEqual a_dueOver a_line a_store a_headR g_passed g_converter g_since l_s l_c l_b b_opA b_opB b_store b_pending b_count hLen hOp hA hB hAn hM hSt hR hR0 hZ hC hAl hAs hHa hRe hOv hPu hSp hT hSe hIn hDa hDi hRs hOu hWa hMa hSg hSo hAd hSA hSr hSC hCv hCw hPe hT0 hT1 hUs hUc hUb hW hD I
  by_cases c1 : v1 < 0
  · exact br_t c1 (br_t c1 ⟨rfl, I⟩)
  · by_cases c2 : v1 ≤ 19
    · obtain ⟨q, q19, eq⟩ := nI_of2 (M := 19) (n := 19) (by decide) c1 c2
      subst eq
      obtain ⟨rv, -, rX, rY⟩ := tc_in (T := T) (f_length := f_length) (f_inputs := f_inputs) (f_sp := f_sp) (f_pc := f_pc) (f_zero := f_zero) (f_carry := f_carry) (f_allowed := f_allowed) (f_asleep := f_asleep) (f_halted := f_halted) (f_pending := f_pending) (f_resets := f_resets) (f_taken := f_taken) (f_data := f_data) (f_serial := f_serial) (f_divider := f_divider) (f_sending := f_sending) (f_dueSent := f_dueSent) (f_received := f_received) (f_overrun := f_overrun) (f_sent := f_sent) (f_converter := f_converter) (f_result := f_result) (f_dueResult := f_dueResult) (f_output := f_output) (f_watch := f_watch) (f_dueWatch := f_dueWatch) (f_address := f_address) (f_storing := f_storing) (f_storeAt := f_storeAt) (f_storeControl := f_storeControl) (f_dueStore := f_dueStore) (f_mask := f_mask) (f_edges := f_edges) (f_due := f_due) (f_head := f_head) (f_headAt := f_headAt) (f_headFlags := f_headFlags) (f_stop := f_stop) (f_pure := f_pure) (a_op := a_op) (a_opA := a_opA) (a_opB := a_opB) (a_vectors := a_vectors) (a_analogs := a_analogs) (a_r := a_r) (a_m := a_m) (a_stack := a_stack) (a_count := a_count) (a_since := a_since) (a_control := a_control) (a_compare := a_compare) (a_dueEqual := a_dueEqual) (a_dueOver := a_dueOver) (a_line := a_line) (a_store := a_store) (a_headR := a_headR) (g_passed := g_passed) (g_converter := g_converter) (g_since := g_since) (l_s := l_s) (l_c := l_c) (l_b := l_b) (b_opA := b_opA) (b_opB := b_opB) (b_store := b_store) (b_pending := b_pending) (b_count := b_count) (show q < 32 by omega) ⟨hLen, hOp, hA, hB, hAn, hM, hSt, hR, hR0, hZ, hC, hAl, hAs, hHa, hRe, hOv, hPu, hSp, hT, hSe, hIn, hDa, hDi, hRs, hOu, hWa, hMa, hSg, hSo, hAd, hSA, hSr, hSC, hCv, hCw, hPe, hT0, hT1, hUs, hUc, hUb, hW, hD⟩
      refine br_f c1 (br_t c2 ?_)
      refine rX f_pc f_pure _ ?_
      refine br_f c1 (br_t c2 ?_)
      refine rY f_pc _ ?_
      exact ⟨rfl, I⟩
    · exact br_f c1 (br_f c2 (br_f c1 (br_f c2 ⟨rfl, I⟩)))
theorem i_vc_state {k : Nat} {u : SX} {v : SY} (I : i_Rel k u v) (hk : k + 4 ≤ 2048) (v1 : Int32) : wpX_state (fun r => wpY_state (fun r' => r' = r ∧ i_Rel (k + 4) u v) v v1) u v1 := by
  have I' := I
  obtain ⟨T, T9, R⟩ := I
  refine tc_RRe (P := fun u v => i_Rel k u v → wpX_state (fun r => wpY_state (fun r' => r' = r ∧ i_Rel (k + 4) u v) v v1) u v1) ?_ R I'
  clear R I'
  intro f_length f_inputs f_sp f_pc f_zero f_carry f_allowed f_asleep f_halted f_pending f_resets f_taken f_data f_serial f_divider f_sending f_dueSent f_received f_overrun f_sent f_converter f_result f_dueResult f_output f_watch f_dueWatch f_address f_storing f_storeAt f_storeControl f_dueStore f_mask f_edges f_due f_head f_headAt f_headFlags f_stop f_pure a_op a_opA a_opB a_vectors a_analogs a_r a_m a_stack a_count a_since a_control a_compare a_dueEqual a_dueOver a_line a_store a_headR g_passed g_converter g_since l_s l_c l_b b_opA b_opB b_store b_pending b_count hLen hOp hA hB hAn hM hSt hR hR0 hZ hC hAl hAs hHa hRe hOv hPu hSp hT hSe hIn hDa hDi hRs hOu hWa hMa hSg hSo hAd hSA hSr hSC hCv hCw hPe hT0 hT1 hUs hUc hUb hW hD I
  by_cases c1 : v1 < 0
  · exact br_t c1 (br_t c1 ⟨rfl, I⟩)
  · by_cases c2 : 7 < v1
    · exact br_f c1 (br_t c2 (br_f c1 (br_t c2 ⟨rfl, I⟩)))
    · refine br_f c1 (br_f c2 ?_)
      by_cases e0 : v1 = 0
      · exact br_t e0 (br_f c1 (br_f c2 (br_t e0 ⟨rfl, I⟩)))
      by_cases e1 : v1 = 1
      · refine br_f e0 (br_t e1 ?_)
        refine tc_flags ?_
        refine br_f c1 (br_f c2 (br_f e0 (br_t e1 ?_)))
        unfold tc_fl
        by_cases z1 : f_zero = 0 <;> by_cases z2 : f_carry = 0 <;> by_cases z3 : f_allowed = 0
        · rw [if_pos z1, if_pos z2, if_pos z3]; exact br_t z1 (br_t z2 (br_t z3 ⟨rfl, I⟩))
        · rw [if_pos z1, if_pos z2, if_neg z3]; exact br_t z1 (br_t z2 (br_f z3 ⟨rfl, I⟩))
        · rw [if_pos z1, if_neg z2, if_pos z3]; exact br_t z1 (br_f z2 (br_t z3 ⟨rfl, I⟩))
        · rw [if_pos z1, if_neg z2, if_neg z3]; exact br_t z1 (br_f z2 (br_f z3 ⟨rfl, I⟩))
        · rw [if_neg z1, if_pos z2, if_pos z3]; exact br_f z1 (br_t z2 (br_t z3 ⟨rfl, I⟩))
        · rw [if_neg z1, if_pos z2, if_neg z3]; exact br_f z1 (br_t z2 (br_f z3 ⟨rfl, I⟩))
        · rw [if_neg z1, if_neg z2, if_pos z3]; exact br_f z1 (br_f z2 (br_t z3 ⟨rfl, I⟩))
        · rw [if_neg z1, if_neg z2, if_neg z3]; exact br_f z1 (br_f z2 (br_f z3 ⟨rfl, I⟩))
      by_cases e2 : v1 = 2
      · exact br_f e0 (br_f e1 (br_t e2 (br_f c1 (br_f c2 (br_f e0 (br_f e1 (br_t e2 ⟨rfl, I⟩)))))))
      by_cases e3 : v1 = 3
      · refine br_f e0 (br_f e1 (br_f e2 (br_t e3 ?_)))
        by_cases z1 : f_halted = 0
        · by_cases z2 : f_asleep = 0
          · exact br_t z1 (br_t z2 (br_f c1 (br_f c2 (br_f e0 (br_f e1 (br_f e2 (br_t e3 (br_t z1 (br_t z2 ⟨rfl, I⟩)))))))))
          · exact br_t z1 (br_f z2 (br_f c1 (br_f c2 (br_f e0 (br_f e1 (br_f e2 (br_t e3 (br_t z1 (br_f z2 ⟨rfl, I⟩)))))))))
        · exact br_f z1 (br_f c1 (br_f c2 (br_f e0 (br_f e1 (br_f e2 (br_t e3 (br_f z1 ⟨rfl, I⟩)))))))
      by_cases e4 : v1 = 4
      · exact br_f e0 (br_f e1 (br_f e2 (br_f e3 (br_t e4 (br_f c1 (br_f c2 (br_f e0 (br_f e1 (br_f e2 (br_f e3 (br_t e4 ⟨rfl, I⟩)))))))))))
      by_cases e5 : v1 = 5
      · exact br_f e0 (br_f e1 (br_f e2 (br_f e3 (br_f e4 (br_t e5 (br_f c1 (br_f c2 (br_f e0 (br_f e1 (br_f e2 (br_f e3 (br_f e4 (br_t e5 ⟨rfl, I⟩)))))))))))))
      by_cases e6 : v1 = 6
      · exact br_f e0 (br_f e1 (br_f e2 (br_f e3 (br_f e4 (br_f e5 (br_t e6 (br_f c1 (br_f c2 (br_f e0 (br_f e1 (br_f e2 (br_f e3 (br_f e4 (br_f e5 (br_t e6 ⟨rfl, I⟩)))))))))))))))
      by_cases e7 : v1 = 7
      · exact br_f e0 (br_f e1 (br_f e2 (br_f e3 (br_f e4 (br_f e5 (br_f e6 (br_t e7 (br_f c1 (br_f c2 (br_f e0 (br_f e1 (br_f e2 (br_f e3 (br_f e4 (br_f e5 (br_f e6 (br_t e7 ⟨rfl, I⟩)))))))))))))))))
      · exact br_f e0 (br_f e1 (br_f e2 (br_f e3 (br_f e4 (br_f e5 (br_f e6 (br_f e7 trivial)))))))
theorem i_vc_stored {k : Nat} {u : SX} {v : SY} (I : i_Rel k u v) (hk : k + 4 ≤ 2048) (v1 : Int32) : wpX_stored (fun r => wpY_stored (fun r' => r' = r ∧ i_Rel (k + 4) u v) v v1) u v1 := by
  have I' := I
  obtain ⟨T, T9, R⟩ := I
  refine tc_RRe (P := fun u v => i_Rel k u v → wpX_stored (fun r => wpY_stored (fun r' => r' = r ∧ i_Rel (k + 4) u v) v v1) u v1) ?_ R I'
  clear R I'
  intro f_length f_inputs f_sp f_pc f_zero f_carry f_allowed f_asleep f_halted f_pending f_resets f_taken f_data f_serial f_divider f_sending f_dueSent f_received f_overrun f_sent f_converter f_result f_dueResult f_output f_watch f_dueWatch f_address f_storing f_storeAt f_storeControl f_dueStore f_mask f_edges f_due f_head f_headAt f_headFlags f_stop f_pure a_op a_opA a_opB a_vectors a_analogs a_r a_m a_stack a_count a_since a_control a_compare a_dueEqual a_dueOver a_line a_store a_headR g_passed g_converter g_since l_s l_c l_b b_opA b_opB b_store b_pending b_count hLen hOp hA hB hAn hM hSt hR hR0 hZ hC hAl hAs hHa hRe hOv hPu hSp hT hSe hIn hDa hDi hRs hOu hWa hMa hSg hSo hAd hSA hSr hSC hCv hCw hPe hT0 hT1 hUs hUc hUb hW hD I
  by_cases c1 : v1 < 0
  · exact br_t c1 (br_t c1 ⟨rfl, I⟩)
  · by_cases c2 : v1 ≤ 15
    · obtain ⟨o, o3, eo⟩ := nI_of2 (M := 15) (n := 15) (by decide) c1 c2
      have vo : vp_in v1 16 := by rw [eo]; exact vp_in_nI (by omega) (by decide)
      exact br_f c1 (br_t c2 ⟨vo, br_f c1 (br_t c2 ⟨vo, hSt _, I⟩)⟩)
    · exact br_f c1 (br_f c2 (br_f c1 (br_f c2 ⟨rfl, I⟩)))
theorem i_vc_line {k : Nat} {u : SX} {v : SY} (I : i_Rel k u v) (hk : k + 4 ≤ 2048) (v1 : Int32) : wpX_line (fun r => wpY_line (fun r' => r' = r ∧ i_Rel (k + 4) u v) v v1) u v1 := by
  have I' := I
  obtain ⟨T, T9, R⟩ := I
  refine tc_RRe (P := fun u v => i_Rel k u v → wpX_line (fun r => wpY_line (fun r' => r' = r ∧ i_Rel (k + 4) u v) v v1) u v1) ?_ R I'
  clear R I'
  intro f_length f_inputs f_sp f_pc f_zero f_carry f_allowed f_asleep f_halted f_pending f_resets f_taken f_data f_serial f_divider f_sending f_dueSent f_received f_overrun f_sent f_converter f_result f_dueResult f_output f_watch f_dueWatch f_address f_storing f_storeAt f_storeControl f_dueStore f_mask f_edges f_due f_head f_headAt f_headFlags f_stop f_pure a_op a_opA a_opB a_vectors a_analogs a_r a_m a_stack a_count a_since a_control a_compare a_dueEqual a_dueOver a_line a_store a_headR g_passed g_converter g_since l_s l_c l_b b_opA b_opB b_store b_pending b_count hLen hOp hA hB hAn hM hSt hR hR0 hZ hC hAl hAs hHa hRe hOv hPu hSp hT hSe hIn hDa hDi hRs hOu hWa hMa hSg hSo hAd hSA hSr hSC hCv hCw hPe hT0 hT1 hUs hUc hUb hW hD I
  by_cases c1 : v1 < 0
  · exact br_t c1 (br_t c1 ⟨rfl, I⟩)
  · by_cases c2 : 31 < v1
    · refine br_f c1 (br_t c2 (br_f c1 ?_))
      exact br_c (fun _ => ⟨rfl, I⟩) (fun _ => br_f (fun z => absurd c2 (Int32.not_lt.mpr z)) ⟨rfl, I⟩)
    · obtain ⟨o, o3, eo⟩ := nI_of2 (M := 31) (n := 31) (by decide) c1 (Int32.not_lt.mp c2)
      have vo : vp_in v1 32 := by rw [eo]; exact vp_in_nI (by omega) (by decide)
      by_cases c3 : v1 < f_sent
      · exact br_f c1 (br_f c2 (br_t c3 ⟨vo, br_f c1 (br_f (fun z => absurd c3 (Int32.not_lt.mpr z)) (br_t (Int32.not_lt.mp c2) ⟨vo, rfl, I⟩))⟩))
      · exact br_f c1 (br_f c2 (br_f c3 (br_f c1 (br_t (Int32.not_lt.mp c3) ⟨rfl, I⟩))))
theorem i_vc_sent {k : Nat} {u : SX} {v : SY} (I : i_Rel k u v) (hk : k + 4 ≤ 2048) : wpX_sent (fun r => wpY_sent (fun r' => r' = r ∧ i_Rel (k + 4) u v) v) u := by
  have I' := I
  obtain ⟨T, T9, R⟩ := I
  refine tc_RRe (P := fun u v => i_Rel k u v → wpX_sent (fun r => wpY_sent (fun r' => r' = r ∧ i_Rel (k + 4) u v) v) u) ?_ R I'
  clear R I'
  intro f_length f_inputs f_sp f_pc f_zero f_carry f_allowed f_asleep f_halted f_pending f_resets f_taken f_data f_serial f_divider f_sending f_dueSent f_received f_overrun f_sent f_converter f_result f_dueResult f_output f_watch f_dueWatch f_address f_storing f_storeAt f_storeControl f_dueStore f_mask f_edges f_due f_head f_headAt f_headFlags f_stop f_pure a_op a_opA a_opB a_vectors a_analogs a_r a_m a_stack a_count a_since a_control a_compare a_dueEqual a_dueOver a_line a_store a_headR g_passed g_converter g_since l_s l_c l_b b_opA b_opB b_store b_pending b_count hLen hOp hA hB hAn hM hSt hR hR0 hZ hC hAl hAs hHa hRe hOv hPu hSp hT hSe hIn hDa hDi hRs hOu hWa hMa hSg hSo hAd hSA hSr hSC hCv hCw hPe hT0 hT1 hUs hUc hUb hW hD I
  exact ⟨rfl, I⟩
end
section
/-! power and the constructors -/
section
variable {post : SX → Prop} {T : Nat} {f_length f_inputs f_sp f_pc f_zero f_carry f_allowed f_asleep f_halted f_pending f_resets f_taken f_data f_serial f_divider f_sending f_dueSent f_received f_overrun f_sent f_converter f_result f_dueResult f_output f_watch f_dueWatch f_address f_storing f_storeAt f_storeControl f_dueStore f_mask f_edges f_due f_head f_headAt f_headFlags f_stop f_pure : Int32} {a_op a_opA a_opB a_vectors a_analogs a_r a_m a_stack a_count a_since a_control a_compare a_dueEqual a_dueOver a_line a_store a_headR : Nat → Int32}
theorem tc_pw23 : ∀ (d i : Nat), i + d = 32 →
    post (f_length, f_inputs, 0, 0, 0, 0, 0, 0, 0, 0, 0, 0, 0, 0, 0, 0, f_sending, 2147483647, 0, 0, 0, 0, 0, 2147483647, 0, 0, 2147483647, 0, f_storing, f_storeAt, 0, 2147483647, 0, 0, tc_du 2147483647 2147483647 2147483647 2147483647 (tc_z2 a_dueEqual 2147483647) (tc_z2 a_dueOver 2147483647), f_head, f_headAt, f_headFlags, f_stop, f_pure, a_op, a_opA, a_opB, a_vectors, a_analogs, a_r, tc_clr 32 a_m, a_stack, tc_z2 a_count 0, tc_z2 a_since 0, tc_z2 a_control 0, tc_z2 a_compare 0, tc_z2 a_dueEqual 2147483647, tc_z2 a_dueOver 2147483647, a_line, a_store, a_headR) →
    wX_power_23 post f_length f_inputs f_sp f_pc f_zero f_carry f_allowed f_asleep f_halted f_pending f_resets f_taken (nI T) f_data f_serial f_divider f_sending f_dueSent f_received f_overrun f_sent f_converter f_result f_dueResult f_output f_watch f_dueWatch f_address f_storing f_storeAt f_storeControl f_dueStore f_mask f_edges f_due f_head f_headAt f_headFlags f_stop f_pure (d + 1) (nI i) a_op a_opA a_opB a_vectors a_analogs a_r (tc_clr i a_m) a_stack a_count a_since a_control a_compare a_dueEqual a_dueOver a_line a_store a_headR := by
  intro d
  induction d with
  | zero =>
    intro i hi h
    have h8 : i = 32 := by omega
    subst h8
    refine br_t (by decide) ?_
    exact tc_Xreset (T := 0) h
  | succ d ih =>
    intro i hi h
    have e := nI_clamp (n := i) (by omega)
    refine br_f (nI_ge (b := 32) (by omega) (by decide)) ?_
    rw [e, nI_1]
    exact ⟨vp_in_nI (by omega) (by decide), nm_e (nm_e (ih (i + 1) (by omega) h))⟩
theorem tc_pw2 : ∀ (d i : Nat), i + d = 8 → (∃ n, wX_power_23 post f_length f_inputs f_sp f_pc f_zero f_carry f_allowed f_asleep f_halted f_pending f_resets f_taken (nI T) f_data f_serial f_divider f_sending f_dueSent f_received f_overrun f_sent f_converter f_result f_dueResult f_output f_watch f_dueWatch f_address f_storing f_storeAt f_storeControl f_dueStore f_mask f_edges f_due f_head f_headAt f_headFlags f_stop f_pure n 0 a_op a_opA a_opB a_vectors a_analogs (tc_clr 8 a_r) a_m a_stack a_count a_since a_control a_compare a_dueEqual a_dueOver a_line a_store a_headR) →
    wX_power_2 post f_length f_inputs f_sp f_pc f_zero f_carry f_allowed f_asleep f_halted f_pending f_resets f_taken (nI T) f_data f_serial f_divider f_sending f_dueSent f_received f_overrun f_sent f_converter f_result f_dueResult f_output f_watch f_dueWatch f_address f_storing f_storeAt f_storeControl f_dueStore f_mask f_edges f_due f_head f_headAt f_headFlags f_stop f_pure (d + 1) (nI i) a_op a_opA a_opB a_vectors a_analogs (tc_clr i a_r) a_m a_stack a_count a_since a_control a_compare a_dueEqual a_dueOver a_line a_store a_headR := by
  intro d
  induction d with
  | zero =>
    intro i hi h
    have h8 : i = 8 := by omega
    subst h8
    exact br_t (by decide) h
  | succ d ih =>
    intro i hi h
    have e := nI_clamp (n := i) (by omega)
    refine br_f (nI_ge (b := 8) (by omega) (by decide)) ?_
    rw [e, nI_1]
    exact ⟨vp_in_nI (by omega) (by decide), nm_e (nm_e (ih (i + 1) (by omega) h))⟩
theorem tc_Xpow (h : post (f_length, f_inputs, 0, 0, 0, 0, 0, 0, 0, 0, 0, 0, 0, 0, 0, 0, f_sending, 2147483647, 0, 0, 0, 0, 0, 2147483647, 0, 0, 2147483647, 0, f_storing, f_storeAt, 0, 2147483647, 0, 0, tc_du 2147483647 2147483647 2147483647 2147483647 (tc_z2 a_dueEqual 2147483647) (tc_z2 a_dueOver 2147483647), f_head, f_headAt, f_headFlags, f_stop, f_pure, a_op, a_opA, a_opB, a_vectors, a_analogs, tc_clr 8 a_r, tc_clr 32 a_m, a_stack, tc_z2 a_count 0, tc_z2 a_since 0, tc_z2 a_control 0, tc_z2 a_compare 0, tc_z2 a_dueEqual 2147483647, tc_z2 a_dueOver 2147483647, a_line, a_store, a_headR)) : wpX_power post (f_length, f_inputs, f_sp, f_pc, f_zero, f_carry, f_allowed, f_asleep, f_halted, f_pending, f_resets, f_taken, nI T, f_data, f_serial, f_divider, f_sending, f_dueSent, f_received, f_overrun, f_sent, f_converter, f_result, f_dueResult, f_output, f_watch, f_dueWatch, f_address, f_storing, f_storeAt, f_storeControl, f_dueStore, f_mask, f_edges, f_due, f_head, f_headAt, f_headFlags, f_stop, f_pure, a_op, a_opA, a_opB, a_vectors, a_analogs, a_r, a_m, a_stack, a_count, a_since, a_control, a_compare, a_dueEqual, a_dueOver, a_line, a_store, a_headR) := by
  unfold wpX_power
  exact ⟨9, tc_pw2 8 0 rfl ⟨33, tc_pw23 (a_r := tc_clr 8 a_r) 32 0 rfl h⟩⟩
end
section
variable {post : SY → Prop} {T : Nat} {f_length f_inputs f_sp f_pc f_zero f_carry f_allowed f_asleep f_halted f_pending f_resets f_taken f_data f_serial f_divider f_sending f_dueSent f_received f_overrun f_sent f_converter f_result f_dueResult f_output f_watch f_dueWatch f_address f_storing f_storeAt f_storeControl f_dueStore f_mask f_edges f_due f_head f_headAt f_headFlags f_stop f_pure : Int32} {a_op a_opA a_opB a_vectors a_analogs a_r a_m a_stack a_count a_since a_control a_compare a_dueEqual a_dueOver a_line a_store a_headR : Nat → Int32} {g_passed g_converter g_since : Int32} {l_s l_c l_b : Nat} {b_opA b_opB b_store b_pending b_count : Nat → Int32}
theorem tc_yp27 : ∀ (d i : Nat), i + d = 32 → post (f_length, f_inputs, 0, 0, f_allowed, f_asleep, 0, f_sp, f_pc, 0, g_passed, 0, 0, 0, 0, f_data, f_serial, f_divider, g_converter, f_result, 0, f_watch, f_address, f_storeControl, f_mask, g_since, f_received, f_overrun, nI l_s, f_sending, nI l_c, nI l_b, f_storing, f_storeAt, a_op, b_opA, b_opB, a_vectors, a_analogs, b_store, a_r, tc_clr 32 a_m, a_stack, a_line, b_pending, b_count, a_control, a_compare) →
    wY_power_27 post f_length f_inputs f_zero f_carry f_allowed f_asleep f_halted f_sp f_pc (nI T) g_passed f_taken f_resets f_edges f_sent f_data f_serial f_divider g_converter f_result f_output f_watch f_address f_storeControl f_mask g_since f_received f_overrun (nI l_s) f_sending (nI l_c) (nI l_b) f_storing f_storeAt (d + 1) (nI i) a_op b_opA b_opB a_vectors a_analogs b_store a_r (tc_clr i a_m) a_stack a_line b_pending b_count a_control a_compare := by
  intro d
  induction d with
  | zero =>
    intro i hi h
    have h8 : i = 32 := by omega
    subst h8
    exact br_t (by decide) h
  | succ d ih =>
    intro i hi h
    have e := nI_clamp (n := i) (by omega)
    refine br_f (nI_ge (b := 32) (by omega) (by decide)) ?_
    rw [e, nI_1]
    exact ⟨vp_in_nI (by omega) (by decide), nm_e (nm_e (ih (i + 1) (by omega) h))⟩
theorem tc_yp6 : ∀ (d i : Nat), i + d = 8 → (∃ n, wY_power_27 post f_length f_inputs f_zero f_carry f_allowed f_asleep f_halted f_sp f_pc (nI T) g_passed f_taken f_resets f_edges f_sent f_data f_serial f_divider g_converter f_result f_output f_watch f_address f_storeControl f_mask g_since f_received f_overrun (nI l_s) f_sending (nI l_c) (nI l_b) f_storing f_storeAt n 0 a_op b_opA b_opB a_vectors a_analogs b_store (tc_clr 8 a_r) a_m a_stack a_line b_pending b_count a_control a_compare) →
    wY_power_6 post f_length f_inputs f_zero f_carry f_allowed f_asleep f_halted f_sp f_pc (nI T) g_passed f_taken f_resets f_edges f_sent f_data f_serial f_divider g_converter f_result f_output f_watch f_address f_storeControl f_mask g_since f_received f_overrun (nI l_s) f_sending (nI l_c) (nI l_b) f_storing f_storeAt (d + 1) (nI i) a_op b_opA b_opB a_vectors a_analogs b_store (tc_clr i a_r) a_m a_stack a_line b_pending b_count a_control a_compare := by
  intro d
  induction d with
  | zero =>
    intro i hi h
    have h8 : i = 8 := by omega
    subst h8
    exact br_t (by decide) h
  | succ d ih =>
    intro i hi h
    have e := nI_clamp (n := i) (by omega)
    refine br_f (nI_ge (b := 8) (by omega) (by decide)) ?_
    rw [e, nI_1]
    exact ⟨vp_in_nI (by omega) (by decide), nm_e (nm_e (ih (i + 1) (by omega) h))⟩
theorem tc_Ypow (h : post (f_length, f_inputs, 0, 0, 0, 0, 0, 0, 0, 0, g_passed, 0, 0, 0, 0, 0, 0, 0, 0, 0, 0, 0, 0, 0, 0, 0, 0, 0, nI 0, f_sending, nI 0, nI 0, f_storing, f_storeAt, a_op, b_opA, b_opB, a_vectors, a_analogs, b_store, tc_clr 8 a_r, tc_clr 32 a_m, a_stack, a_line, tc_clr 9 b_pending, tc_z2 b_count 0, tc_z2 a_control 0, tc_z2 a_compare 0)) : wpY_power post (f_length, f_inputs, f_zero, f_carry, f_allowed, f_asleep, f_halted, f_sp, f_pc, nI T, g_passed, f_taken, f_resets, f_edges, f_sent, f_data, f_serial, f_divider, g_converter, f_result, f_output, f_watch, f_address, f_storeControl, f_mask, g_since, f_received, f_overrun, nI l_s, f_sending, nI l_c, nI l_b, f_storing, f_storeAt, a_op, b_opA, b_opB, a_vectors, a_analogs, b_store, a_r, a_m, a_stack, a_line, b_pending, b_count, a_control, a_compare) := by
  unfold wpY_power
  refine tc_Yreset ?_
  exact ⟨9, tc_yp6 (f_allowed := 0) (f_asleep := 0) (f_sp := 0) (f_pc := 0) (f_data := 0) (f_serial := 0) (f_divider := 0) (g_converter := 0) (f_result := 0) (f_watch := 0) (f_address := 0) (f_storeControl := 0) (f_mask := 0) (g_since := 0) (f_received := 0) (f_overrun := 0) (l_s := 0) (l_c := 0) (l_b := 0) (b_pending := tc_clr 9 b_pending) (b_count := tc_z2 b_count 0) (a_control := tc_z2 a_control 0) (a_compare := tc_z2 a_compare 0) 8 0 rfl
    ⟨33, tc_yp27 (a_r := tc_clr 8 a_r) (f_allowed := 0) (f_asleep := 0) (f_sp := 0) (f_pc := 0) (f_data := 0) (f_serial := 0) (f_divider := 0) (g_converter := 0) (f_result := 0) (f_watch := 0) (f_address := 0) (f_storeControl := 0) (f_mask := 0) (g_since := 0) (f_received := 0) (f_overrun := 0) (l_s := 0) (l_c := 0) (l_b := 0) (b_pending := tc_clr 9 b_pending) (b_count := tc_z2 b_count 0) (a_control := tc_z2 a_control 0) (a_compare := tc_z2 a_compare 0) 32 0 rfl h⟩⟩
theorem tc_clr8 {r : Nat → Int32} {n : Nat} (h : ∀ i, n ≤ i → tc_y8 (r i)) : ∀ i, tc_y8 (tc_clr n r i) := by
  intro i
  by_cases c : i < n
  · rw [tc_clr_in c]; exact tc_y8_0
  · rw [tc_clr_out (by omega)]; exact h i (by omega)
end
section
variable {T : Nat} {f_length f_inputs f_sp f_pc f_zero f_carry f_allowed f_asleep f_halted f_pending f_resets f_taken f_data f_serial f_divider f_sending f_dueSent f_received f_overrun f_sent f_converter f_result f_dueResult f_output f_watch f_dueWatch f_address f_storing f_storeAt f_storeControl f_dueStore f_mask f_edges f_due f_head f_headAt f_headFlags f_stop f_pure : Int32} {a_op a_opA a_opB a_vectors a_analogs a_r a_m a_stack a_count a_since a_control a_compare a_dueEqual a_dueOver a_line a_store a_headR : Nat → Int32} {g_passed g_converter g_since : Int32} {l_s l_c l_b : Nat} {b_opA b_opB b_store b_pending b_count : Nat → Int32}
/-- the states behind power are related -/
theorem tc_RRpow (hLen : tc_rg f_length 48) (hOp : ∀ i, tc_rg (a_op i) 26) (hA : ∀ i, a_opA i = b_opA i &&& 7) (hB : ∀ i, a_opB i = b_opB i &&& 255) (hAn : ∀ i, tc_y8 (a_analogs i)) (hM : ∀ i, tc_y8 (a_m i)) (hSt : ∀ i, b_store i = a_store i &&& 255) (hR : ∀ i, tc_y8 (a_r i)) (hR0 : ∀ i, 8 ≤ i → a_r i = 0) (hPu : tc_bo f_pure) (hIn : tc_y8 f_inputs) (hSg : tc_y8 f_sending) (hSo : tc_y8 f_storing) (hSA : tc_rg f_storeAt 15) (hPe : tc_pF 0 b_pending) :
    tc_RR 0 (f_length, f_inputs, 0, 0, 0, 0, 0, 0, 0, 0, 0, 0, 0, 0, 0, 0, f_sending, 2147483647, 0, 0, 0, 0, 0, 2147483647, 0, 0, 2147483647, 0, f_storing, f_storeAt, 0, 2147483647, 0, 0, tc_du 2147483647 2147483647 2147483647 2147483647 (tc_z2 a_dueEqual 2147483647) (tc_z2 a_dueOver 2147483647), f_head, f_headAt, f_headFlags, f_stop, f_pure, a_op, a_opA, a_opB, a_vectors, a_analogs, tc_clr 8 a_r, tc_clr 32 a_m, a_stack, tc_z2 a_count 0, tc_z2 a_since 0, tc_z2 a_control 0, tc_z2 a_compare 0, tc_z2 a_dueEqual 2147483647, tc_z2 a_dueOver 2147483647, a_line, a_store, a_headR)
      (f_length, f_inputs, 0, 0, 0, 0, 0, 0, 0, 0, g_passed, 0, 0, 0, 0, 0, 0, 0, 0, 0, 0, 0, 0, 0, 0, 0, 0, 0, nI 0, f_sending, nI 0, nI 0, f_storing, f_storeAt, a_op, b_opA, b_opB, a_vectors, a_analogs, b_store, tc_clr 8 a_r, tc_clr 32 a_m, a_stack, a_line, b_pending, tc_z2 b_count 0, tc_z2 a_control 0, tc_z2 a_compare 0) := by
  refine tc_RRi (T := 0) hLen hOp hA hB hAn (tc_clr8 (fun i _ => hM i)) hSt (tc_clr8 (fun i _ => hR i)) (?_) tc_bo0 tc_bo0 tc_bo0 tc_bo0 tc_bo0 tc_bo0 tc_bo0 hPu (tc_rg0 _) (by omega) (tc_rg0 _) hIn tc_y8_0 tc_y8_0 tc_y8_0 tc_y8_0 tc_y8_0 tc_y8_0 hSg hSo (tc_rg0 _) hSA rfl rfl rfl tc_y8_0 hPe (tc_tF0 (T := 0) (by omega)) (tc_tF0 (T := 0) (by omega)) (Or.inl ⟨rfl, rfl⟩) (Or.inl ⟨rfl, rfl⟩) (Or.inl ⟨rfl, rfl⟩) (Or.inl ⟨rfl, rfl⟩) rfl
  intro i hi
  rw [tc_clr_out hi]; exact hR0 i hi
end
theorem i_vc_power {k : Nat} {u : SX} {v : SY} (I : i_Rel k u v) (hk : k + 4 ≤ 2048) : wpX_power (fun u' => wpY_power (fun v' => i_Rel (k + 4) u' v') v) u := by
  obtain ⟨T, T9, R⟩ := I
  refine tc_RRe (P := fun u v => wpX_power (fun u' => wpY_power (fun v' => i_Rel (k + 4) u' v') v) u) ?_ R
  clear R
  intro f_length f_inputs f_sp f_pc f_zero f_carry f_allowed f_asleep f_halted f_pending f_resets f_taken f_data f_serial f_divider f_sending f_dueSent f_received f_overrun f_sent f_converter f_result f_dueResult f_output f_watch f_dueWatch f_address f_storing f_storeAt f_storeControl f_dueStore f_mask f_edges f_due f_head f_headAt f_headFlags f_stop f_pure a_op a_opA a_opB a_vectors a_analogs a_r a_m a_stack a_count a_since a_control a_compare a_dueEqual a_dueOver a_line a_store a_headR g_passed g_converter g_since l_s l_c l_b b_opA b_opB b_store b_pending b_count hLen hOp hA hB hAn hM hSt hR hR0 hZ hC hAl hAs hHa hRe hOv hPu hSp hT hSe hIn hDa hDi hRs hOu hWa hMa hSg hSo hAd hSA hSr hSC hCv hCw hPe hT0 hT1 hUs hUc hUb hW hD
  refine tc_Xpow ?_
  refine tc_Ypow ?_
  exact ⟨0, by omega, tc_RRpow hLen hOp hA hB hAn hM hSt hR hR0 hPu hIn hSg hSo hSA (tc_pF0 _)⟩
theorem tc_clr0 (n : Nat) : tc_clr n (fun _ => 0) = fun _ => 0 := by
  funext i
  by_cases c : i < n
  · exact tc_clr_in c
  · exact tc_clr_out (by omega)
theorem tc_z20 : tc_z2 (fun _ => 0) 0 = fun _ => 0 := by
  funext i
  unfold tc_z2 upd
  split
  · rfl
  · split <;> rfl
theorem i_vc0 : wpX_init (fun u => wpY_init (fun v => i_Rel 0 u v)) := by
  unfold wpX_init
  refine tc_Xpow (T := 0) ?_
  unfold wpY_init
  refine ⟨0, by omega, ?_⟩
  have q := tc_RRpow (f_length := 0) (f_inputs := 0) (f_sending := 0) (f_storing := 0) (f_storeAt := 0) (f_head := 0) (f_headAt := 0) (f_headFlags := 0) (f_stop := 0) (f_pure := 0) (a_op := fun _ => 0) (a_opA := fun _ => 0) (a_opB := fun _ => 0) (a_vectors := fun _ => 0) (a_analogs := fun _ => 0) (a_r := fun _ => 0) (a_m := fun _ => 0) (a_stack := fun _ => 0) (a_count := fun _ => 0) (a_since := fun _ => 0) (a_control := fun _ => 0) (a_compare := fun _ => 0) (a_dueEqual := fun _ => 0) (a_dueOver := fun _ => 0) (a_line := fun _ => 0) (a_store := fun _ => 0) (a_headR := fun _ => 0) (g_passed := 0) (b_opA := fun _ => 0) (b_opB := fun _ => 0) (b_store := fun _ => 0) (b_pending := fun _ => 0) (b_count := fun _ => 0)
    (tc_rg0 _) (fun _ => tc_rg0 _) (fun _ => rfl) (fun _ => rfl) (fun _ => tc_y8_0) (fun _ => tc_y8_0) (fun _ => rfl) (fun _ => tc_y8_0) (fun _ _ => rfl) tc_bo0 tc_y8_0 tc_y8_0 tc_y8_0 (tc_rg0 _) (fun k _ => by rw [b_0]; rfl)
  rw [tc_clr0, tc_clr0, tc_z20] at q ⊢
  exact q
end
section
/-! the run, as it is owed -/
theorem i_vc_run {k : Nat} {u : SX} {v : SY} (I : i_Rel k u v) (hk : k + 4 ≤ 2048) (v1 : Int32) : wpX_run (fun r u' => wpY_run (fun r' v' => r' = r ∧ i_Rel (k + 4) u' v') v v1) u v1 := by
  obtain ⟨T, T9, R⟩ := I
  refine tc_RRe (P := fun u v => wpX_run (fun r u' => wpY_run (fun r' v' => r' = r ∧ i_Rel (k + 4) u' v') v v1) u v1) ?_ R
  clear R
  intro f_length f_inputs f_sp f_pc f_zero f_carry f_allowed f_asleep f_halted f_pending f_resets f_taken f_data f_serial f_divider f_sending f_dueSent f_received f_overrun f_sent f_converter f_result f_dueResult f_output f_watch f_dueWatch f_address f_storing f_storeAt f_storeControl f_dueStore f_mask f_edges f_due f_head f_headAt f_headFlags f_stop f_pure a_op a_opA a_opB a_vectors a_analogs a_r a_m a_stack a_count a_since a_control a_compare a_dueEqual a_dueOver a_line a_store a_headR g_passed g_converter g_since l_s l_c l_b b_opA b_opB b_store b_pending b_count hLen hOp hA hB hAn hM hSt hR hR0 hZ hC hAl hAs hHa hRe hOv hPu hSp hT hSe hIn hDa hDi hRs hOu hWa hMa hSg hSo hAd hSA hSr hSC hCv hCw hPe hT0 hT1 hUs hUc hUb hW hD
  have R : i_Rel (k + 4) (f_length, f_inputs, f_sp, f_pc, f_zero, f_carry, f_allowed, f_asleep, f_halted, f_pending, f_resets, f_taken, nI T, f_data, f_serial, f_divider, f_sending, f_dueSent, f_received, f_overrun, f_sent, f_converter, f_result, f_dueResult, f_output, f_watch, f_dueWatch, f_address, f_storing, f_storeAt, f_storeControl, f_dueStore, f_mask, f_edges, f_due, f_head, f_headAt, f_headFlags, f_stop, f_pure, a_op, a_opA, a_opB, a_vectors, a_analogs, a_r, a_m, a_stack, a_count, a_since, a_control, a_compare, a_dueEqual, a_dueOver, a_line, a_store, a_headR) (f_length, f_inputs, f_zero, f_carry, f_allowed, f_asleep, f_halted, f_sp, f_pc, nI T, g_passed, f_taken, f_resets, f_edges, f_sent, f_data, f_serial, f_divider, g_converter, f_result, f_output, f_watch, f_address, f_storeControl, f_mask, g_since, f_received, f_overrun, nI l_s, f_sending, nI l_c, nI l_b, f_storing, f_storeAt, a_op, b_opA, b_opB, a_vectors, a_analogs, b_store, a_r, a_m, a_stack, a_line, b_pending, b_count, a_control, a_compare) := ⟨T, T9, tc_RRi hLen hOp hA hB hAn hM hSt hR hR0 hZ hC hAl hAs hHa hRe hOv hPu hSp hT hSe hIn hDa hDi hRs hOu hWa hMa hSg hSo hAd hSA hSr hSC hCv hCw hPe hT0 hT1 hUs hUc hUb hW hD⟩
  by_cases c1 : v1 < 1
  · exact br_t c1 (br_t c1 ⟨rfl, R⟩)
  · by_cases c2 : 3000 < v1
    · exact br_f c1 (br_t c2 (br_f c1 (br_t c2 ⟨rfl, R⟩)))
    · by_cases c3 : T ≤ 1000000000
      · have d3 : nI T ≤ 1000000000 := nI_le (b := 1000000000) c3 (by decide)
        have c0 : ¬ v1 < 0 := fun z => c1 (Int32.lt_trans z (by decide))
        obtain ⟨n, n3, en⟩ := nI_of2 (M := 3000) (n := 3000) (by decide) c0 (Int32.not_lt.mp c2)
        subst en
        have n0 : 0 < n := by
          refine Classical.byContradiction fun z => c1 ?_
          rw [show n = 0 by omega]; decide
        have hI : tc_RI T n T (f_length, f_inputs, f_sp, f_pc, f_zero, f_carry, f_allowed, f_asleep, f_halted, f_pending, f_resets, f_taken, nI T, f_data, f_serial, f_divider, f_sending, f_dueSent, f_received, f_overrun, f_sent, f_converter, f_result, f_dueResult, f_output, f_watch, f_dueWatch, f_address, f_storing, f_storeAt, f_storeControl, f_dueStore, f_mask, f_edges, f_due, f_head, f_headAt, f_headFlags, nI (T + n), 0, a_op, a_opA, a_opB, a_vectors, a_analogs, a_r, a_m, a_stack, a_count, a_since, a_control, a_compare, a_dueEqual, a_dueOver, a_line, a_store, a_headR) (f_length, f_inputs, f_zero, f_carry, f_allowed, f_asleep, f_halted, f_sp, f_pc, nI T, 0, f_taken, f_resets, f_edges, f_sent, f_data, f_serial, f_divider, g_converter, f_result, f_output, f_watch, f_address, f_storeControl, f_mask, g_since, f_received, f_overrun, nI l_s, f_sending, nI l_c, nI l_b, f_storing, f_storeAt, a_op, b_opA, b_opB, a_vectors, a_analogs, b_store, a_r, a_m, a_stack, a_line, b_pending, b_count, a_control, a_compare) := by
          refine ⟨tc_RRi hLen hOp hA hB hAn hM hSt hR hR0 hZ hC hAl hAs hHa hRe hOv tc_bo0 hSp hT hSe hIn hDa hDi hRs hOu hWa hMa hSg hSo hAd hSA hSr hSC hCv hCw hPe hT0 hT1 hUs hUc hUb hW hD, rfl, ?_, Nat.le_refl _, by omega, fun z => absurd z (tc_01 rfl)⟩
          rw [Nat.sub_self]; rfl
        obtain ⟨T', u', v', R', t', hX, hY⟩ := tc_run (b := T) (n := n) (by omega) n0 (T + n + 3 - T) T _ _ (Nat.le_refl _) hI
        refine br_f c1 (br_f c2 (br_t d3 (nm_r (e' := nI (T + n)) (nI_add T n) ?_)))
        refine hX (fun r u' => wpY_run (fun r' v' => r' = r ∧ i_Rel (k + 4) u' v') (f_length, f_inputs, f_zero, f_carry, f_allowed, f_asleep, f_halted, f_sp, f_pc, nI T, g_passed, f_taken, f_resets, f_edges, f_sent, f_data, f_serial, f_divider, g_converter, f_result, f_output, f_watch, f_address, f_storeControl, f_mask, g_since, f_received, f_overrun, nI l_s, f_sending, nI l_c, nI l_b, f_storing, f_storeAt, a_op, b_opA, b_opB, a_vectors, a_analogs, b_store, a_r, a_m, a_stack, a_line, b_pending, b_count, a_control, a_compare) (nI n)) ?_
        refine br_f c1 (br_f c2 (br_t d3 ?_))
        exact hY (fun r' v' => r' = nI (T' - T) ∧ i_Rel (k + 4) u' v') ⟨rfl, T', by omega, R'⟩
      · have d3 : ¬ nI T ≤ 1000000000 := nI_ge (b := T) (a := 1000000000) (by omega) (by omega)
        exact br_f c1 (br_f c2 (br_f d3 (br_f c1 (br_f c2 (br_f d3 ⟨rfl, R⟩)))))
end

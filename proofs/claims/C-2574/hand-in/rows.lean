section
/-! pure rows to paste: stores, nI and lN arithmetic, masks, shifts, narrowing, branches by naturals (pk_le, pk_lt, pk_eq), loops (lp1 .. lp16: the measure of the state; rp1 ..: recursion), negatives. Take what you need -/
theorem pk_us {f : Nat → Int32} {k : Nat} {x : Int32} : upd f k x k = x := if_pos rfl
theorem pk_un {f : Nat → Int32} {k j : Nat} {x : Int32} (h : j ≠ k) : upd f k x j = f j := if_neg h
theorem pk_uLs {f : Nat → Int64} {k : Nat} {x : Int64} : vp_updL f k x k = x := if_pos rfl
theorem pk_uLn {f : Nat → Int64} {k j : Nat} {x : Int64} (h : j ≠ k) : vp_updL f k x j = f j := if_neg h
theorem pk_sub {a b : Nat} (h : b ≤ a) : nI a - nI b = nI (a - b) := by
  obtain ⟨c, rfl⟩ : ∃ c, a = c + b := ⟨a - b, by omega⟩
  rw [← nI_add, Int32.add_sub_cancel, Nat.add_sub_cancel]
theorem pk_m1 (n : Nat) : nI (n + 1) + (-1) = nI n := by
  rw [← nI_1, Int32.add_assoc, show (1 : Int32) + (-1) = 0 from rfl, Int32.add_zero]
theorem pk_mul (a b : Nat) : nI a * nI b = nI (a * b) := (Int32.ofNat_mul a b).symm
theorem pk_div {a d : Nat} (ha : a < 2 ^ 31) (h0 : 0 < d) (hd : d < 2 ^ 31) : nI a / nI d = nI (a / d) := by
  apply Int32.toInt_inj.mp
  rw [lg_idiv_nonneg (by rw [nI_toInt ha]; omega) (by rw [nI_toInt hd]; omega), nI_toInt ha, nI_toInt hd, nI_toInt (Nat.lt_of_le_of_lt (Nat.div_le_self a d) ha)]
  first | rfl | exact (Int.natCast_ediv _ _).symm
theorem pk_rem {a d : Nat} (ha : a < 2 ^ 31) (h0 : 0 < d) (hd : d < 2 ^ 31) : nI a - nI a / nI d * nI d = nI (a % d) := by
  rw [pk_div ha h0 hd, pk_mul, pk_sub (Nat.div_mul_le_self a d)]
  exact congrArg nI (by have := Nat.div_add_mod' a d; omega)
theorem pk_sub_toInt {a b : Nat} (ha : a < 2 ^ 30) (hb : b < 2 ^ 30) : (nI a - nI b).toInt = (a : Int) - b := by
  rw [Int32.toInt_sub, nI_toInt (by omega), nI_toInt (by omega)]
  exact Int.bmod_eq_of_le (by omega) (by omega)
theorem pk_sneg {a b : Nat} (hb : b < 2 ^ 30) (h : a < b) : nI a - nI b < 0 := by
  rw [Int32.lt_iff_toInt_lt, pk_sub_toInt (by omega) hb, show (0 : Int32).toInt = 0 from by decide]
  omega
theorem pk_ix (x : Int32) {n : Nat} (hn : n < 2 ^ 31) : x < 0 ∨ nI n ≤ x ∨ ∃ j : Nat, j < n ∧ x = nI j := by
  by_cases h : x < 0
  · exact Or.inl h
  · obtain ⟨j, hj, rfl⟩ := nI_of h
    by_cases h2 : j < n
    · exact Or.inr (Or.inr ⟨j, h2, rfl⟩)
    · exact Or.inr (Or.inl (nI_le (by omega) hj))
theorem pk_le {x y : Int32} {A B : Prop} (a b : Nat) (f : a ≤ b → A) (g : b < a → B) (hx : x = nI a := by rfl) (hy : y = nI b := by rfl) (ha : a < 2 ^ 31 := by omega) (hb : b < 2 ^ 31 := by omega) : (x ≤ y → A) ∧ (¬ x ≤ y → B) := by
  subst hx hy
  rw [nI_leI ha hb]
  exact ⟨f, fun z => g (by omega)⟩
theorem pk_lt {x y : Int32} {A B : Prop} (a b : Nat) (f : a < b → A) (g : b ≤ a → B) (hx : x = nI a := by rfl) (hy : y = nI b := by rfl) (ha : a < 2 ^ 31 := by omega) (hb : b < 2 ^ 31 := by omega) : (x < y → A) ∧ (¬ x < y → B) := by
  subst hx hy
  rw [nI_ltI ha hb]
  exact ⟨f, fun z => g (by omega)⟩
theorem pk_eq {x y : Int32} {A B : Prop} (a b : Nat) (f : a = b → A) (g : a ≠ b → B) (hx : x = nI a := by rfl) (hy : y = nI b := by rfl) (ha : a < 2 ^ 31 := by omega) (hb : b < 2 ^ 31 := by omega) : (x = y → A) ∧ (¬ x = y → B) := by
  subst hx hy
  rw [nI_eq ha hb]
  exact ⟨f, g⟩
theorem pk_in {x : Int32} (n N : Nat) (h : n < N) (hx : x = nI n := by rfl) (hN : N < 2 ^ 31 := by omega) : vp_in x N := by
  subst hx
  exact vp_in_nI h hN
theorem pk_cl {x : Int32} (n : Nat) (hx : x = nI n := by rfl) (h : n < 2 ^ 31 := by omega) : x.toNatClampNeg = n := by
  subst hx
  exact nI_clamp h
theorem pk_tn {n : Nat} (h : n < 2 ^ 32) : (nI n).toBitVec.toNat = n := Nat.mod_eq_of_lt h
theorem pk_and (x : Int32) {m : Int32} (k : Nat) (hm : m.toBitVec.toNat = 2 ^ k - 1) : x &&& m = nI (x.toBitVec.toNat % 2 ^ k) := by
  apply Int32.toBitVec_inj.mp
  apply BitVec.eq_of_toNat_eq
  rw [Int32.toBitVec_and, BitVec.toNat_and, hm, Nat.and_two_pow_sub_one_eq_mod]
  show _ = (BitVec.ofNat 32 _).toNat
  rw [BitVec.toNat_ofNat]
  exact (Nat.mod_eq_of_lt (Nat.lt_of_le_of_lt (Nat.mod_le _ _) x.toBitVec.isLt)).symm
theorem pk_andN {n : Nat} (h : n < 2 ^ 32) {m : Int32} (k : Nat) (hm : m.toBitVec.toNat = 2 ^ k - 1) : nI n &&& m = nI (n % 2 ^ k) := by
  rw [pk_and _ k hm, pk_tn h]
theorem pk_andE (x : Int32) {m : Int32} (k : Nat) (hm : m.toBitVec.toNat = 2 ^ k - 1) : ∃ j : Nat, j < 2 ^ k ∧ x &&& m = nI j := ⟨_, Nat.mod_lt _ (Nat.two_pow_pos k), pk_and x k hm⟩
theorem pk_andIn (x : Int32) {m : Int32} (k : Nat) (hm : m.toBitVec.toNat = 2 ^ k - 1) (hk : k ≤ 30) : vp_in (x &&& m) (2 ^ k) := by
  obtain ⟨j, hj, e⟩ := pk_andE x k hm
  rw [e]
  exact vp_in_nI hj (Nat.lt_of_le_of_lt (Nat.pow_le_pow_right (by decide) hk) (by decide))
theorem pk_shl (a s : Int32) (k : Nat) (hs : (s.toBitVec.smod 32).toNat = k) : (a <<< s).toBitVec.toNat = a.toBitVec.toNat * 2 ^ k % 2 ^ 32 := by
  show (a.toBitVec <<< (s.toBitVec.smod 32).toNat).toNat = _
  rw [hs, BitVec.toNat_shiftLeft, Nat.shiftLeft_eq]
theorem pk_shlN {n : Nat} (s : Int32) (k : Nat) (hs : (s.toBitVec.smod 32).toNat = k) (h : n * 2 ^ k < 2 ^ 32) : nI n <<< s = nI (n * 2 ^ k) := by
  apply Int32.toBitVec_inj.mp
  apply BitVec.eq_of_toNat_eq
  have hn : n < 2 ^ 32 := Nat.lt_of_le_of_lt (Nat.le_mul_of_pos_right n (Nat.two_pow_pos k)) h
  rw [pk_shl _ _ k hs, pk_tn hn, pk_tn h, Nat.mod_eq_of_lt h]
theorem pk_shr (a s : Int32) (k : Nat) (hs : (s.toBitVec.smod 32).toNat = k) : (a >>> s).toInt = a.toInt >>> k := by
  show (a.toBitVec.sshiftRight (s.toBitVec.smod 32).toNat).toInt = _
  rw [hs, BitVec.toInt_sshiftRight]
  rfl
theorem pk_shrN {n : Nat} (h : n < 2 ^ 31) (s : Int32) (k : Nat) (hs : (s.toBitVec.smod 32).toNat = k) : nI n >>> s = nI (n / 2 ^ k) := by
  apply Int32.toInt_inj.mp
  have h2 : n / 2 ^ k ≤ n := Nat.div_le_self _ _
  rw [pk_shr _ _ k hs, nI_toInt h, nI_toInt (by omega), Int.shiftRight_eq_div_pow]
  rfl
theorem pk_ushr (x s : Int32) (k : Nat) (hs : ((s.toUInt32 &&& Int32.toUInt32 31).toBitVec % 32).toNat = k) : (x.toUInt32 >>> (s.toUInt32 &&& Int32.toUInt32 31)).toInt32.toBitVec.toNat = x.toBitVec.toNat / 2 ^ k := by
  have e : (x.toUInt32 >>> (s.toUInt32 &&& Int32.toUInt32 31)).toInt32.toBitVec = x.toBitVec >>> k := by
    rw [← hs]
    exact UInt32.toBitVec_shiftRight _ _
  rw [e, BitVec.toNat_ushiftRight, Nat.shiftRight_eq_div_pow]
theorem pk_ushrN {n : Nat} (hn : n < 2 ^ 32) (s : Int32) (k : Nat) (hs : ((s.toUInt32 &&& Int32.toUInt32 31).toBitVec % 32).toNat = k) : ((nI n).toUInt32 >>> (s.toUInt32 &&& Int32.toUInt32 31)).toInt32 = nI (n / 2 ^ k) := by
  apply Int32.toBitVec_inj.mp
  apply BitVec.eq_of_toNat_eq
  rw [pk_ushr _ s k hs, pk_tn hn, pk_tn (Nat.lt_of_le_of_lt (Nat.div_le_self _ _) hn)]
theorem pk_nb (z : Int32) : narrow .byte (.int z.toInt8.toInt32) = .int z.toInt8.toInt32 := congrArg Value.int (by simp)
theorem pk_ns (z : Int32) : narrow .short (.int z.toInt16.toInt32) = .int z.toInt16.toInt32 := congrArg Value.int (by simp)
theorem pk_fb (r : Int32) : fits .byte (.int r.toInt8.toInt32) = true := by
  have ⟨a, b⟩ := lg_i2b_range r
  have h1 : (-128 : Int32).toInt = -128 := by decide
  have h2 : (127 : Int32).toInt = 127 := by decide
  simp only [fits, Bool.and_eq_true, decide_eq_true_eq, Int32.le_iff_toInt_le, h1, h2]
  omega
theorem pk_fs (r : Int32) : fits .short (.int r.toInt16.toInt32) = true := by
  have ⟨a, b⟩ := lg_i2s_range r
  have h1 : (-32768 : Int32).toInt = -32768 := by decide
  have h2 : (32767 : Int32).toInt = 32767 := by decide
  simp only [fits, Bool.and_eq_true, decide_eq_true_eq, Int32.le_iff_toInt_le, h1, h2]
  omega
theorem pk_charN {q : Nat} (hq : q < 65536) : narrow .char (.int (nI q)) = .int (nI q) ∧ fits .char (.int (nI q)) = true := by
  constructor
  · have e : (nI q).toUInt32.toUInt16.toUInt32.toInt32 = nI q := by
      apply Int32.toBitVec_inj.mp
      apply BitVec.eq_of_toNat_eq
      show (nI q).toUInt32.toUInt16.toUInt32.toNat = q % 2 ^ 32
      rw [UInt16.toNat_toUInt32, UInt32.toNat_toUInt16, show (nI q).toUInt32.toNat = q % 2 ^ 32 from rfl]
      omega
    exact congrArg Value.int e
  · have a : (0 : Int32) ≤ nI q := nI_pos' (by omega)
    have b : nI q ≤ 65535 := nI_le (b := 65535) (by omega) (by decide)
    show (decide ((0 : Int32) ≤ nI q) && decide (nI q ≤ 65535)) = true
    rw [decide_eq_true a, decide_eq_true b]
    rfl
theorem pk_char (x : Int32) : (x.toUInt32 % 65536).toInt32 = nI (x.toBitVec.toNat % 65536) := by
  apply Int32.toBitVec_inj.mp
  apply BitVec.eq_of_toNat_eq
  rw [pk_tn (by omega)]
  show (x.toUInt32 % 65536).toNat = _
  rw [UInt32.toNat_mod]
  rfl
theorem pk_nc (x : Int32) : narrow .char (.int (x.toUInt32 % 65536).toInt32) = .int (x.toUInt32 % 65536).toInt32 := by
  rw [pk_char]
  exact (pk_charN (Nat.mod_lt _ (by decide))).1
theorem pk_fc (x : Int32) : fits .char (.int (x.toUInt32 % 65536).toInt32) = true := by
  rw [pk_char]
  exact (pk_charN (Nat.mod_lt _ (by decide))).2
theorem pk_vb (z : Int32) : vp_nar .byte z.toInt8.toInt32 = z.toInt8.toInt32 := by rw [vp_nar_byte]; simp
theorem pk_vs (z : Int32) : vp_nar .short z.toInt16.toInt32 = z.toInt16.toInt32 := by rw [vp_nar_short]; simp
theorem pk_vc (z : Int32) : vp_nar .char (z.toUInt32 % 65536).toInt32 = (z.toUInt32 % 65536).toInt32 := Value.int.inj (pk_nc z)
theorem pk_lT {n : Nat} (h : n < 2 ^ 63) : (lN n).toInt = (n : Int) := lg_ofNat_toInt h
theorem pk_lLT {a b : Nat} (ha : a < 2 ^ 63) (hb : b < 2 ^ 63) : lN a < lN b ↔ a < b := by
  rw [Int64.lt_iff_toInt_lt, pk_lT ha, pk_lT hb]; omega
theorem pk_lLE {a b : Nat} (ha : a < 2 ^ 63) (hb : b < 2 ^ 63) : lN a ≤ lN b ↔ a ≤ b := by
  rw [Int64.le_iff_toInt_le, pk_lT ha, pk_lT hb]; omega
theorem pk_lEQ {a b : Nat} (ha : a < 2 ^ 63) (hb : b < 2 ^ 63) : lN a = lN b ↔ a = b := by
  rw [← Int64.toInt_inj, pk_lT ha, pk_lT hb]; omega
theorem pk_lOf {x : Int64} (h : ¬ x < 0) : ∃ k : Nat, k < 2 ^ 63 ∧ x = lN k := by
  rw [Int64.lt_iff_toInt_lt] at h
  have h0 : (0 : Int64).toInt = 0 := by decide
  have hx := Int64.toInt_lt x
  refine ⟨x.toInt.toNat, by omega, Int64.toInt_inj.mp ?_⟩
  rw [pk_lT (by omega)]
  omega
theorem pk_lDiv {a b : Nat} (ha : a < 2 ^ 63) (h0 : 0 < b) (hb : b < 2 ^ 63) : lN a / lN b = lN (a / b) := by
  apply Int64.toInt_inj.mp
  rw [lg_ldiv_nonneg (by rw [pk_lT ha]; omega) (by rw [pk_lT hb]; omega), pk_lT ha, pk_lT hb, pk_lT (Nat.lt_of_le_of_lt (Nat.div_le_self a b) ha)]
  rfl
theorem pk_lRem {a b : Nat} (ha : a < 2 ^ 63) (h0 : 0 < b) (hb : b < 2 ^ 63) : lN a - lN a / lN b * lN b = lN (a % b) := by
  rw [pk_lDiv ha h0 hb, lN_mul, lN_sub (Nat.div_mul_le_self a b)]
  exact congrArg lN (by have := Nat.div_add_mod' a b; omega)
theorem pk_loop {σ : Type} (W : Nat → Nat → σ → Prop) (I : Nat → σ → Prop) (e i0 : Nat) (s : σ) (hi : i0 ≤ e) (h0 : I i0 s) (hx : ∀ n s, I e s → W (n + 1) e s)
    (hs : ∀ n i s, i < e → I i s → (∀ s', I (i + 1) s' → W n (i + 1) s') → W (n + 1) i s) : ∃ n, W n i0 s :=
  ⟨e + 1, loop_i W I e hx hs (e + 1) i0 s hi (by omega) h0⟩
theorem pk_loopD {σ : Type} (W : Nat → Nat → σ → Prop) (I : Nat → σ → Prop) (hx : ∀ n s, I 0 s → W (n + 1) 0 s)
    (hs : ∀ n i s, I (i + 1) s → (∀ s', I i s' → W n i s') → W (n + 1) (i + 1) s) : ∀ (e : Nat) (s : σ), I e s → W (e + 1) e s := by
  intro e
  induction e with
  | zero => exact fun s h => hx 0 s h
  | succ e ih => exact fun s h => hs (e + 1) e s h (fun s' h' => ih s' h')
theorem lp1 {A1 : Type} (W : Nat → A1 → Prop) (I : A1 → Prop) (μ : A1 → Nat) (hs : ∀ (n : Nat) (a1 : A1), I a1 → (∀ (b1 : A1), I b1 → μ b1 < μ a1 → W n b1) → W (n + 1) a1) (a1 : A1) (h : I a1) : ∃ n, W n a1 :=
  loop_m (σ := A1) (fun n s => W n s) (fun s => I s) (fun s => μ s) (fun n s hI hk => hs n s hI (fun b1 h9 hm => hk b1 h9 hm)) a1 h
theorem lp2 {A1 A2 : Type} (W : Nat → A1 → A2 → Prop) (I : A1 → A2 → Prop) (μ : A1 → A2 → Nat) (hs : ∀ (n : Nat) (a1 : A1) (a2 : A2), I a1 a2 → (∀ (b1 : A1) (b2 : A2), I b1 b2 → μ b1 b2 < μ a1 a2 → W n b1 b2) → W (n + 1) a1 a2) (a1 : A1) (a2 : A2) (h : I a1 a2) : ∃ n, W n a1 a2 :=
  loop_m (σ := A1 × A2) (fun n s => W n s.1 s.2) (fun s => I s.1 s.2) (fun s => μ s.1 s.2) (fun n s hI hk => hs n s.1 s.2 hI (fun b1 b2 h9 hm => hk (b1, b2) h9 hm)) (a1, a2) h
theorem lp3 {A1 A2 A3 : Type} (W : Nat → A1 → A2 → A3 → Prop) (I : A1 → A2 → A3 → Prop) (μ : A1 → A2 → A3 → Nat) (hs : ∀ (n : Nat) (a1 : A1) (a2 : A2) (a3 : A3), I a1 a2 a3 → (∀ (b1 : A1) (b2 : A2) (b3 : A3), I b1 b2 b3 → μ b1 b2 b3 < μ a1 a2 a3 → W n b1 b2 b3) → W (n + 1) a1 a2 a3) (a1 : A1) (a2 : A2) (a3 : A3) (h : I a1 a2 a3) : ∃ n, W n a1 a2 a3 :=
  loop_m (σ := A1 × A2 × A3) (fun n s => W n s.1 s.2.1 s.2.2) (fun s => I s.1 s.2.1 s.2.2) (fun s => μ s.1 s.2.1 s.2.2) (fun n s hI hk => hs n s.1 s.2.1 s.2.2 hI (fun b1 b2 b3 h9 hm => hk (b1, b2, b3) h9 hm)) (a1, a2, a3) h
theorem lp4 {A1 A2 A3 A4 : Type} (W : Nat → A1 → A2 → A3 → A4 → Prop) (I : A1 → A2 → A3 → A4 → Prop) (μ : A1 → A2 → A3 → A4 → Nat) (hs : ∀ (n : Nat) (a1 : A1) (a2 : A2) (a3 : A3) (a4 : A4), I a1 a2 a3 a4 → (∀ (b1 : A1) (b2 : A2) (b3 : A3) (b4 : A4), I b1 b2 b3 b4 → μ b1 b2 b3 b4 < μ a1 a2 a3 a4 → W n b1 b2 b3 b4) → W (n + 1) a1 a2 a3 a4) (a1 : A1) (a2 : A2) (a3 : A3) (a4 : A4) (h : I a1 a2 a3 a4) : ∃ n, W n a1 a2 a3 a4 :=
  loop_m (σ := A1 × A2 × A3 × A4) (fun n s => W n s.1 s.2.1 s.2.2.1 s.2.2.2) (fun s => I s.1 s.2.1 s.2.2.1 s.2.2.2) (fun s => μ s.1 s.2.1 s.2.2.1 s.2.2.2) (fun n s hI hk => hs n s.1 s.2.1 s.2.2.1 s.2.2.2 hI (fun b1 b2 b3 b4 h9 hm => hk (b1, b2, b3, b4) h9 hm)) (a1, a2, a3, a4) h
theorem lp5 {A1 A2 A3 A4 A5 : Type} (W : Nat → A1 → A2 → A3 → A4 → A5 → Prop) (I : A1 → A2 → A3 → A4 → A5 → Prop) (μ : A1 → A2 → A3 → A4 → A5 → Nat) (hs : ∀ (n : Nat) (a1 : A1) (a2 : A2) (a3 : A3) (a4 : A4) (a5 : A5), I a1 a2 a3 a4 a5 → (∀ (b1 : A1) (b2 : A2) (b3 : A3) (b4 : A4) (b5 : A5), I b1 b2 b3 b4 b5 → μ b1 b2 b3 b4 b5 < μ a1 a2 a3 a4 a5 → W n b1 b2 b3 b4 b5) → W (n + 1) a1 a2 a3 a4 a5) (a1 : A1) (a2 : A2) (a3 : A3) (a4 : A4) (a5 : A5) (h : I a1 a2 a3 a4 a5) : ∃ n, W n a1 a2 a3 a4 a5 :=
  loop_m (σ := A1 × A2 × A3 × A4 × A5) (fun n s => W n s.1 s.2.1 s.2.2.1 s.2.2.2.1 s.2.2.2.2) (fun s => I s.1 s.2.1 s.2.2.1 s.2.2.2.1 s.2.2.2.2) (fun s => μ s.1 s.2.1 s.2.2.1 s.2.2.2.1 s.2.2.2.2) (fun n s hI hk => hs n s.1 s.2.1 s.2.2.1 s.2.2.2.1 s.2.2.2.2 hI (fun b1 b2 b3 b4 b5 h9 hm => hk (b1, b2, b3, b4, b5) h9 hm)) (a1, a2, a3, a4, a5) h
theorem lp6 {A1 A2 A3 A4 A5 A6 : Type} (W : Nat → A1 → A2 → A3 → A4 → A5 → A6 → Prop) (I : A1 → A2 → A3 → A4 → A5 → A6 → Prop) (μ : A1 → A2 → A3 → A4 → A5 → A6 → Nat) (hs : ∀ (n : Nat) (a1 : A1) (a2 : A2) (a3 : A3) (a4 : A4) (a5 : A5) (a6 : A6), I a1 a2 a3 a4 a5 a6 → (∀ (b1 : A1) (b2 : A2) (b3 : A3) (b4 : A4) (b5 : A5) (b6 : A6), I b1 b2 b3 b4 b5 b6 → μ b1 b2 b3 b4 b5 b6 < μ a1 a2 a3 a4 a5 a6 → W n b1 b2 b3 b4 b5 b6) → W (n + 1) a1 a2 a3 a4 a5 a6) (a1 : A1) (a2 : A2) (a3 : A3) (a4 : A4) (a5 : A5) (a6 : A6) (h : I a1 a2 a3 a4 a5 a6) : ∃ n, W n a1 a2 a3 a4 a5 a6 :=
  loop_m (σ := A1 × A2 × A3 × A4 × A5 × A6) (fun n s => W n s.1 s.2.1 s.2.2.1 s.2.2.2.1 s.2.2.2.2.1 s.2.2.2.2.2) (fun s => I s.1 s.2.1 s.2.2.1 s.2.2.2.1 s.2.2.2.2.1 s.2.2.2.2.2) (fun s => μ s.1 s.2.1 s.2.2.1 s.2.2.2.1 s.2.2.2.2.1 s.2.2.2.2.2) (fun n s hI hk => hs n s.1 s.2.1 s.2.2.1 s.2.2.2.1 s.2.2.2.2.1 s.2.2.2.2.2 hI (fun b1 b2 b3 b4 b5 b6 h9 hm => hk (b1, b2, b3, b4, b5, b6) h9 hm)) (a1, a2, a3, a4, a5, a6) h
theorem lp7 {A1 A2 A3 A4 A5 A6 A7 : Type} (W : Nat → A1 → A2 → A3 → A4 → A5 → A6 → A7 → Prop) (I : A1 → A2 → A3 → A4 → A5 → A6 → A7 → Prop) (μ : A1 → A2 → A3 → A4 → A5 → A6 → A7 → Nat) (hs : ∀ (n : Nat) (a1 : A1) (a2 : A2) (a3 : A3) (a4 : A4) (a5 : A5) (a6 : A6) (a7 : A7), I a1 a2 a3 a4 a5 a6 a7 → (∀ (b1 : A1) (b2 : A2) (b3 : A3) (b4 : A4) (b5 : A5) (b6 : A6) (b7 : A7), I b1 b2 b3 b4 b5 b6 b7 → μ b1 b2 b3 b4 b5 b6 b7 < μ a1 a2 a3 a4 a5 a6 a7 → W n b1 b2 b3 b4 b5 b6 b7) → W (n + 1) a1 a2 a3 a4 a5 a6 a7) (a1 : A1) (a2 : A2) (a3 : A3) (a4 : A4) (a5 : A5) (a6 : A6) (a7 : A7) (h : I a1 a2 a3 a4 a5 a6 a7) : ∃ n, W n a1 a2 a3 a4 a5 a6 a7 :=
  loop_m (σ := A1 × A2 × A3 × A4 × A5 × A6 × A7) (fun n s => W n s.1 s.2.1 s.2.2.1 s.2.2.2.1 s.2.2.2.2.1 s.2.2.2.2.2.1 s.2.2.2.2.2.2) (fun s => I s.1 s.2.1 s.2.2.1 s.2.2.2.1 s.2.2.2.2.1 s.2.2.2.2.2.1 s.2.2.2.2.2.2) (fun s => μ s.1 s.2.1 s.2.2.1 s.2.2.2.1 s.2.2.2.2.1 s.2.2.2.2.2.1 s.2.2.2.2.2.2) (fun n s hI hk => hs n s.1 s.2.1 s.2.2.1 s.2.2.2.1 s.2.2.2.2.1 s.2.2.2.2.2.1 s.2.2.2.2.2.2 hI (fun b1 b2 b3 b4 b5 b6 b7 h9 hm => hk (b1, b2, b3, b4, b5, b6, b7) h9 hm)) (a1, a2, a3, a4, a5, a6, a7) h
theorem lp8 {A1 A2 A3 A4 A5 A6 A7 A8 : Type} (W : Nat → A1 → A2 → A3 → A4 → A5 → A6 → A7 → A8 → Prop) (I : A1 → A2 → A3 → A4 → A5 → A6 → A7 → A8 → Prop) (μ : A1 → A2 → A3 → A4 → A5 → A6 → A7 → A8 → Nat) (hs : ∀ (n : Nat) (a1 : A1) (a2 : A2) (a3 : A3) (a4 : A4) (a5 : A5) (a6 : A6) (a7 : A7) (a8 : A8), I a1 a2 a3 a4 a5 a6 a7 a8 → (∀ (b1 : A1) (b2 : A2) (b3 : A3) (b4 : A4) (b5 : A5) (b6 : A6) (b7 : A7) (b8 : A8), I b1 b2 b3 b4 b5 b6 b7 b8 → μ b1 b2 b3 b4 b5 b6 b7 b8 < μ a1 a2 a3 a4 a5 a6 a7 a8 → W n b1 b2 b3 b4 b5 b6 b7 b8) → W (n + 1) a1 a2 a3 a4 a5 a6 a7 a8) (a1 : A1) (a2 : A2) (a3 : A3) (a4 : A4) (a5 : A5) (a6 : A6) (a7 : A7) (a8 : A8) (h : I a1 a2 a3 a4 a5 a6 a7 a8) : ∃ n, W n a1 a2 a3 a4 a5 a6 a7 a8 :=
  loop_m (σ := A1 × A2 × A3 × A4 × A5 × A6 × A7 × A8) (fun n s => W n s.1 s.2.1 s.2.2.1 s.2.2.2.1 s.2.2.2.2.1 s.2.2.2.2.2.1 s.2.2.2.2.2.2.1 s.2.2.2.2.2.2.2) (fun s => I s.1 s.2.1 s.2.2.1 s.2.2.2.1 s.2.2.2.2.1 s.2.2.2.2.2.1 s.2.2.2.2.2.2.1 s.2.2.2.2.2.2.2) (fun s => μ s.1 s.2.1 s.2.2.1 s.2.2.2.1 s.2.2.2.2.1 s.2.2.2.2.2.1 s.2.2.2.2.2.2.1 s.2.2.2.2.2.2.2) (fun n s hI hk => hs n s.1 s.2.1 s.2.2.1 s.2.2.2.1 s.2.2.2.2.1 s.2.2.2.2.2.1 s.2.2.2.2.2.2.1 s.2.2.2.2.2.2.2 hI (fun b1 b2 b3 b4 b5 b6 b7 b8 h9 hm => hk (b1, b2, b3, b4, b5, b6, b7, b8) h9 hm)) (a1, a2, a3, a4, a5, a6, a7, a8) h
theorem lp9 {A1 A2 A3 A4 A5 A6 A7 A8 A9 : Type} (W : Nat → A1 → A2 → A3 → A4 → A5 → A6 → A7 → A8 → A9 → Prop) (I : A1 → A2 → A3 → A4 → A5 → A6 → A7 → A8 → A9 → Prop) (μ : A1 → A2 → A3 → A4 → A5 → A6 → A7 → A8 → A9 → Nat) (hs : ∀ (n : Nat) (a1 : A1) (a2 : A2) (a3 : A3) (a4 : A4) (a5 : A5) (a6 : A6) (a7 : A7) (a8 : A8) (a9 : A9), I a1 a2 a3 a4 a5 a6 a7 a8 a9 → (∀ (b1 : A1) (b2 : A2) (b3 : A3) (b4 : A4) (b5 : A5) (b6 : A6) (b7 : A7) (b8 : A8) (b9 : A9), I b1 b2 b3 b4 b5 b6 b7 b8 b9 → μ b1 b2 b3 b4 b5 b6 b7 b8 b9 < μ a1 a2 a3 a4 a5 a6 a7 a8 a9 → W n b1 b2 b3 b4 b5 b6 b7 b8 b9) → W (n + 1) a1 a2 a3 a4 a5 a6 a7 a8 a9) (a1 : A1) (a2 : A2) (a3 : A3) (a4 : A4) (a5 : A5) (a6 : A6) (a7 : A7) (a8 : A8) (a9 : A9) (h : I a1 a2 a3 a4 a5 a6 a7 a8 a9) : ∃ n, W n a1 a2 a3 a4 a5 a6 a7 a8 a9 :=
  loop_m (σ := A1 × A2 × A3 × A4 × A5 × A6 × A7 × A8 × A9) (fun n s => W n s.1 s.2.1 s.2.2.1 s.2.2.2.1 s.2.2.2.2.1 s.2.2.2.2.2.1 s.2.2.2.2.2.2.1 s.2.2.2.2.2.2.2.1 s.2.2.2.2.2.2.2.2) (fun s => I s.1 s.2.1 s.2.2.1 s.2.2.2.1 s.2.2.2.2.1 s.2.2.2.2.2.1 s.2.2.2.2.2.2.1 s.2.2.2.2.2.2.2.1 s.2.2.2.2.2.2.2.2) (fun s => μ s.1 s.2.1 s.2.2.1 s.2.2.2.1 s.2.2.2.2.1 s.2.2.2.2.2.1 s.2.2.2.2.2.2.1 s.2.2.2.2.2.2.2.1 s.2.2.2.2.2.2.2.2) (fun n s hI hk => hs n s.1 s.2.1 s.2.2.1 s.2.2.2.1 s.2.2.2.2.1 s.2.2.2.2.2.1 s.2.2.2.2.2.2.1 s.2.2.2.2.2.2.2.1 s.2.2.2.2.2.2.2.2 hI (fun b1 b2 b3 b4 b5 b6 b7 b8 b9 h9 hm => hk (b1, b2, b3, b4, b5, b6, b7, b8, b9) h9 hm)) (a1, a2, a3, a4, a5, a6, a7, a8, a9) h
theorem lp10 {A1 A2 A3 A4 A5 A6 A7 A8 A9 A10 : Type} (W : Nat → A1 → A2 → A3 → A4 → A5 → A6 → A7 → A8 → A9 → A10 → Prop) (I : A1 → A2 → A3 → A4 → A5 → A6 → A7 → A8 → A9 → A10 → Prop) (μ : A1 → A2 → A3 → A4 → A5 → A6 → A7 → A8 → A9 → A10 → Nat) (hs : ∀ (n : Nat) (a1 : A1) (a2 : A2) (a3 : A3) (a4 : A4) (a5 : A5) (a6 : A6) (a7 : A7) (a8 : A8) (a9 : A9) (a10 : A10), I a1 a2 a3 a4 a5 a6 a7 a8 a9 a10 → (∀ (b1 : A1) (b2 : A2) (b3 : A3) (b4 : A4) (b5 : A5) (b6 : A6) (b7 : A7) (b8 : A8) (b9 : A9) (b10 : A10), I b1 b2 b3 b4 b5 b6 b7 b8 b9 b10 → μ b1 b2 b3 b4 b5 b6 b7 b8 b9 b10 < μ a1 a2 a3 a4 a5 a6 a7 a8 a9 a10 → W n b1 b2 b3 b4 b5 b6 b7 b8 b9 b10) → W (n + 1) a1 a2 a3 a4 a5 a6 a7 a8 a9 a10) (a1 : A1) (a2 : A2) (a3 : A3) (a4 : A4) (a5 : A5) (a6 : A6) (a7 : A7) (a8 : A8) (a9 : A9) (a10 : A10) (h : I a1 a2 a3 a4 a5 a6 a7 a8 a9 a10) : ∃ n, W n a1 a2 a3 a4 a5 a6 a7 a8 a9 a10 :=
  loop_m (σ := A1 × A2 × A3 × A4 × A5 × A6 × A7 × A8 × A9 × A10) (fun n s => W n s.1 s.2.1 s.2.2.1 s.2.2.2.1 s.2.2.2.2.1 s.2.2.2.2.2.1 s.2.2.2.2.2.2.1 s.2.2.2.2.2.2.2.1 s.2.2.2.2.2.2.2.2.1 s.2.2.2.2.2.2.2.2.2) (fun s => I s.1 s.2.1 s.2.2.1 s.2.2.2.1 s.2.2.2.2.1 s.2.2.2.2.2.1 s.2.2.2.2.2.2.1 s.2.2.2.2.2.2.2.1 s.2.2.2.2.2.2.2.2.1 s.2.2.2.2.2.2.2.2.2) (fun s => μ s.1 s.2.1 s.2.2.1 s.2.2.2.1 s.2.2.2.2.1 s.2.2.2.2.2.1 s.2.2.2.2.2.2.1 s.2.2.2.2.2.2.2.1 s.2.2.2.2.2.2.2.2.1 s.2.2.2.2.2.2.2.2.2) (fun n s hI hk => hs n s.1 s.2.1 s.2.2.1 s.2.2.2.1 s.2.2.2.2.1 s.2.2.2.2.2.1 s.2.2.2.2.2.2.1 s.2.2.2.2.2.2.2.1 s.2.2.2.2.2.2.2.2.1 s.2.2.2.2.2.2.2.2.2 hI (fun b1 b2 b3 b4 b5 b6 b7 b8 b9 b10 h9 hm => hk (b1, b2, b3, b4, b5, b6, b7, b8, b9, b10) h9 hm)) (a1, a2, a3, a4, a5, a6, a7, a8, a9, a10) h
theorem lp11 {A1 A2 A3 A4 A5 A6 A7 A8 A9 A10 A11 : Type} (W : Nat → A1 → A2 → A3 → A4 → A5 → A6 → A7 → A8 → A9 → A10 → A11 → Prop) (I : A1 → A2 → A3 → A4 → A5 → A6 → A7 → A8 → A9 → A10 → A11 → Prop) (μ : A1 → A2 → A3 → A4 → A5 → A6 → A7 → A8 → A9 → A10 → A11 → Nat) (hs : ∀ (n : Nat) (a1 : A1) (a2 : A2) (a3 : A3) (a4 : A4) (a5 : A5) (a6 : A6) (a7 : A7) (a8 : A8) (a9 : A9) (a10 : A10) (a11 : A11), I a1 a2 a3 a4 a5 a6 a7 a8 a9 a10 a11 → (∀ (b1 : A1) (b2 : A2) (b3 : A3) (b4 : A4) (b5 : A5) (b6 : A6) (b7 : A7) (b8 : A8) (b9 : A9) (b10 : A10) (b11 : A11), I b1 b2 b3 b4 b5 b6 b7 b8 b9 b10 b11 → μ b1 b2 b3 b4 b5 b6 b7 b8 b9 b10 b11 < μ a1 a2 a3 a4 a5 a6 a7 a8 a9 a10 a11 → W n b1 b2 b3 b4 b5 b6 b7 b8 b9 b10 b11) → W (n + 1) a1 a2 a3 a4 a5 a6 a7 a8 a9 a10 a11) (a1 : A1) (a2 : A2) (a3 : A3) (a4 : A4) (a5 : A5) (a6 : A6) (a7 : A7) (a8 : A8) (a9 : A9) (a10 : A10) (a11 : A11) (h : I a1 a2 a3 a4 a5 a6 a7 a8 a9 a10 a11) : ∃ n, W n a1 a2 a3 a4 a5 a6 a7 a8 a9 a10 a11 :=
  loop_m (σ := A1 × A2 × A3 × A4 × A5 × A6 × A7 × A8 × A9 × A10 × A11) (fun n s => W n s.1 s.2.1 s.2.2.1 s.2.2.2.1 s.2.2.2.2.1 s.2.2.2.2.2.1 s.2.2.2.2.2.2.1 s.2.2.2.2.2.2.2.1 s.2.2.2.2.2.2.2.2.1 s.2.2.2.2.2.2.2.2.2.1 s.2.2.2.2.2.2.2.2.2.2) (fun s => I s.1 s.2.1 s.2.2.1 s.2.2.2.1 s.2.2.2.2.1 s.2.2.2.2.2.1 s.2.2.2.2.2.2.1 s.2.2.2.2.2.2.2.1 s.2.2.2.2.2.2.2.2.1 s.2.2.2.2.2.2.2.2.2.1 s.2.2.2.2.2.2.2.2.2.2) (fun s => μ s.1 s.2.1 s.2.2.1 s.2.2.2.1 s.2.2.2.2.1 s.2.2.2.2.2.1 s.2.2.2.2.2.2.1 s.2.2.2.2.2.2.2.1 s.2.2.2.2.2.2.2.2.1 s.2.2.2.2.2.2.2.2.2.1 s.2.2.2.2.2.2.2.2.2.2) (fun n s hI hk => hs n s.1 s.2.1 s.2.2.1 s.2.2.2.1 s.2.2.2.2.1 s.2.2.2.2.2.1 s.2.2.2.2.2.2.1 s.2.2.2.2.2.2.2.1 s.2.2.2.2.2.2.2.2.1 s.2.2.2.2.2.2.2.2.2.1 s.2.2.2.2.2.2.2.2.2.2 hI (fun b1 b2 b3 b4 b5 b6 b7 b8 b9 b10 b11 h9 hm => hk (b1, b2, b3, b4, b5, b6, b7, b8, b9, b10, b11) h9 hm)) (a1, a2, a3, a4, a5, a6, a7, a8, a9, a10, a11) h
theorem lp12 {A1 A2 A3 A4 A5 A6 A7 A8 A9 A10 A11 A12 : Type} (W : Nat → A1 → A2 → A3 → A4 → A5 → A6 → A7 → A8 → A9 → A10 → A11 → A12 → Prop) (I : A1 → A2 → A3 → A4 → A5 → A6 → A7 → A8 → A9 → A10 → A11 → A12 → Prop) (μ : A1 → A2 → A3 → A4 → A5 → A6 → A7 → A8 → A9 → A10 → A11 → A12 → Nat) (hs : ∀ (n : Nat) (a1 : A1) (a2 : A2) (a3 : A3) (a4 : A4) (a5 : A5) (a6 : A6) (a7 : A7) (a8 : A8) (a9 : A9) (a10 : A10) (a11 : A11) (a12 : A12), I a1 a2 a3 a4 a5 a6 a7 a8 a9 a10 a11 a12 → (∀ (b1 : A1) (b2 : A2) (b3 : A3) (b4 : A4) (b5 : A5) (b6 : A6) (b7 : A7) (b8 : A8) (b9 : A9) (b10 : A10) (b11 : A11) (b12 : A12), I b1 b2 b3 b4 b5 b6 b7 b8 b9 b10 b11 b12 → μ b1 b2 b3 b4 b5 b6 b7 b8 b9 b10 b11 b12 < μ a1 a2 a3 a4 a5 a6 a7 a8 a9 a10 a11 a12 → W n b1 b2 b3 b4 b5 b6 b7 b8 b9 b10 b11 b12) → W (n + 1) a1 a2 a3 a4 a5 a6 a7 a8 a9 a10 a11 a12) (a1 : A1) (a2 : A2) (a3 : A3) (a4 : A4) (a5 : A5) (a6 : A6) (a7 : A7) (a8 : A8) (a9 : A9) (a10 : A10) (a11 : A11) (a12 : A12) (h : I a1 a2 a3 a4 a5 a6 a7 a8 a9 a10 a11 a12) : ∃ n, W n a1 a2 a3 a4 a5 a6 a7 a8 a9 a10 a11 a12 :=
  loop_m (σ := A1 × A2 × A3 × A4 × A5 × A6 × A7 × A8 × A9 × A10 × A11 × A12) (fun n s => W n s.1 s.2.1 s.2.2.1 s.2.2.2.1 s.2.2.2.2.1 s.2.2.2.2.2.1 s.2.2.2.2.2.2.1 s.2.2.2.2.2.2.2.1 s.2.2.2.2.2.2.2.2.1 s.2.2.2.2.2.2.2.2.2.1 s.2.2.2.2.2.2.2.2.2.2.1 s.2.2.2.2.2.2.2.2.2.2.2) (fun s => I s.1 s.2.1 s.2.2.1 s.2.2.2.1 s.2.2.2.2.1 s.2.2.2.2.2.1 s.2.2.2.2.2.2.1 s.2.2.2.2.2.2.2.1 s.2.2.2.2.2.2.2.2.1 s.2.2.2.2.2.2.2.2.2.1 s.2.2.2.2.2.2.2.2.2.2.1 s.2.2.2.2.2.2.2.2.2.2.2) (fun s => μ s.1 s.2.1 s.2.2.1 s.2.2.2.1 s.2.2.2.2.1 s.2.2.2.2.2.1 s.2.2.2.2.2.2.1 s.2.2.2.2.2.2.2.1 s.2.2.2.2.2.2.2.2.1 s.2.2.2.2.2.2.2.2.2.1 s.2.2.2.2.2.2.2.2.2.2.1 s.2.2.2.2.2.2.2.2.2.2.2) (fun n s hI hk => hs n s.1 s.2.1 s.2.2.1 s.2.2.2.1 s.2.2.2.2.1 s.2.2.2.2.2.1 s.2.2.2.2.2.2.1 s.2.2.2.2.2.2.2.1 s.2.2.2.2.2.2.2.2.1 s.2.2.2.2.2.2.2.2.2.1 s.2.2.2.2.2.2.2.2.2.2.1 s.2.2.2.2.2.2.2.2.2.2.2 hI (fun b1 b2 b3 b4 b5 b6 b7 b8 b9 b10 b11 b12 h9 hm => hk (b1, b2, b3, b4, b5, b6, b7, b8, b9, b10, b11, b12) h9 hm)) (a1, a2, a3, a4, a5, a6, a7, a8, a9, a10, a11, a12) h
theorem lp13 {A1 A2 A3 A4 A5 A6 A7 A8 A9 A10 A11 A12 A13 : Type} (W : Nat → A1 → A2 → A3 → A4 → A5 → A6 → A7 → A8 → A9 → A10 → A11 → A12 → A13 → Prop) (I : A1 → A2 → A3 → A4 → A5 → A6 → A7 → A8 → A9 → A10 → A11 → A12 → A13 → Prop) (μ : A1 → A2 → A3 → A4 → A5 → A6 → A7 → A8 → A9 → A10 → A11 → A12 → A13 → Nat) (hs : ∀ (n : Nat) (a1 : A1) (a2 : A2) (a3 : A3) (a4 : A4) (a5 : A5) (a6 : A6) (a7 : A7) (a8 : A8) (a9 : A9) (a10 : A10) (a11 : A11) (a12 : A12) (a13 : A13), I a1 a2 a3 a4 a5 a6 a7 a8 a9 a10 a11 a12 a13 → (∀ (b1 : A1) (b2 : A2) (b3 : A3) (b4 : A4) (b5 : A5) (b6 : A6) (b7 : A7) (b8 : A8) (b9 : A9) (b10 : A10) (b11 : A11) (b12 : A12) (b13 : A13), I b1 b2 b3 b4 b5 b6 b7 b8 b9 b10 b11 b12 b13 → μ b1 b2 b3 b4 b5 b6 b7 b8 b9 b10 b11 b12 b13 < μ a1 a2 a3 a4 a5 a6 a7 a8 a9 a10 a11 a12 a13 → W n b1 b2 b3 b4 b5 b6 b7 b8 b9 b10 b11 b12 b13) → W (n + 1) a1 a2 a3 a4 a5 a6 a7 a8 a9 a10 a11 a12 a13) (a1 : A1) (a2 : A2) (a3 : A3) (a4 : A4) (a5 : A5) (a6 : A6) (a7 : A7) (a8 : A8) (a9 : A9) (a10 : A10) (a11 : A11) (a12 : A12) (a13 : A13) (h : I a1 a2 a3 a4 a5 a6 a7 a8 a9 a10 a11 a12 a13) : ∃ n, W n a1 a2 a3 a4 a5 a6 a7 a8 a9 a10 a11 a12 a13 :=
  loop_m (σ := A1 × A2 × A3 × A4 × A5 × A6 × A7 × A8 × A9 × A10 × A11 × A12 × A13) (fun n s => W n s.1 s.2.1 s.2.2.1 s.2.2.2.1 s.2.2.2.2.1 s.2.2.2.2.2.1 s.2.2.2.2.2.2.1 s.2.2.2.2.2.2.2.1 s.2.2.2.2.2.2.2.2.1 s.2.2.2.2.2.2.2.2.2.1 s.2.2.2.2.2.2.2.2.2.2.1 s.2.2.2.2.2.2.2.2.2.2.2.1 s.2.2.2.2.2.2.2.2.2.2.2.2) (fun s => I s.1 s.2.1 s.2.2.1 s.2.2.2.1 s.2.2.2.2.1 s.2.2.2.2.2.1 s.2.2.2.2.2.2.1 s.2.2.2.2.2.2.2.1 s.2.2.2.2.2.2.2.2.1 s.2.2.2.2.2.2.2.2.2.1 s.2.2.2.2.2.2.2.2.2.2.1 s.2.2.2.2.2.2.2.2.2.2.2.1 s.2.2.2.2.2.2.2.2.2.2.2.2) (fun s => μ s.1 s.2.1 s.2.2.1 s.2.2.2.1 s.2.2.2.2.1 s.2.2.2.2.2.1 s.2.2.2.2.2.2.1 s.2.2.2.2.2.2.2.1 s.2.2.2.2.2.2.2.2.1 s.2.2.2.2.2.2.2.2.2.1 s.2.2.2.2.2.2.2.2.2.2.1 s.2.2.2.2.2.2.2.2.2.2.2.1 s.2.2.2.2.2.2.2.2.2.2.2.2) (fun n s hI hk => hs n s.1 s.2.1 s.2.2.1 s.2.2.2.1 s.2.2.2.2.1 s.2.2.2.2.2.1 s.2.2.2.2.2.2.1 s.2.2.2.2.2.2.2.1 s.2.2.2.2.2.2.2.2.1 s.2.2.2.2.2.2.2.2.2.1 s.2.2.2.2.2.2.2.2.2.2.1 s.2.2.2.2.2.2.2.2.2.2.2.1 s.2.2.2.2.2.2.2.2.2.2.2.2 hI (fun b1 b2 b3 b4 b5 b6 b7 b8 b9 b10 b11 b12 b13 h9 hm => hk (b1, b2, b3, b4, b5, b6, b7, b8, b9, b10, b11, b12, b13) h9 hm)) (a1, a2, a3, a4, a5, a6, a7, a8, a9, a10, a11, a12, a13) h
theorem lp14 {A1 A2 A3 A4 A5 A6 A7 A8 A9 A10 A11 A12 A13 A14 : Type} (W : Nat → A1 → A2 → A3 → A4 → A5 → A6 → A7 → A8 → A9 → A10 → A11 → A12 → A13 → A14 → Prop) (I : A1 → A2 → A3 → A4 → A5 → A6 → A7 → A8 → A9 → A10 → A11 → A12 → A13 → A14 → Prop) (μ : A1 → A2 → A3 → A4 → A5 → A6 → A7 → A8 → A9 → A10 → A11 → A12 → A13 → A14 → Nat) (hs : ∀ (n : Nat) (a1 : A1) (a2 : A2) (a3 : A3) (a4 : A4) (a5 : A5) (a6 : A6) (a7 : A7) (a8 : A8) (a9 : A9) (a10 : A10) (a11 : A11) (a12 : A12) (a13 : A13) (a14 : A14), I a1 a2 a3 a4 a5 a6 a7 a8 a9 a10 a11 a12 a13 a14 → (∀ (b1 : A1) (b2 : A2) (b3 : A3) (b4 : A4) (b5 : A5) (b6 : A6) (b7 : A7) (b8 : A8) (b9 : A9) (b10 : A10) (b11 : A11) (b12 : A12) (b13 : A13) (b14 : A14), I b1 b2 b3 b4 b5 b6 b7 b8 b9 b10 b11 b12 b13 b14 → μ b1 b2 b3 b4 b5 b6 b7 b8 b9 b10 b11 b12 b13 b14 < μ a1 a2 a3 a4 a5 a6 a7 a8 a9 a10 a11 a12 a13 a14 → W n b1 b2 b3 b4 b5 b6 b7 b8 b9 b10 b11 b12 b13 b14) → W (n + 1) a1 a2 a3 a4 a5 a6 a7 a8 a9 a10 a11 a12 a13 a14) (a1 : A1) (a2 : A2) (a3 : A3) (a4 : A4) (a5 : A5) (a6 : A6) (a7 : A7) (a8 : A8) (a9 : A9) (a10 : A10) (a11 : A11) (a12 : A12) (a13 : A13) (a14 : A14) (h : I a1 a2 a3 a4 a5 a6 a7 a8 a9 a10 a11 a12 a13 a14) : ∃ n, W n a1 a2 a3 a4 a5 a6 a7 a8 a9 a10 a11 a12 a13 a14 :=
  loop_m (σ := A1 × A2 × A3 × A4 × A5 × A6 × A7 × A8 × A9 × A10 × A11 × A12 × A13 × A14) (fun n s => W n s.1 s.2.1 s.2.2.1 s.2.2.2.1 s.2.2.2.2.1 s.2.2.2.2.2.1 s.2.2.2.2.2.2.1 s.2.2.2.2.2.2.2.1 s.2.2.2.2.2.2.2.2.1 s.2.2.2.2.2.2.2.2.2.1 s.2.2.2.2.2.2.2.2.2.2.1 s.2.2.2.2.2.2.2.2.2.2.2.1 s.2.2.2.2.2.2.2.2.2.2.2.2.1 s.2.2.2.2.2.2.2.2.2.2.2.2.2) (fun s => I s.1 s.2.1 s.2.2.1 s.2.2.2.1 s.2.2.2.2.1 s.2.2.2.2.2.1 s.2.2.2.2.2.2.1 s.2.2.2.2.2.2.2.1 s.2.2.2.2.2.2.2.2.1 s.2.2.2.2.2.2.2.2.2.1 s.2.2.2.2.2.2.2.2.2.2.1 s.2.2.2.2.2.2.2.2.2.2.2.1 s.2.2.2.2.2.2.2.2.2.2.2.2.1 s.2.2.2.2.2.2.2.2.2.2.2.2.2) (fun s => μ s.1 s.2.1 s.2.2.1 s.2.2.2.1 s.2.2.2.2.1 s.2.2.2.2.2.1 s.2.2.2.2.2.2.1 s.2.2.2.2.2.2.2.1 s.2.2.2.2.2.2.2.2.1 s.2.2.2.2.2.2.2.2.2.1 s.2.2.2.2.2.2.2.2.2.2.1 s.2.2.2.2.2.2.2.2.2.2.2.1 s.2.2.2.2.2.2.2.2.2.2.2.2.1 s.2.2.2.2.2.2.2.2.2.2.2.2.2) (fun n s hI hk => hs n s.1 s.2.1 s.2.2.1 s.2.2.2.1 s.2.2.2.2.1 s.2.2.2.2.2.1 s.2.2.2.2.2.2.1 s.2.2.2.2.2.2.2.1 s.2.2.2.2.2.2.2.2.1 s.2.2.2.2.2.2.2.2.2.1 s.2.2.2.2.2.2.2.2.2.2.1 s.2.2.2.2.2.2.2.2.2.2.2.1 s.2.2.2.2.2.2.2.2.2.2.2.2.1 s.2.2.2.2.2.2.2.2.2.2.2.2.2 hI (fun b1 b2 b3 b4 b5 b6 b7 b8 b9 b10 b11 b12 b13 b14 h9 hm => hk (b1, b2, b3, b4, b5, b6, b7, b8, b9, b10, b11, b12, b13, b14) h9 hm)) (a1, a2, a3, a4, a5, a6, a7, a8, a9, a10, a11, a12, a13, a14) h
theorem lp15 {A1 A2 A3 A4 A5 A6 A7 A8 A9 A10 A11 A12 A13 A14 A15 : Type} (W : Nat → A1 → A2 → A3 → A4 → A5 → A6 → A7 → A8 → A9 → A10 → A11 → A12 → A13 → A14 → A15 → Prop) (I : A1 → A2 → A3 → A4 → A5 → A6 → A7 → A8 → A9 → A10 → A11 → A12 → A13 → A14 → A15 → Prop) (μ : A1 → A2 → A3 → A4 → A5 → A6 → A7 → A8 → A9 → A10 → A11 → A12 → A13 → A14 → A15 → Nat) (hs : ∀ (n : Nat) (a1 : A1) (a2 : A2) (a3 : A3) (a4 : A4) (a5 : A5) (a6 : A6) (a7 : A7) (a8 : A8) (a9 : A9) (a10 : A10) (a11 : A11) (a12 : A12) (a13 : A13) (a14 : A14) (a15 : A15), I a1 a2 a3 a4 a5 a6 a7 a8 a9 a10 a11 a12 a13 a14 a15 → (∀ (b1 : A1) (b2 : A2) (b3 : A3) (b4 : A4) (b5 : A5) (b6 : A6) (b7 : A7) (b8 : A8) (b9 : A9) (b10 : A10) (b11 : A11) (b12 : A12) (b13 : A13) (b14 : A14) (b15 : A15), I b1 b2 b3 b4 b5 b6 b7 b8 b9 b10 b11 b12 b13 b14 b15 → μ b1 b2 b3 b4 b5 b6 b7 b8 b9 b10 b11 b12 b13 b14 b15 < μ a1 a2 a3 a4 a5 a6 a7 a8 a9 a10 a11 a12 a13 a14 a15 → W n b1 b2 b3 b4 b5 b6 b7 b8 b9 b10 b11 b12 b13 b14 b15) → W (n + 1) a1 a2 a3 a4 a5 a6 a7 a8 a9 a10 a11 a12 a13 a14 a15) (a1 : A1) (a2 : A2) (a3 : A3) (a4 : A4) (a5 : A5) (a6 : A6) (a7 : A7) (a8 : A8) (a9 : A9) (a10 : A10) (a11 : A11) (a12 : A12) (a13 : A13) (a14 : A14) (a15 : A15) (h : I a1 a2 a3 a4 a5 a6 a7 a8 a9 a10 a11 a12 a13 a14 a15) : ∃ n, W n a1 a2 a3 a4 a5 a6 a7 a8 a9 a10 a11 a12 a13 a14 a15 :=
  loop_m (σ := A1 × A2 × A3 × A4 × A5 × A6 × A7 × A8 × A9 × A10 × A11 × A12 × A13 × A14 × A15) (fun n s => W n s.1 s.2.1 s.2.2.1 s.2.2.2.1 s.2.2.2.2.1 s.2.2.2.2.2.1 s.2.2.2.2.2.2.1 s.2.2.2.2.2.2.2.1 s.2.2.2.2.2.2.2.2.1 s.2.2.2.2.2.2.2.2.2.1 s.2.2.2.2.2.2.2.2.2.2.1 s.2.2.2.2.2.2.2.2.2.2.2.1 s.2.2.2.2.2.2.2.2.2.2.2.2.1 s.2.2.2.2.2.2.2.2.2.2.2.2.2.1 s.2.2.2.2.2.2.2.2.2.2.2.2.2.2) (fun s => I s.1 s.2.1 s.2.2.1 s.2.2.2.1 s.2.2.2.2.1 s.2.2.2.2.2.1 s.2.2.2.2.2.2.1 s.2.2.2.2.2.2.2.1 s.2.2.2.2.2.2.2.2.1 s.2.2.2.2.2.2.2.2.2.1 s.2.2.2.2.2.2.2.2.2.2.1 s.2.2.2.2.2.2.2.2.2.2.2.1 s.2.2.2.2.2.2.2.2.2.2.2.2.1 s.2.2.2.2.2.2.2.2.2.2.2.2.2.1 s.2.2.2.2.2.2.2.2.2.2.2.2.2.2) (fun s => μ s.1 s.2.1 s.2.2.1 s.2.2.2.1 s.2.2.2.2.1 s.2.2.2.2.2.1 s.2.2.2.2.2.2.1 s.2.2.2.2.2.2.2.1 s.2.2.2.2.2.2.2.2.1 s.2.2.2.2.2.2.2.2.2.1 s.2.2.2.2.2.2.2.2.2.2.1 s.2.2.2.2.2.2.2.2.2.2.2.1 s.2.2.2.2.2.2.2.2.2.2.2.2.1 s.2.2.2.2.2.2.2.2.2.2.2.2.2.1 s.2.2.2.2.2.2.2.2.2.2.2.2.2.2) (fun n s hI hk => hs n s.1 s.2.1 s.2.2.1 s.2.2.2.1 s.2.2.2.2.1 s.2.2.2.2.2.1 s.2.2.2.2.2.2.1 s.2.2.2.2.2.2.2.1 s.2.2.2.2.2.2.2.2.1 s.2.2.2.2.2.2.2.2.2.1 s.2.2.2.2.2.2.2.2.2.2.1 s.2.2.2.2.2.2.2.2.2.2.2.1 s.2.2.2.2.2.2.2.2.2.2.2.2.1 s.2.2.2.2.2.2.2.2.2.2.2.2.2.1 s.2.2.2.2.2.2.2.2.2.2.2.2.2.2 hI (fun b1 b2 b3 b4 b5 b6 b7 b8 b9 b10 b11 b12 b13 b14 b15 h9 hm => hk (b1, b2, b3, b4, b5, b6, b7, b8, b9, b10, b11, b12, b13, b14, b15) h9 hm)) (a1, a2, a3, a4, a5, a6, a7, a8, a9, a10, a11, a12, a13, a14, a15) h
theorem lp16 {A1 A2 A3 A4 A5 A6 A7 A8 A9 A10 A11 A12 A13 A14 A15 A16 : Type} (W : Nat → A1 → A2 → A3 → A4 → A5 → A6 → A7 → A8 → A9 → A10 → A11 → A12 → A13 → A14 → A15 → A16 → Prop) (I : A1 → A2 → A3 → A4 → A5 → A6 → A7 → A8 → A9 → A10 → A11 → A12 → A13 → A14 → A15 → A16 → Prop) (μ : A1 → A2 → A3 → A4 → A5 → A6 → A7 → A8 → A9 → A10 → A11 → A12 → A13 → A14 → A15 → A16 → Nat) (hs : ∀ (n : Nat) (a1 : A1) (a2 : A2) (a3 : A3) (a4 : A4) (a5 : A5) (a6 : A6) (a7 : A7) (a8 : A8) (a9 : A9) (a10 : A10) (a11 : A11) (a12 : A12) (a13 : A13) (a14 : A14) (a15 : A15) (a16 : A16), I a1 a2 a3 a4 a5 a6 a7 a8 a9 a10 a11 a12 a13 a14 a15 a16 → (∀ (b1 : A1) (b2 : A2) (b3 : A3) (b4 : A4) (b5 : A5) (b6 : A6) (b7 : A7) (b8 : A8) (b9 : A9) (b10 : A10) (b11 : A11) (b12 : A12) (b13 : A13) (b14 : A14) (b15 : A15) (b16 : A16), I b1 b2 b3 b4 b5 b6 b7 b8 b9 b10 b11 b12 b13 b14 b15 b16 → μ b1 b2 b3 b4 b5 b6 b7 b8 b9 b10 b11 b12 b13 b14 b15 b16 < μ a1 a2 a3 a4 a5 a6 a7 a8 a9 a10 a11 a12 a13 a14 a15 a16 → W n b1 b2 b3 b4 b5 b6 b7 b8 b9 b10 b11 b12 b13 b14 b15 b16) → W (n + 1) a1 a2 a3 a4 a5 a6 a7 a8 a9 a10 a11 a12 a13 a14 a15 a16) (a1 : A1) (a2 : A2) (a3 : A3) (a4 : A4) (a5 : A5) (a6 : A6) (a7 : A7) (a8 : A8) (a9 : A9) (a10 : A10) (a11 : A11) (a12 : A12) (a13 : A13) (a14 : A14) (a15 : A15) (a16 : A16) (h : I a1 a2 a3 a4 a5 a6 a7 a8 a9 a10 a11 a12 a13 a14 a15 a16) : ∃ n, W n a1 a2 a3 a4 a5 a6 a7 a8 a9 a10 a11 a12 a13 a14 a15 a16 :=
  loop_m (σ := A1 × A2 × A3 × A4 × A5 × A6 × A7 × A8 × A9 × A10 × A11 × A12 × A13 × A14 × A15 × A16) (fun n s => W n s.1 s.2.1 s.2.2.1 s.2.2.2.1 s.2.2.2.2.1 s.2.2.2.2.2.1 s.2.2.2.2.2.2.1 s.2.2.2.2.2.2.2.1 s.2.2.2.2.2.2.2.2.1 s.2.2.2.2.2.2.2.2.2.1 s.2.2.2.2.2.2.2.2.2.2.1 s.2.2.2.2.2.2.2.2.2.2.2.1 s.2.2.2.2.2.2.2.2.2.2.2.2.1 s.2.2.2.2.2.2.2.2.2.2.2.2.2.1 s.2.2.2.2.2.2.2.2.2.2.2.2.2.2.1 s.2.2.2.2.2.2.2.2.2.2.2.2.2.2.2) (fun s => I s.1 s.2.1 s.2.2.1 s.2.2.2.1 s.2.2.2.2.1 s.2.2.2.2.2.1 s.2.2.2.2.2.2.1 s.2.2.2.2.2.2.2.1 s.2.2.2.2.2.2.2.2.1 s.2.2.2.2.2.2.2.2.2.1 s.2.2.2.2.2.2.2.2.2.2.1 s.2.2.2.2.2.2.2.2.2.2.2.1 s.2.2.2.2.2.2.2.2.2.2.2.2.1 s.2.2.2.2.2.2.2.2.2.2.2.2.2.1 s.2.2.2.2.2.2.2.2.2.2.2.2.2.2.1 s.2.2.2.2.2.2.2.2.2.2.2.2.2.2.2) (fun s => μ s.1 s.2.1 s.2.2.1 s.2.2.2.1 s.2.2.2.2.1 s.2.2.2.2.2.1 s.2.2.2.2.2.2.1 s.2.2.2.2.2.2.2.1 s.2.2.2.2.2.2.2.2.1 s.2.2.2.2.2.2.2.2.2.1 s.2.2.2.2.2.2.2.2.2.2.1 s.2.2.2.2.2.2.2.2.2.2.2.1 s.2.2.2.2.2.2.2.2.2.2.2.2.1 s.2.2.2.2.2.2.2.2.2.2.2.2.2.1 s.2.2.2.2.2.2.2.2.2.2.2.2.2.2.1 s.2.2.2.2.2.2.2.2.2.2.2.2.2.2.2) (fun n s hI hk => hs n s.1 s.2.1 s.2.2.1 s.2.2.2.1 s.2.2.2.2.1 s.2.2.2.2.2.1 s.2.2.2.2.2.2.1 s.2.2.2.2.2.2.2.1 s.2.2.2.2.2.2.2.2.1 s.2.2.2.2.2.2.2.2.2.1 s.2.2.2.2.2.2.2.2.2.2.1 s.2.2.2.2.2.2.2.2.2.2.2.1 s.2.2.2.2.2.2.2.2.2.2.2.2.1 s.2.2.2.2.2.2.2.2.2.2.2.2.2.1 s.2.2.2.2.2.2.2.2.2.2.2.2.2.2.1 s.2.2.2.2.2.2.2.2.2.2.2.2.2.2.2 hI (fun b1 b2 b3 b4 b5 b6 b7 b8 b9 b10 b11 b12 b13 b14 b15 b16 h9 hm => hk (b1, b2, b3, b4, b5, b6, b7, b8, b9, b10, b11, b12, b13, b14, b15, b16) h9 hm)) (a1, a2, a3, a4, a5, a6, a7, a8, a9, a10, a11, a12, a13, a14, a15, a16) h
theorem pk_least (P : Nat → Prop) (h : ∃ k, P k) : ∃ k, P k ∧ ∀ j, j < k → ¬ P j := by
  obtain ⟨k, hk⟩ := h
  induction k using Nat.strongRecOn with
  | ind k ih =>
    by_cases e : ∃ j, j < k ∧ P j
    · obtain ⟨j, hj, pj⟩ := e
      exact ih j hj pj
    · exact ⟨k, hk, fun j hj pj => e ⟨j, hj, pj⟩⟩
theorem rp1 {ρ A1 : Type} (W : Nat → (ρ → Prop) → A1 → Prop) (ok : A1 → Prop) (μ : A1 → Nat) (val : A1 → ρ)
    (hs : ∀ (d : Nat) (post : ρ → Prop) (a1 : A1), ok a1 → post (val a1) → (∀ (post' : ρ → Prop) (b1 : A1), ok b1 → μ b1 < μ a1 → post' (val b1) → W d post' b1) → W (d + 1) post a1) :
    ∀ (d : Nat) (post : ρ → Prop) (a1 : A1), ok a1 → μ a1 < d → post (val a1) → W d post a1 := by
  intro d
  induction d with
  | zero => intro post a1 _ h; omega
  | succ d ih =>
    intro post a1 ho hm hp
    exact hs d post a1 ho hp (fun post' b1 ho' hm' hp' => ih post' b1 ho' (by omega) hp')
theorem rp2 {ρ A1 A2 : Type} (W : Nat → (ρ → Prop) → A1 → A2 → Prop) (ok : A1 → A2 → Prop) (μ : A1 → A2 → Nat) (val : A1 → A2 → ρ)
    (hs : ∀ (d : Nat) (post : ρ → Prop) (a1 : A1) (a2 : A2), ok a1 a2 → post (val a1 a2) → (∀ (post' : ρ → Prop) (b1 : A1) (b2 : A2), ok b1 b2 → μ b1 b2 < μ a1 a2 → post' (val b1 b2) → W d post' b1 b2) → W (d + 1) post a1 a2) :
    ∀ (d : Nat) (post : ρ → Prop) (a1 : A1) (a2 : A2), ok a1 a2 → μ a1 a2 < d → post (val a1 a2) → W d post a1 a2 := by
  intro d
  induction d with
  | zero => intro post a1 a2 _ h; omega
  | succ d ih =>
    intro post a1 a2 ho hm hp
    exact hs d post a1 a2 ho hp (fun post' b1 b2 ho' hm' hp' => ih post' b1 b2 ho' (by omega) hp')
theorem rp3 {ρ A1 A2 A3 : Type} (W : Nat → (ρ → Prop) → A1 → A2 → A3 → Prop) (ok : A1 → A2 → A3 → Prop) (μ : A1 → A2 → A3 → Nat) (val : A1 → A2 → A3 → ρ)
    (hs : ∀ (d : Nat) (post : ρ → Prop) (a1 : A1) (a2 : A2) (a3 : A3), ok a1 a2 a3 → post (val a1 a2 a3) → (∀ (post' : ρ → Prop) (b1 : A1) (b2 : A2) (b3 : A3), ok b1 b2 b3 → μ b1 b2 b3 < μ a1 a2 a3 → post' (val b1 b2 b3) → W d post' b1 b2 b3) → W (d + 1) post a1 a2 a3) :
    ∀ (d : Nat) (post : ρ → Prop) (a1 : A1) (a2 : A2) (a3 : A3), ok a1 a2 a3 → μ a1 a2 a3 < d → post (val a1 a2 a3) → W d post a1 a2 a3 := by
  intro d
  induction d with
  | zero => intro post a1 a2 a3 _ h; omega
  | succ d ih =>
    intro post a1 a2 a3 ho hm hp
    exact hs d post a1 a2 a3 ho hp (fun post' b1 b2 b3 ho' hm' hp' => ih post' b1 b2 b3 ho' (by omega) hp')
theorem rp4 {ρ A1 A2 A3 A4 : Type} (W : Nat → (ρ → Prop) → A1 → A2 → A3 → A4 → Prop) (ok : A1 → A2 → A3 → A4 → Prop) (μ : A1 → A2 → A3 → A4 → Nat) (val : A1 → A2 → A3 → A4 → ρ)
    (hs : ∀ (d : Nat) (post : ρ → Prop) (a1 : A1) (a2 : A2) (a3 : A3) (a4 : A4), ok a1 a2 a3 a4 → post (val a1 a2 a3 a4) → (∀ (post' : ρ → Prop) (b1 : A1) (b2 : A2) (b3 : A3) (b4 : A4), ok b1 b2 b3 b4 → μ b1 b2 b3 b4 < μ a1 a2 a3 a4 → post' (val b1 b2 b3 b4) → W d post' b1 b2 b3 b4) → W (d + 1) post a1 a2 a3 a4) :
    ∀ (d : Nat) (post : ρ → Prop) (a1 : A1) (a2 : A2) (a3 : A3) (a4 : A4), ok a1 a2 a3 a4 → μ a1 a2 a3 a4 < d → post (val a1 a2 a3 a4) → W d post a1 a2 a3 a4 := by
  intro d
  induction d with
  | zero => intro post a1 a2 a3 a4 _ h; omega
  | succ d ih =>
    intro post a1 a2 a3 a4 ho hm hp
    exact hs d post a1 a2 a3 a4 ho hp (fun post' b1 b2 b3 b4 ho' hm' hp' => ih post' b1 b2 b3 b4 ho' (by omega) hp')
theorem rp5 {ρ A1 A2 A3 A4 A5 : Type} (W : Nat → (ρ → Prop) → A1 → A2 → A3 → A4 → A5 → Prop) (ok : A1 → A2 → A3 → A4 → A5 → Prop) (μ : A1 → A2 → A3 → A4 → A5 → Nat) (val : A1 → A2 → A3 → A4 → A5 → ρ)
    (hs : ∀ (d : Nat) (post : ρ → Prop) (a1 : A1) (a2 : A2) (a3 : A3) (a4 : A4) (a5 : A5), ok a1 a2 a3 a4 a5 → post (val a1 a2 a3 a4 a5) → (∀ (post' : ρ → Prop) (b1 : A1) (b2 : A2) (b3 : A3) (b4 : A4) (b5 : A5), ok b1 b2 b3 b4 b5 → μ b1 b2 b3 b4 b5 < μ a1 a2 a3 a4 a5 → post' (val b1 b2 b3 b4 b5) → W d post' b1 b2 b3 b4 b5) → W (d + 1) post a1 a2 a3 a4 a5) :
    ∀ (d : Nat) (post : ρ → Prop) (a1 : A1) (a2 : A2) (a3 : A3) (a4 : A4) (a5 : A5), ok a1 a2 a3 a4 a5 → μ a1 a2 a3 a4 a5 < d → post (val a1 a2 a3 a4 a5) → W d post a1 a2 a3 a4 a5 := by
  intro d
  induction d with
  | zero => intro post a1 a2 a3 a4 a5 _ h; omega
  | succ d ih =>
    intro post a1 a2 a3 a4 a5 ho hm hp
    exact hs d post a1 a2 a3 a4 a5 ho hp (fun post' b1 b2 b3 b4 b5 ho' hm' hp' => ih post' b1 b2 b3 b4 b5 ho' (by omega) hp')
theorem rp6 {ρ A1 A2 A3 A4 A5 A6 : Type} (W : Nat → (ρ → Prop) → A1 → A2 → A3 → A4 → A5 → A6 → Prop) (ok : A1 → A2 → A3 → A4 → A5 → A6 → Prop) (μ : A1 → A2 → A3 → A4 → A5 → A6 → Nat) (val : A1 → A2 → A3 → A4 → A5 → A6 → ρ)
    (hs : ∀ (d : Nat) (post : ρ → Prop) (a1 : A1) (a2 : A2) (a3 : A3) (a4 : A4) (a5 : A5) (a6 : A6), ok a1 a2 a3 a4 a5 a6 → post (val a1 a2 a3 a4 a5 a6) → (∀ (post' : ρ → Prop) (b1 : A1) (b2 : A2) (b3 : A3) (b4 : A4) (b5 : A5) (b6 : A6), ok b1 b2 b3 b4 b5 b6 → μ b1 b2 b3 b4 b5 b6 < μ a1 a2 a3 a4 a5 a6 → post' (val b1 b2 b3 b4 b5 b6) → W d post' b1 b2 b3 b4 b5 b6) → W (d + 1) post a1 a2 a3 a4 a5 a6) :
    ∀ (d : Nat) (post : ρ → Prop) (a1 : A1) (a2 : A2) (a3 : A3) (a4 : A4) (a5 : A5) (a6 : A6), ok a1 a2 a3 a4 a5 a6 → μ a1 a2 a3 a4 a5 a6 < d → post (val a1 a2 a3 a4 a5 a6) → W d post a1 a2 a3 a4 a5 a6 := by
  intro d
  induction d with
  | zero => intro post a1 a2 a3 a4 a5 a6 _ h; omega
  | succ d ih =>
    intro post a1 a2 a3 a4 a5 a6 ho hm hp
    exact hs d post a1 a2 a3 a4 a5 a6 ho hp (fun post' b1 b2 b3 b4 b5 b6 ho' hm' hp' => ih post' b1 b2 b3 b4 b5 b6 ho' (by omega) hp')
theorem rec_p {σ ρ : Type} (W : Nat → (ρ → Prop) → σ → Prop) (ok : σ → Prop) (μ : σ → Nat) (val : σ → ρ)
    (hs : ∀ d s post, ok s → post (val s) → (∀ s' post', ok s' → μ s' < μ s → post' (val s') → W d post' s') → W (d + 1) post s) :
    ∀ d s post, ok s → μ s < d → post (val s) → W d post s := by
  intro d
  induction d with
  | zero => intro s post _ h; omega
  | succ d ih =>
    intro s post ho hm hp
    exact hs d s post ho hp (fun s' post' ho' hm' hp' => ih s' post' ho' (by omega) hp')
theorem rec_q {σ ρ : Type} (W : Nat → (ρ → Prop) → σ → Prop) (ok : σ → Prop) (μ : σ → Nat) (Q : σ → ρ → Prop)
    (hs : ∀ d s post, ok s → (∀ r, Q s r → post r) → (∀ s' post', ok s' → μ s' < μ s → (∀ r, Q s' r → post' r) → W d post' s') → W (d + 1) post s) :
    ∀ d s post, ok s → μ s < d → (∀ r, Q s r → post r) → W d post s := by
  intro d
  induction d with
  | zero => intro s post _ h; omega
  | succ d ih =>
    intro s post ho hm hp
    exact hs d s post ho hp (fun s' post' ho' hm' hp' => ih s' post' ho' (by omega) hp')
def bx_sum (f : Nat → Int32) : Nat → Int32
  | 0 => 0
  | n + 1 => bx_sum f n + f n
theorem ek_u {A : Prop} {B : Nat → Prop} {k N : Nat} (hk : k < N) (h : B k) : (some k = none → A) ∧ (∀ y : Nat, some k = some y → (y < N ∧ B y)) :=
  ⟨fun z => absurd z (Option.some_ne_none k), fun _ e => (by cases e; exact ⟨hk, h⟩)⟩
theorem ek_nu {A : Prop} {B : Nat → Prop} (h : A) : ((none : Option Nat) = none → A) ∧ (∀ y : Nat, (none : Option Nat) = some y → B y) :=
  ⟨fun _ => h, fun _ e => (by cases e)⟩
theorem ek_if {c d A B : Prop} (e : c ↔ d) (f : d → A) (g : ¬ d → B) : (c → A) ∧ (¬ c → B) :=
  ⟨fun z => f (e.mp z), fun z => g (fun y => z (e.mpr y))⟩
theorem ek_v {α : Sort _} {P : α → Prop} {a b : α} (e : a = b) (h : P b) : P a := e ▸ h
theorem co_some {x : Option Nat} {A : Prop} {B : Nat → Prop} (i : Nat) (h : B i) (hx : x = some i := by rfl) : (x = none → A) ∧ (∀ y : Nat, x = some y → B y) := by
  subst hx
  exact ⟨fun e => (nomatch e), fun y e => Option.some.inj e ▸ h⟩
theorem co_none {x : Option Nat} {A : Prop} {B : Nat → Prop} (h : A) (hx : x = none := by rfl) : (x = none → A) ∧ (∀ y : Nat, x = some y → B y) := by
  subst hx
  exact ⟨fun _ => h, fun y e => (nomatch e)⟩
theorem co_any {x : Option Nat} {A : Prop} {B : Nat → Prop} (hn : x = none → A) (hs : ∀ i : Nat, x = some i → B i) : (x = none → A) ∧ (∀ y : Nat, x = some y → B y) := ⟨hn, hs⟩
theorem co_2 {P : Nat → Prop} (h0 : P 0) (h1 : P 1) {i : Nat} (hi : i < 2) : P i :=
  match i, hi with
  | 0, _ => h0
  | 1, _ => h1
theorem co_3 {P : Nat → Prop} (h0 : P 0) (h1 : P 1) (h2 : P 2) {i : Nat} (hi : i < 3) : P i :=
  match i, hi with
  | 0, _ => h0
  | 1, _ => h1
  | 2, _ => h2
theorem co_4 {P : Nat → Prop} (h0 : P 0) (h1 : P 1) (h2 : P 2) (h3 : P 3) {i : Nat} (hi : i < 4) : P i :=
  match i, hi with
  | 0, _ => h0
  | 1, _ => h1
  | 2, _ => h2
  | 3, _ => h3
theorem co_dec {N : Nat} {P : Nat → Prop} [DecidablePred P] (h : (List.range N).all (fun i => decide (P i)) = true) {i : Nat} (hi : i < N) : P i := by
  have := List.all_eq_true.mp h i (List.mem_range.mpr hi)
  exact of_decide_eq_true this
theorem co_tab {α : Type} {l : List α} {d : α} {P : α → Prop} (h : ∀ a, a ∈ l → P a) {i : Nat} (hi : i < l.length) : P (l.getD i d) := by
  rw [List.getD_eq_getElem?_getD, List.getElem?_eq_getElem hi]
  exact h _ (List.getElem_mem hi)
theorem pk_mu {x : Int32} {L : Nat} (h0 : ¬ x < 0) (h : ¬ nI L ≤ x) (hL : L < 2 ^ 31) : ∃ j : Nat, j < L ∧ x = nI j ∧ x + 1 = nI (j + 1) ∧ x.toNatClampNeg = j ∧ L - (x + 1).toNatClampNeg < L - x.toNatClampNeg := by
  obtain ⟨j, hj, rfl⟩ := nI_of h0
  have hl : j < L := Nat.not_le.mp fun q => h (nI_le q hj)
  refine ⟨j, hl, rfl, nI_1 j, nI_clamp hj, ?_⟩
  rw [nI_1, nI_clamp (by omega), nI_clamp hj]
  omega
theorem op_s {α : Type} {r : Option α} {A : Prop} {B : α → Prop} {y : α} (h : r = some y) (b : B y) : (r = none → A) ∧ ∀ z, r = some z → B z :=
  ⟨fun e => (by rw [h] at e; cases e), fun z e => (by rw [h] at e; cases e; exact b)⟩
def l_holds {α : Type} (a : Nat → Option Nat) (LP : List Nat) (p : Nat → α) (c : Nat) (b : Nat → α) : Prop :=
  ∀ j, j < c → ∃ y, a j = some y ∧ y ∈ LP ∧ p y = b j
theorem l_holds_0 {α : Type} {a : Nat → Option Nat} {LP : List Nat} {p b : Nat → α} : l_holds a LP p 0 b := fun j h => absurd h (Nat.not_lt_zero j)
theorem l_in_new (LP : List Nat) (q : Nat) : q ∈ LP ++ [q] := List.mem_append.mpr (Or.inr (List.mem_singleton.mpr rfl))
def l_sum (b : Nat → Int32) : Nat → Int32
  | 0 => 0
  | k + 1 => l_sum b k + b k
theorem sb_shr0 (x : Int32) : x >>> ((0 : Int32) &&& 31) = x := by
  rw [show ((0 : Int32) &&& 31) = 0 by decide]
  simp
theorem sb_shl0 (x : Int32) : x <<< ((0 : Int32) &&& 31) = x := by
  rw [show ((0 : Int32) &&& 31) = 0 by decide]
  simp
theorem sb_cl0 : (0 : Int32).toNatClampNeg = 0 := by decide
theorem sb_m1 {p : Nat} (h : 0 < p) : nI p + (-1) = nI (p - 1) := by
  obtain ⟨q, rfl⟩ : ∃ q, p = q + 1 := ⟨p - 1, by omega⟩
  exact pk_m1 q
def sb_b (c : Nat) : Int32 := (nI c).toInt8.toInt32
theorem sb_byte : ∀ c, c < 256 → sb_b c &&& 255 = nI c ∧ ((nI c).toUInt32 % 65536).toInt32 = nI c ∧ nI c ≤ 255 := by decide +kernel
def sb_Fit (a : Nat → Int32) : Prop := ∀ j, fits .byte (.int (a j)) = true
def sb_Lat (t : Nat → Nat) (n : Nat) (a : Nat → Int32) : Prop := ∀ j, j < n → t j < 256 ∧ a j = sb_b (t j)
theorem sb_fitB (c : Nat) : fits .byte (.int (sb_b c)) = true := pk_fb _
theorem sb_fit0 : sb_Fit (fun _ => 0) := fun _ => by
  show fits .byte (.int 0) = true
  decide
theorem sb_fitU {a : Nat → Int32} {k : Nat} {x : Int32} (h : sb_Fit a) (hx : fits .byte (.int x) = true) : sb_Fit (upd a k x) := by
  intro j
  by_cases e : j = k
  · subst e
    rw [pk_us]
    exact hx
  · rw [pk_un e]
    exact h j
def sb_cat (t : Nat → Nat) (n : Nat) (s : Nat → Nat) : Nat → Nat := fun j => if j < n then t j else s (j - n)
theorem sb_cat_lo {t s : Nat → Nat} {n j : Nat} (h : j < n) : sb_cat t n s j = t j := if_pos h
theorem sb_cat_hi {t s : Nat → Nat} {n j : Nat} : sb_cat t n s (n + j) = s j := by
  show (if n + j < n then t (n + j) else s (n + j - n)) = s j
  rw [if_neg (by omega), Nat.add_sub_cancel_left]
theorem sb_latPut {t s : Nat → Nat} {n w : Nat} {a a' : Nat → Int32} (h : sb_Lat t n a) (hk : ∀ j, j < n → a' j = a j) (hs : ∀ i, i < w → s i < 256 ∧ a' (n + i) = sb_b (s i)) : sb_Lat (sb_cat t n s) (n + w) a' := by
  intro j hj
  by_cases e : j < n
  · rw [sb_cat_lo e, hk j e]
    exact h j e
  · obtain ⟨i, rfl⟩ : ∃ i, j = n + i := ⟨j - n, by omega⟩
    rw [sb_cat_hi]
    exact hs i (by omega)
theorem sb_latKeep {t : Nat → Nat} {n : Nat} {a a' : Nat → Int32} (h : sb_Lat t n a) (hk : ∀ j, j < n → a' j = a j) : sb_Lat t n a' := fun j hj => by
  rw [hk j hj]
  exact h j hj
def sb_cap (q m : Nat) : Nat := if q ≤ m then m else if 2 * m + 2 < q then q else 2 * m + 2
def sb_Room (q m mc ms : Nat) : Prop := q ≤ m ∨ (1 ≤ mc ∧ sb_cap q m ≤ ms ∧ sb_cap q m ≤ 65536)
theorem sb_cap_ge (q m : Nat) : q ≤ sb_cap q m := by
  unfold sb_cap
  split
  · omega
  · split <;> omega
theorem sb_cap_gem (q m : Nat) : m ≤ sb_cap q m := by
  unfold sb_cap
  split
  · omega
  · split <;> omega
theorem sb_cap_le {q m mc ms : Nat} (hm : m ≤ 65536) (hr : sb_Room q m mc ms) : sb_cap q m ≤ 65536 := by
  rcases hr with h | h
  · rw [sb_cap, if_pos h]
    exact hm
  · exact h.2.2
theorem sb_at {P : Int32 → Prop} {x y : Int32} (e : x = y) (h : P y) : P x := e ▸ h
def sb_dg (w : Nat) : Nat := if w < 10 then 1 else if w < 100 then 2 else if w < 1000 then 3 else if w < 10000 then 4 else if w < 100000 then 5 else if w < 1000000 then 6 else if w < 10000000 then 7 else if w < 100000000 then 8 else if w < 1000000000 then 9 else 10
def sb_dec (v : Nat) : Nat → Nat := fun i => 48 + v / 10 ^ (sb_dg v - 1 - i) % 10
theorem sb_dg_in (w : Nat) : 1 ≤ sb_dg w ∧ sb_dg w ≤ 10 := by
  unfold sb_dg
  constructor <;> (repeat' split) <;> omega
theorem sb_dg100 {w : Nat} (h : 100 ≤ w) (hw : w < 2 ^ 31) : sb_dg w = sb_dg (w / 100) + 2 := by
  rw [sb_dg, sb_dg, if_neg (show ¬ w < 10 by omega), if_neg (show ¬ w < 100 by omega)]
  by_cases h3 : w < 1000
  · rw [if_pos h3, if_pos (show w / 100 < 10 by omega)]
  rw [if_neg h3, if_neg (show ¬ w / 100 < 10 by omega)]
  by_cases h4 : w < 10000
  · rw [if_pos h4, if_pos (show w / 100 < 100 by omega)]
  rw [if_neg h4, if_neg (show ¬ w / 100 < 100 by omega)]
  by_cases h5 : w < 100000
  · rw [if_pos h5, if_pos (show w / 100 < 1000 by omega)]
  rw [if_neg h5, if_neg (show ¬ w / 100 < 1000 by omega)]
  by_cases h6 : w < 1000000
  · rw [if_pos h6, if_pos (show w / 100 < 10000 by omega)]
  rw [if_neg h6, if_neg (show ¬ w / 100 < 10000 by omega)]
  by_cases h7 : w < 10000000
  · rw [if_pos h7, if_pos (show w / 100 < 100000 by omega)]
  rw [if_neg h7, if_neg (show ¬ w / 100 < 100000 by omega)]
  by_cases h8 : w < 100000000
  · rw [if_pos h8, if_pos (show w / 100 < 1000000 by omega)]
  rw [if_neg h8, if_neg (show ¬ w / 100 < 1000000 by omega)]
  by_cases h9 : w < 1000000000
  · rw [if_pos h9, if_pos (show w / 100 < 10000000 by omega)]
  rw [if_neg h9, if_neg (show ¬ w / 100 < 10000000 by omega)]
  rw [if_pos (show w / 100 < 100000000 by omega)]
theorem sb_negT {w : Nat} (h : w < 2 ^ 31) : (-nI w).toInt = -(w : Int) := by
  rw [Int32.toInt_neg, nI_toInt h]
  exact Int.bmod_eq_of_le (by omega) (by omega)
theorem sb_nle {a b : Nat} (ha : a < 2 ^ 31) (hb : b < 2 ^ 31) : -nI a ≤ -nI b ↔ b ≤ a := by
  rw [Int32.le_iff_toInt_le, sb_negT ha, sb_negT hb]
  omega
theorem sb_nlt {a b : Nat} (ha : a < 2 ^ 31) (hb : b < 2 ^ 31) : -nI a < -nI b ↔ b < a := by
  rw [Int32.lt_iff_toInt_lt, sb_negT ha, sb_negT hb]
  omega
theorem sb_cmp {A B : Prop} {x : Int32} (v c : Nat) (f : c ≤ v → A) (g : v < c → B) (hv : v < 2 ^ 31) (hx : x = -nI c := by rfl) (hc : c < 2 ^ 31 := by omega) : (-nI v ≤ x → A) ∧ (¬ -nI v ≤ x → B) := by
  subst hx
  rw [sb_nle hv hc]
  exact ⟨f, fun z => g (by omega)⟩
theorem sb_ndiv {w : Nat} (hw : w < 2 ^ 31) : (-nI w) / 100 = -nI (w / 100) := by
  apply Int32.toInt_inj.mp
  have h100 : (100 : Int32).toInt = 100 := by decide
  rw [Int32.toInt_div, sb_negT hw, h100, sb_negT (by omega), Int.neg_tdiv, Int.tdiv_eq_ediv_of_nonneg (by omega), Int.bmod_eq_of_le (by omega) (by omega)]
  omega
theorem sb_nrem {w : Nat} (hw : w < 2 ^ 31) : (-nI (w / 100)) * 100 - (-nI w) = nI (w % 100) := by
  have h := pk_rem (a := w) (d := 100) hw (by decide) (by decide)
  rw [pk_div hw (by decide) (by decide)] at h
  rw [← h]
  show (-nI (w / 100)) * nI 100 - (-nI w) = nI w - nI (w / 100) * nI 100
  rw [Int32.neg_mul, Int32.sub_neg, Int32.add_comm, ← Int32.sub_eq_add_neg]
end
section
/- derivations of stretches; g = (kinds, levels, meanings), t the tokens -/
abbrev mf_CF : Type := (Nat → Nat) × (Nat → Nat) × (Nat → Nat)
def mf_op (t : Nat → Nat) (p : Nat) : Prop := 10 ≤ t p ∧ t p < 18
def mf_lev (g : mf_CF) (t : Nat → Nat) (p : Nat) : Nat := g.2.1 (t p - 10)
def mf_kin (g : mf_CF) (t : Nat → Nat) (p : Nat) : Nat := g.1 (mf_lev g t p)
def mf_mea (g : mf_CF) (t : Nat → Nat) (p : Nat) : Nat := g.2.2 (t p - 10)
def mf_nl (g : mf_CF) (t : Nat → Nat) (p : Nat) : Nat := if mf_kin g t p = 1 ∨ mf_kin g t p = 2 then mf_lev g t p + 1 else mf_lev g t p
def mf_nr (g : mf_CF) (t : Nat → Nat) (p : Nat) : Nat := if mf_kin g t p = 0 ∨ mf_kin g t p = 2 then mf_lev g t p + 1 else mf_lev g t p
def mf_bt (m : Nat) (a b : Int32) : Int32 := if m = 0 then a + b else if m = 1 then a - b else if m = 2 then a * b else 10 * a + b
def mf_al (m : Nat) (a : Int32) : Int32 := if m = 0 then -a else if m = 1 then a + 1 else if m = 2 then 2 * a else 7 * a + 3
def mf_ok (g : mf_CF) : Prop := (∀ k, g.1 k ≤ 4) ∧ (∀ o, g.2.1 o ≤ 4) ∧ (∀ o, g.2.2 o ≤ 3)
/-- closed under the five rules -/
def mf_C (g : mf_CF) (t : Nat → Nat) (Q : Nat → Nat → Nat → Nat → Int32 → Prop) : Prop :=
  (∀ i, t i < 10 → Q i (i + 1) 5 0 (nI (t i))) ∧
  (∀ i e s c v, t i = 18 → t e = 19 → Q (i + 1) e s c v → Q i (e + 1) 5 1 v) ∧
  (∀ i j s c v, mf_op t i → mf_kin g t i = 3 → Q (i + 1) j s c v → mf_lev g t i ≤ s → Q i j (mf_lev g t i) (i + 2) (mf_al (mf_mea g t i) v)) ∧
  (∀ i r s c v, mf_op t r → mf_kin g t r = 4 → Q i r s c v → mf_lev g t r ≤ s → Q i (r + 1) (mf_lev g t r) (r + 2) (mf_al (mf_mea g t r) v)) ∧
  (∀ i r j s c v s' c' v', mf_op t r → mf_kin g t r < 3 → Q i r s c v → Q (r + 1) j s' c' v' → mf_nl g t r ≤ s → mf_nr g t r ≤ s' → Q i j (mf_lev g t r) (r + 2) (mf_bt (mf_mea g t r) v v'))
def mf_Der (g : mf_CF) (t : Nat → Nat) (i j s c : Nat) (v : Int32) : Prop := ∀ Q, mf_C g t Q → Q i j s c v
section
variable {g : mf_CF} {t : Nat → Nat}
theorem mf_dNum {i : Nat} (h : t i < 10) : mf_Der g t i (i + 1) 5 0 (nI (t i)) := fun _ hC => hC.1 i h
theorem mf_dBr {i e s c : Nat} {v : Int32} (h : t i = 18) (h' : t e = 19) (d : mf_Der g t (i + 1) e s c v) : mf_Der g t i (e + 1) 5 1 v :=
  fun Q hC => hC.2.1 i e s c v h h' (d Q hC)
theorem mf_dPre {i j s c : Nat} {v : Int32} (h : mf_op t i) (hk : mf_kin g t i = 3) (d : mf_Der g t (i + 1) j s c v) (hs : mf_lev g t i ≤ s) : mf_Der g t i j (mf_lev g t i) (i + 2) (mf_al (mf_mea g t i) v) :=
  fun Q hC => hC.2.2.1 i j s c v h hk (d Q hC) hs
theorem mf_dPos {i r s c : Nat} {v : Int32} (h : mf_op t r) (hk : mf_kin g t r = 4) (d : mf_Der g t i r s c v) (hs : mf_lev g t r ≤ s) : mf_Der g t i (r + 1) (mf_lev g t r) (r + 2) (mf_al (mf_mea g t r) v) :=
  fun Q hC => hC.2.2.2.1 i r s c v h hk (d Q hC) hs
theorem mf_dBin {i r j s c s' c' : Nat} {v v' : Int32} (h : mf_op t r) (hk : mf_kin g t r < 3) (d : mf_Der g t i r s c v) (d' : mf_Der g t (r + 1) j s' c' v') (hs : mf_nl g t r ≤ s) (hs' : mf_nr g t r ≤ s') : mf_Der g t i j (mf_lev g t r) (r + 2) (mf_bt (mf_mea g t r) v v') :=
  fun Q hC => hC.2.2.2.2 i r j s c v s' c' v' h hk (d Q hC) (d' Q hC) hs hs'
/-- rule induction, with the derivations of the parts at hand -/
theorem mf_ind {Q : Nat → Nat → Nat → Nat → Int32 → Prop}
    (num : ∀ i, t i < 10 → Q i (i + 1) 5 0 (nI (t i)))
    (br : ∀ i e s c v, t i = 18 → t e = 19 → mf_Der g t (i + 1) e s c v → Q (i + 1) e s c v → Q i (e + 1) 5 1 v)
    (pre : ∀ i j s c v, mf_op t i → mf_kin g t i = 3 → mf_Der g t (i + 1) j s c v → Q (i + 1) j s c v → mf_lev g t i ≤ s → Q i j (mf_lev g t i) (i + 2) (mf_al (mf_mea g t i) v))
    (pos : ∀ i r s c v, mf_op t r → mf_kin g t r = 4 → mf_Der g t i r s c v → Q i r s c v → mf_lev g t r ≤ s → Q i (r + 1) (mf_lev g t r) (r + 2) (mf_al (mf_mea g t r) v))
    (bin : ∀ i r j s c v s' c' v', mf_op t r → mf_kin g t r < 3 → mf_Der g t i r s c v → Q i r s c v → mf_Der g t (r + 1) j s' c' v' → Q (r + 1) j s' c' v' → mf_nl g t r ≤ s → mf_nr g t r ≤ s' → Q i j (mf_lev g t r) (r + 2) (mf_bt (mf_mea g t r) v v'))
    {i j s c : Nat} {v : Int32} (d : mf_Der g t i j s c v) : Q i j s c v := by
  have h := d (fun i j s c v => mf_Der g t i j s c v ∧ Q i j s c v) ⟨?_, ?_, ?_, ?_, ?_⟩
  · exact h.2
  · exact fun i h => ⟨mf_dNum h, num i h⟩
  · exact fun i e s c v h h' q => ⟨mf_dBr h h' q.1, br i e s c v h h' q.1 q.2⟩
  · exact fun i j s c v h hk q hs => ⟨mf_dPre h hk q.1 hs, pre i j s c v h hk q.1 q.2 hs⟩
  · exact fun i r s c v h hk q hs => ⟨mf_dPos h hk q.1 hs, pos i r s c v h hk q.1 q.2 hs⟩
  · exact fun i r j s c v s' c' v' h hk q q' hs hs' => ⟨mf_dBin h hk q.1 q'.1 hs hs', bin i r j s c v s' c' v' h hk q.1 q.2 q'.1 q'.2 hs hs'⟩
/-- the operator at r is taken last in [i,j), with value v -/
def mf_O (g : mf_CF) (t : Nat → Nat) (i j r : Nat) (v : Int32) : Prop :=
  mf_op t r ∧ ((mf_kin g t r = 3 ∧ r = i ∧ ∃ s c w, mf_Der g t (r + 1) j s c w ∧ mf_lev g t r ≤ s ∧ v = mf_al (mf_mea g t r) w) ∨
    (mf_kin g t r = 4 ∧ j = r + 1 ∧ ∃ s c w, mf_Der g t i r s c w ∧ mf_lev g t r ≤ s ∧ v = mf_al (mf_mea g t r) w) ∨
    (mf_kin g t r < 3 ∧ ∃ s c w s' c' w', mf_Der g t i r s c w ∧ mf_Der g t (r + 1) j s' c' w' ∧ mf_nl g t r ≤ s ∧ mf_nr g t r ≤ s' ∧ v = mf_bt (mf_mea g t r) w w'))
theorem mf_dO {i j r : Nat} {v : Int32} (h : mf_O g t i j r v) : mf_Der g t i j (mf_lev g t r) (r + 2) v := by
  obtain ⟨ho, ⟨hk, rfl, s, c, w, d, hs, rfl⟩ | ⟨hk, rfl, s, c, w, d, hs, rfl⟩ | ⟨hk, s, c, w, s', c', w', d, d', hs, hs', rfl⟩⟩ := h
  · exact mf_dPre ho hk d hs
  · exact mf_dPos ho hk d hs
  · exact mf_dBin ho hk d d' hs hs'
theorem mf_inv {i j s c : Nat} {v : Int32} (d : mf_Der g t i j s c v) :
    (j = i + 1 ∧ t i < 10 ∧ s = 5 ∧ c = 0 ∧ v = nI (t i)) ∨
    (∃ e s' c', j = e + 1 ∧ t i = 18 ∧ t e = 19 ∧ mf_Der g t (i + 1) e s' c' v ∧ s = 5 ∧ c = 1) ∨
    (∃ r, mf_O g t i j r v ∧ s = mf_lev g t r ∧ c = r + 2) := by
  refine mf_ind (Q := fun i j s c v => (j = i + 1 ∧ t i < 10 ∧ s = 5 ∧ c = 0 ∧ v = nI (t i)) ∨
    (∃ e s' c', j = e + 1 ∧ t i = 18 ∧ t e = 19 ∧ mf_Der g t (i + 1) e s' c' v ∧ s = 5 ∧ c = 1) ∨
    (∃ r, mf_O g t i j r v ∧ s = mf_lev g t r ∧ c = r + 2)) ?_ ?_ ?_ ?_ ?_ d
  · exact fun i h => Or.inl ⟨rfl, h, rfl, rfl, rfl⟩
  · exact fun i e s c v h h' d _ => Or.inr (Or.inl ⟨e, s, c, rfl, h, h', d, rfl, rfl⟩)
  · exact fun i j s c v h hk d _ hs => Or.inr (Or.inr ⟨i, ⟨h, Or.inl ⟨hk, rfl, s, c, v, d, hs, rfl⟩⟩, rfl, rfl⟩)
  · exact fun i r s c v h hk d _ hs => Or.inr (Or.inr ⟨r, ⟨h, Or.inr (Or.inl ⟨hk, rfl, s, c, v, d, hs, rfl⟩)⟩, rfl, rfl⟩)
  · exact fun i r j s c v s' c' v' h hk d _ d' _ hs hs' => Or.inr (Or.inr ⟨r, ⟨h, Or.inr (Or.inr ⟨hk, s, c, v, s', c', v', d, d', hs, hs', rfl⟩)⟩, rfl, rfl⟩)
/- bracket balance -/
def mf_w (x : Nat) : Int := if x = 18 then 1 else if x = 19 then -1 else 0
def mf_B (t : Nat → Nat) : Nat → Int
  | 0 => 0
  | x + 1 => mf_B t x + mf_w (t x)
theorem mf_w18 {x : Nat} (h : x = 18) : mf_w x = 1 := by rw [h]; rfl
theorem mf_w19 {x : Nat} (h : x = 19) : mf_w x = -1 := by rw [h]; rfl
theorem mf_w0 {x : Nat} (h : x < 18) : mf_w x = 0 := by
  unfold mf_w
  rw [if_neg (by omega), if_neg (by omega)]
theorem mf_Bs (x : Nat) : mf_B t (x + 1) = mf_B t x + mf_w (t x) := rfl
theorem mf_bal {i j s c : Nat} {v : Int32} (d : mf_Der g t i j s c v) : i < j ∧ mf_B t j = mf_B t i ∧ ∀ x, i ≤ x → x ≤ j → mf_B t i ≤ mf_B t x := by
  refine mf_ind (Q := fun i j _ _ _ => i < j ∧ mf_B t j = mf_B t i ∧ ∀ x, i ≤ x → x ≤ j → mf_B t i ≤ mf_B t x) ?_ ?_ ?_ ?_ ?_ d
  · intro i h
    have h1 := mf_Bs (t := t) i
    have h2 := mf_w0 (x := t i) (by omega)
    refine ⟨by omega, by omega, fun x h3 h4 => ?_⟩
    rcases (by omega : x = i ∨ x = i + 1) with rfl | rfl <;> omega
  · intro i e s c v h h' _ ⟨h1, h2, h3⟩
    have h4 := mf_Bs (t := t) i
    have h5 := mf_w18 h
    have h6 := mf_Bs (t := t) e
    have h7 := mf_w19 h'
    refine ⟨by omega, by omega, fun x h8 h9 => ?_⟩
    rcases (by omega : x = i ∨ x = e + 1 ∨ (i + 1 ≤ x ∧ x ≤ e)) with rfl | rfl | ⟨h10, h11⟩
    · omega
    · omega
    · have := h3 x h10 h11
      omega
  · intro i j s c v h _ _ ⟨h1, h2, h3⟩ _
    have h4 := mf_Bs (t := t) i
    have h5 := mf_w0 (x := t i) h.2
    refine ⟨by omega, by omega, fun x h8 h9 => ?_⟩
    rcases (by omega : x = i ∨ i + 1 ≤ x) with rfl | h10
    · omega
    · have := h3 x h10 h9
      omega
  · intro i r s c v h _ _ ⟨h1, h2, h3⟩ _
    have h4 := mf_Bs (t := t) r
    have h5 := mf_w0 (x := t r) h.2
    refine ⟨by omega, by omega, fun x h8 h9 => ?_⟩
    rcases (by omega : x = r + 1 ∨ x ≤ r) with rfl | h10
    · omega
    · have := h3 x h8 h10
      omega
  · intro i r j s c v s' c' v' h _ _ ⟨h1, h2, h3⟩ _ ⟨h1', h2', h3'⟩ _ _
    have h4 := mf_Bs (t := t) r
    have h5 := mf_w0 (x := t r) h.2
    refine ⟨by omega, by omega, fun x h8 h9 => ?_⟩
    rcases (by omega : x ≤ r ∨ r + 1 ≤ x) with h10 | h10
    · exact h3 x h8 h10
    · have := h3' x h10 h9
      omega
theorem mf_lt {i j s c : Nat} {v : Int32} (d : mf_Der g t i j s c v) : i < j := (mf_bal d).1
/-- an operator at bracket depth 0 of a stretch is at least as strong as the stretch -/
theorem mf_x1 {i j s c : Nat} {v : Int32} (d : mf_Der g t i j s c v) : ∀ r, i ≤ r → r < j → mf_op t r → mf_B t r = mf_B t i → s ≤ mf_lev g t r := by
  refine mf_ind (Q := fun i j s _ _ => ∀ r, i ≤ r → r < j → mf_op t r → mf_B t r = mf_B t i → s ≤ mf_lev g t r) ?_ ?_ ?_ ?_ ?_ d
  · intro i h r h1 h2 h3 _
    have : r = i := by omega
    subst this
    exact absurd h3.1 (by omega)
  · intro i e s c v h h' d _ r h1 h2 h3 h4
    have hr1 : r ≠ i := fun z => by rw [z] at h3; exact absurd h3.2 (by omega)
    have hr2 : r ≠ e := fun z => by rw [z] at h3; exact absurd h3.2 (by omega)
    have h5 := (mf_bal d).2.2 r (by omega) (by omega)
    have h6 := mf_Bs (t := t) i
    have h7 := mf_w18 h
    omega
  · intro i j s c v h _ d ih hs r h1 h2 h3 h4
    rcases (by omega : r = i ∨ i + 1 ≤ r) with rfl | h5
    · exact Nat.le_refl _
    · have h6 := mf_Bs (t := t) i
      have h7 := mf_w0 (x := t i) h.2
      exact Nat.le_trans hs (ih r h5 h2 h3 (by omega))
  · intro i r0 s c v h _ d ih hs r h1 h2 h3 h4
    rcases (by omega : r = r0 ∨ r < r0) with rfl | h5
    · exact Nat.le_refl _
    · exact Nat.le_trans hs (ih r h1 h5 h3 h4)
  · intro i r0 j s c v s' c' v' h _ d ih d' ih' hs hs' r h1 h2 h3 h4
    have hl : mf_lev g t r0 ≤ mf_nl g t r0 := by unfold mf_nl; split <;> omega
    have hr : mf_lev g t r0 ≤ mf_nr g t r0 := by unfold mf_nr; split <;> omega
    rcases (by omega : r = r0 ∨ r < r0 ∨ r0 + 1 ≤ r) with rfl | h5 | h5
    · exact Nat.le_refl _
    · exact Nat.le_trans hl (Nat.le_trans hs (ih r h1 h5 h3 h4))
    · have h6 := mf_Bs (t := t) r0
      have h7 := mf_w0 (x := t r0) h.2
      have h8 := (mf_bal d).2.1
      exact Nat.le_trans hr (Nat.le_trans hs' (ih' r h5 h2 h3 (by omega)))
/-- two operators can't both be taken last -/
theorem mf_conf {i j r r' s c s' c' : Nat} {v v' : Int32} (h1 : i ≤ r) (h2 : r < r') (h3 : r' < j) (ho : mf_op t r) (ho' : mf_op t r') (hb : mf_B t r = mf_B t i)
    (d : mf_Der g t (r + 1) j s c v) (d' : mf_Der g t i r' s' c' v') (hs : mf_nr g t r ≤ s) (hs' : mf_nl g t r' ≤ s') (hk : mf_kin g t r ≤ 3) (hk' : mf_kin g t r' < 3 ∨ mf_kin g t r' = 4) : False := by
  have h4 := mf_Bs (t := t) r
  have h5 := mf_w0 (x := t r) ho.2
  have h6 := (mf_bal d').2.1
  have a := mf_x1 d r' (by omega) h3 ho' (by omega)
  have b := mf_x1 d' r h1 h2 ho hb
  have c1 : mf_lev g t r ≤ mf_nr g t r := by unfold mf_nr; split <;> omega
  have c2 : mf_lev g t r' ≤ mf_nl g t r' := by unfold mf_nl; split <;> omega
  have e : mf_lev g t r = mf_lev g t r' := by omega
  have ek : mf_kin g t r = mf_kin g t r' := by unfold mf_kin; rw [e]
  unfold mf_nr at hs c1
  unfold mf_nl at hs' c2
  split at hs <;> split at hs' <;> omega
theorem mf_uniA {i j r r' : Nat} {v v' : Int32} (hO : mf_O g t i j r v) (hO' : mf_O g t i j r' v') (hlt : r < r') : False := by
  obtain ⟨ho, hO⟩ := hO
  obtain ⟨ho', hO'⟩ := hO'
  have A : r' < j ∧ mf_kin g t r' ≠ 3 ∧ (mf_kin g t r' < 3 ∨ mf_kin g t r' = 4) ∧ ∃ s c w, mf_Der g t i r' s c w ∧ mf_nl g t r' ≤ s := by
    rcases hO' with ⟨hk, rfl, _⟩ | ⟨hk, rfl, s, c, w, d1, hs, rfl⟩ | ⟨hk, s, c, w, s', c', w', d1, d2, hs, hs', rfl⟩
    · exfalso
      rcases hO with ⟨hk, rfl, _⟩ | ⟨hk, rfl, s, c, w, d1, hs, rfl⟩ | ⟨hk, s, c, w, s', c', w', d1, d2, hs, hs', rfl⟩
      · omega
      · have := mf_lt d1; omega
      · have := mf_lt d1; omega
    · refine ⟨by omega, by omega, by omega, s, c, w, d1, ?_⟩
      unfold mf_nl
      rw [if_neg (by omega)]
      exact hs
    · have := mf_lt d2
      exact ⟨by omega, by omega, by omega, s, c, w, d1, hs⟩
  obtain ⟨h3, _, hk', s', c', w', d', hs'⟩ := A
  rcases hO with ⟨hk, rfl, s, c, w, d1, hs, rfl⟩ | ⟨hk, rfl, s, c, w, d1, hs, rfl⟩ | ⟨hk, s, c, w, s2, c2, w2, d1, d2, hs, hs2, rfl⟩
  · refine mf_conf (Nat.le_refl _) hlt h3 ho ho' rfl d1 d' ?_ hs' (by omega) hk'
    unfold mf_nr
    rw [if_neg (by omega)]
    exact hs
  · omega
  · exact mf_conf (Nat.le_of_lt (mf_lt d1)) hlt h3 ho ho' (mf_bal d1).2.1 d2 d' hs2 hs' (by omega) hk'
theorem mf_uni0 : ∀ (n i j : Nat), j - i ≤ n → ∀ {s c s' c' : Nat} {v v' : Int32}, mf_Der g t i j s c v → mf_Der g t i j s' c' v' → s = s' ∧ c = c' ∧ v = v' := by
  intro n
  induction n with
  | zero =>
    intro i j h s c s' c' v v' d
    exact absurd (mf_lt d) (by omega)
  | succ n ih =>
    intro i j hn s c s' c' v v' d d'
    have hij := mf_lt d
    rcases mf_inv d with ⟨rfl, h2, rfl, rfl, rfl⟩ | ⟨e, s1, c1, rfl, h2, h3, dd, rfl, rfl⟩ | ⟨r, hO, rfl, rfl⟩
    · rcases mf_inv d' with ⟨_, h2', rfl, rfl, rfl⟩ | ⟨e, s1, c1, _, h2', _⟩ | ⟨r, hO, rfl, rfl⟩
      · exact ⟨rfl, rfl, rfl⟩
      · omega
      · obtain ⟨ho, ⟨_, rfl, s, c, w, d, _⟩ | ⟨_, h5, s, c, w, d, _⟩ | ⟨_, s, c, w, s', c', w', d, d', _⟩⟩ := hO
        · have := ho.1; omega
        · have := mf_lt d; omega
        · have := mf_lt d; have := mf_lt d'; omega
    · have hb := mf_bal dd
      have h6 := mf_Bs (t := t) i
      have h7 := mf_w18 h2
      rcases mf_inv d' with ⟨_, h2', _⟩ | ⟨e', s1', c1', h4, h2', h3', dd', rfl, rfl⟩ | ⟨r, hO, rfl, rfl⟩
      · omega
      · have : e' = e := by omega
        subst this
        exact ⟨rfl, rfl, (ih (i + 1) e' (by omega) dd dd').2.2⟩
      · exfalso
        obtain ⟨ho, ⟨_, rfl, _⟩ | ⟨_, h5, _⟩ | ⟨_, s, c, w, s', c', w', d1, d2, _⟩⟩ := hO
        · have := ho.2; omega
        · have : r = e := by omega
          subst this
          have := ho.2; omega
        · have a := mf_bal d1
          have b := mf_bal d2
          have := hb.2.2 r (by omega) (by omega)
          omega
    · rcases mf_inv d' with ⟨h1', h2', _⟩ | ⟨e, s1, c1, h1', h2', h3', dd, rfl, rfl⟩ | ⟨r', hO', rfl, rfl⟩
      · exfalso
        obtain ⟨ho, ⟨_, rfl, s, c, w, d, _⟩ | ⟨_, h5, s, c, w, d, _⟩ | ⟨_, s, c, w, s', c', w', d, d', _⟩⟩ := hO
        · have := ho.1; omega
        · have := mf_lt d; omega
        · have := mf_lt d; have := mf_lt d'; omega
      · exfalso
        have hb := mf_bal dd
        have h6 := mf_Bs (t := t) i
        have h7 := mf_w18 h2'
        obtain ⟨ho, ⟨_, rfl, _⟩ | ⟨_, h5, _⟩ | ⟨_, s, c, w, s', c', w', d1, d2, _⟩⟩ := hO
        · have := ho.2; omega
        · have : r = e := by omega
          subst this
          have := ho.2; omega
        · have a := mf_bal d1
          have b := mf_bal d2
          have := hb.2.2 r (by omega) (by omega)
          omega
      · have er : r = r' := by
          rcases Nat.lt_trichotomy r r' with hlt | he | hlt
          · exact (mf_uniA hO hO' hlt).elim
          · exact he
          · exact (mf_uniA hO' hO hlt).elim
        subst er
        refine ⟨rfl, rfl, ?_⟩
        obtain ⟨ho, hO⟩ := hO
        obtain ⟨_, hO'⟩ := hO'
        rcases hO with ⟨hk, rfl, s, c, w, d1, hs, rfl⟩ | ⟨hk, rfl, s, c, w, d1, hs, rfl⟩ | ⟨hk, s, c, w, s', c', w', d1, d2, hs, hs', rfl⟩
        · rcases hO' with ⟨_, _, s1, c1, w1, d1', _, rfl⟩ | ⟨hk', _⟩ | ⟨hk', _⟩
          · rw [(ih (r + 1) j (by omega) d1 d1').2.2]
          · omega
          · omega
        · rcases hO' with ⟨hk', _⟩ | ⟨_, _, s1, c1, w1, d1', _, rfl⟩ | ⟨hk', _⟩
          · omega
          · rw [(ih i r (by omega) d1 d1').2.2]
          · omega
        · rcases hO' with ⟨hk', _⟩ | ⟨hk', _⟩ | ⟨_, s1, c1, w1, s1', c1', w1', d1', d2', _, _, rfl⟩
          · omega
          · omega
          · have a := mf_lt d1
            have b := mf_lt d2
            rw [(ih i r (by omega) d1 d1').2.2, (ih (r + 1) j (by omega) d2 d2').2.2]
theorem mf_uni {i j s c s' c' : Nat} {v v' : Int32} (d : mf_Der g t i j s c v) (d' : mf_Der g t i j s' c' v') : s = s' ∧ c = c' ∧ v = v' :=
  mf_uni0 (j - i) i j (Nat.le_refl _) d d'
end
end
section
/- the machine of the component, over lists: W places that wait, P node ids, nd the nodes: place, first + 1, second + 1, strength, value, pairs, begin, end -/
abbrev mf_ND : Type := Nat × Nat × Nat × Nat × Int32 × Nat × Nat × Nat
def mf_at (d : mf_ND) : Nat := d.1
def mf_fi (d : mf_ND) : Nat := d.2.1
def mf_se (d : mf_ND) : Nat := d.2.2.1
def mf_st (d : mf_ND) : Nat := d.2.2.2.1
def mf_va (d : mf_ND) : Int32 := d.2.2.2.2.1
def mf_pa (d : mf_ND) : Nat := d.2.2.2.2.2.1
def mf_fr (d : mf_ND) : Nat := d.2.2.2.2.2.2.1
def mf_to (d : mf_ND) : Nat := d.2.2.2.2.2.2.2
abbrev mf_CO : Type := Nat × List Nat × Bool × (Nat → mf_ND)
abbrev mf_ST : Type := Bool × List Nat × mf_CO
def mf_put (nd : Nat → mf_ND) (n : Nat) (d : mf_ND) : Nat → mf_ND := fun m => if m = n then d else nd m
theorem mf_put_s {nd : Nat → mf_ND} {n : Nat} {d : mf_ND} : mf_put nd n d n = d := if_pos rfl
theorem mf_put_n {nd : Nat → mf_ND} {n m : Nat} {d : mf_ND} (h : m ≠ n) : mf_put nd n d m = nd m := if_neg h
def mf_un (g : mf_CF) (t : Nat → Nat) (N : Nat) (f : Bool) (nd : Nat → mf_ND) (p a : Nat) (P : List Nat) : mf_CO :=
  (N + 1, N :: P, f && decide (mf_lev g t p ≤ mf_st (nd a)), mf_put nd N (p, a + 1, 0, mf_lev g t p, mf_al (mf_mea g t p) (mf_va (nd a)), 0, (if mf_fr (nd a) < p then mf_fr (nd a) else p), (if mf_to (nd a) ≤ p then p else mf_to (nd a))))
def mf_bi (g : mf_CF) (t : Nat → Nat) (N : Nat) (f : Bool) (nd : Nat → mf_ND) (p a b : Nat) (P : List Nat) : mf_CO :=
  (N + 1, N :: P, f && (decide (mf_nl g t p ≤ mf_st (nd a)) && decide (mf_nr g t p ≤ mf_st (nd b))), mf_put nd N (p, a + 1, b + 1, mf_lev g t p, mf_bt (mf_mea g t p) (mf_va (nd a)) (mf_va (nd b)), 0, (if mf_fr (nd a) < p then mf_fr (nd a) else p), mf_to (nd b)))
def mf_ap (g : mf_CF) (t : Nat → Nat) (c : mf_CO) (p : Nat) : mf_CO :=
  if 3 ≤ mf_kin g t p then (match c.2.1 with | [] => c | a :: P => mf_un g t c.1 c.2.2.1 c.2.2.2 p a P)
  else (match c.2.1 with | b :: a :: P => mf_bi g t c.1 c.2.2.1 c.2.2.2 p a b P | _ => c)
def mf_tk (g : mf_CF) (l : Nat) : Option Nat → Bool
  | none => true
  | some k => decide (k < l) || (decide (l = k) && !decide (g.1 k = 1))
def mf_aw (g : mf_CF) (t : Nat → Nat) (k : Option Nat) : List Nat → mf_CO → List Nat × mf_CO
  | [], c => ([], c)
  | w :: W, c => if t w = 18 then (w :: W, c) else if mf_tk g (mf_lev g t w) k = true then mf_aw g t k W (mf_ap g t c w) else (w :: W, c)
def mf_setf (c : mf_CO) (b : Bool) : mf_CO := (c.1, c.2.1, b, c.2.2.2)
def mf_num (t : Nat → Nat) (p : Nat) (c : mf_CO) : mf_CO := (c.1 + 1, c.1 :: c.2.1, c.2.2.1, mf_put c.2.2.2 c.1 (p, 0, 0, 5, nI (t p), 0, p, p))
def mf_bg (g : mf_CF) (t : Nat → Nat) (p : Nat) (W : List Nat) (c : mf_CO) : mf_ST :=
  if t p < 10 then (true, W, mf_num t p c)
  else (false, p :: W, mf_setf c (c.2.2.1 && (decide (t p = 18) || (decide (t p < 18) && decide (mf_kin g t p = 3)))))
def mf_cld (d : mf_ND) (w p : Nat) : mf_ND := (mf_at d, mf_fi d, mf_se d, 5, mf_va d, mf_pa d + 1, w, p)
def mf_cl (c : mf_CO) (w p : Nat) : mf_CO := match c.2.1 with
  | [] => c
  | n :: _ => (c.1, c.2.1, c.2.2.1, mf_put c.2.2.2 n (mf_cld (c.2.2.2 n) w p))
def mf_clo (r : List Nat × mf_CO) (p : Nat) : mf_ST := match r.1 with
  | [] => (true, [], mf_setf r.2 false)
  | w :: W => (true, W, mf_cl r.2 w p)
def mf_go (g : mf_CF) (t : Nat → Nat) (p : Nat) (W : List Nat) (c : mf_CO) : mf_ST :=
  if t p = 19 then mf_clo (mf_aw g t none W c) p
  else if t p < 10 ∨ 18 ≤ t p ∨ mf_kin g t p = 3 then (true, W, mf_setf c false)
  else if mf_kin g t p = 4 then (true, (mf_aw g t (some (mf_lev g t p)) W c).1, mf_ap g t (mf_aw g t (some (mf_lev g t p)) W c).2 p)
  else (false, p :: (mf_aw g t (some (mf_lev g t p)) W c).1, (mf_aw g t (some (mf_lev g t p)) W c).2)
def mf_sp (g : mf_CF) (t : Nat → Nat) (p : Nat) (s : mf_ST) : mf_ST := if s.1 = true then mf_go g t p s.2.1 s.2.2 else mf_bg g t p s.2.1 s.2.2
def mf_run (g : mf_CF) (t : Nat → Nat) : Nat → Nat → mf_ST → mf_ST
  | 0, _, s => s
  | m + 1, p, s => if s.2.2.2.2.1 = true then mf_run g t m (p + 1) (mf_sp g t p s) else s
def mf_fi2 (r : List Nat × mf_CO) : mf_CO := mf_setf r.2 (r.2.2.2.1 && r.1.isEmpty)
def mf_fin (g : mf_CF) (t : Nat → Nat) (s : mf_ST) : mf_CO := if s.2.2.2.2.1 = true ∧ s.1 = true then mf_fi2 (mf_aw g t none s.2.1 s.2.2) else mf_setf s.2.2 false
def mf_nd0 : Nat → mf_ND := fun _ => (0, 0, 0, 0, 0, 0, 0, 0)
def mf_s0 (n : Nat) : mf_ST := (false, [], (0, [], decide (0 < n), mf_nd0))
def mf_all (g : mf_CF) (t : Nat → Nat) (n : Nat) : mf_CO := mf_fin g t (mf_run g t n 0 (mf_s0 n))
/- what a node stands for -/
def mf_hd (nd : Nat → mf_ND) (n q i j s : Nat) (v : Int32) : Prop := mf_pa (nd n) = q ∧ mf_fr (nd n) = i ∧ mf_to (nd n) + 1 = j ∧ mf_st (nd n) = s ∧ mf_va (nd n) = v
def mf_RC (g : mf_CF) (t : Nat → Nat) (nd : Nat → mf_ND) (Q : Nat → Nat → Nat → Nat → Nat → Nat → Int32 → Prop) : Prop :=
  (∀ n i, t i < 10 → mf_at (nd n) = i → mf_fi (nd n) = 0 → mf_se (nd n) = 0 → Q n n 0 i (i + 1) 5 (nI (t i))) ∧
  (∀ lo n q i e s v, t i = 18 → t e = 19 → Q lo n q (i + 1) e s v → Q lo n (q + 1) i (e + 1) 5 v) ∧
  (∀ lo n q i j s v, mf_op t i → mf_kin g t i = 3 → mf_at (nd (n + 1)) = i → mf_fi (nd (n + 1)) = n + 1 → mf_se (nd (n + 1)) = 0 → Q lo n q (i + 1) j s v → mf_hd nd n q (i + 1) j s v → mf_lev g t i ≤ s → Q lo (n + 1) 0 i j (mf_lev g t i) (mf_al (mf_mea g t i) v)) ∧
  (∀ lo n q i r s v, mf_op t r → mf_kin g t r = 4 → mf_at (nd (n + 1)) = r → mf_fi (nd (n + 1)) = n + 1 → mf_se (nd (n + 1)) = 0 → Q lo n q i r s v → mf_hd nd n q i r s v → mf_lev g t r ≤ s → Q lo (n + 1) 0 i (r + 1) (mf_lev g t r) (mf_al (mf_mea g t r) v)) ∧
  (∀ lo a n q q' i r j s v s' v', mf_op t r → mf_kin g t r < 3 → mf_at (nd (n + 1)) = r → mf_fi (nd (n + 1)) = a + 1 → mf_se (nd (n + 1)) = n + 1 → Q lo a q i r s v → mf_hd nd a q i r s v → Q (a + 1) n q' (r + 1) j s' v' → mf_hd nd n q' (r + 1) j s' v' → mf_nl g t r ≤ s → mf_nr g t r ≤ s' → Q lo (n + 1) 0 i j (mf_lev g t r) (mf_bt (mf_mea g t r) v v'))
def mf_R (g : mf_CF) (t : Nat → Nat) (nd : Nat → mf_ND) (lo n q i j s : Nat) (v : Int32) : Prop := ∀ Q, mf_RC g t nd Q → Q lo n q i j s v
section
variable {g : mf_CF} {t : Nat → Nat} {nd : Nat → mf_ND}
theorem mf_rNum {n i : Nat} (h : t i < 10) (h1 : mf_at (nd n) = i) (h2 : mf_fi (nd n) = 0) (h3 : mf_se (nd n) = 0) : mf_R g t nd n n 0 i (i + 1) 5 (nI (t i)) :=
  fun _ hC => hC.1 n i h h1 h2 h3
theorem mf_rBr {lo n q i e s : Nat} {v : Int32} (h : t i = 18) (h' : t e = 19) (d : mf_R g t nd lo n q (i + 1) e s v) : mf_R g t nd lo n (q + 1) i (e + 1) 5 v :=
  fun Q hC => hC.2.1 lo n q i e s v h h' (d Q hC)
theorem mf_rPre {lo n q i j s : Nat} {v : Int32} (h : mf_op t i) (hk : mf_kin g t i = 3) (h1 : mf_at (nd (n + 1)) = i) (h2 : mf_fi (nd (n + 1)) = n + 1) (h3 : mf_se (nd (n + 1)) = 0) (d : mf_R g t nd lo n q (i + 1) j s v) (hh : mf_hd nd n q (i + 1) j s v) (hs : mf_lev g t i ≤ s) : mf_R g t nd lo (n + 1) 0 i j (mf_lev g t i) (mf_al (mf_mea g t i) v) :=
  fun Q hC => hC.2.2.1 lo n q i j s v h hk h1 h2 h3 (d Q hC) hh hs
theorem mf_rPos {lo n q i r s : Nat} {v : Int32} (h : mf_op t r) (hk : mf_kin g t r = 4) (h1 : mf_at (nd (n + 1)) = r) (h2 : mf_fi (nd (n + 1)) = n + 1) (h3 : mf_se (nd (n + 1)) = 0) (d : mf_R g t nd lo n q i r s v) (hh : mf_hd nd n q i r s v) (hs : mf_lev g t r ≤ s) : mf_R g t nd lo (n + 1) 0 i (r + 1) (mf_lev g t r) (mf_al (mf_mea g t r) v) :=
  fun Q hC => hC.2.2.2.1 lo n q i r s v h hk h1 h2 h3 (d Q hC) hh hs
theorem mf_rBin {lo a n q q' i r j s s' : Nat} {v v' : Int32} (h : mf_op t r) (hk : mf_kin g t r < 3) (h1 : mf_at (nd (n + 1)) = r) (h2 : mf_fi (nd (n + 1)) = a + 1) (h3 : mf_se (nd (n + 1)) = n + 1) (d : mf_R g t nd lo a q i r s v) (hh : mf_hd nd a q i r s v) (d' : mf_R g t nd (a + 1) n q' (r + 1) j s' v') (hh' : mf_hd nd n q' (r + 1) j s' v') (hs : mf_nl g t r ≤ s) (hs' : mf_nr g t r ≤ s') : mf_R g t nd lo (n + 1) 0 i j (mf_lev g t r) (mf_bt (mf_mea g t r) v v') :=
  fun Q hC => hC.2.2.2.2 lo a n q q' i r j s v s' v' h hk h1 h2 h3 (d Q hC) hh (d' Q hC) hh' hs hs'
theorem mf_rInd {Q : Nat → Nat → Nat → Nat → Nat → Nat → Int32 → Prop}
    (num : ∀ n i, t i < 10 → mf_at (nd n) = i → mf_fi (nd n) = 0 → mf_se (nd n) = 0 → Q n n 0 i (i + 1) 5 (nI (t i)))
    (br : ∀ lo n q i e s v, t i = 18 → t e = 19 → mf_R g t nd lo n q (i + 1) e s v → Q lo n q (i + 1) e s v → Q lo n (q + 1) i (e + 1) 5 v)
    (pre : ∀ lo n q i j s v, mf_op t i → mf_kin g t i = 3 → mf_at (nd (n + 1)) = i → mf_fi (nd (n + 1)) = n + 1 → mf_se (nd (n + 1)) = 0 → mf_R g t nd lo n q (i + 1) j s v → Q lo n q (i + 1) j s v → mf_hd nd n q (i + 1) j s v → mf_lev g t i ≤ s → Q lo (n + 1) 0 i j (mf_lev g t i) (mf_al (mf_mea g t i) v))
    (pos : ∀ lo n q i r s v, mf_op t r → mf_kin g t r = 4 → mf_at (nd (n + 1)) = r → mf_fi (nd (n + 1)) = n + 1 → mf_se (nd (n + 1)) = 0 → mf_R g t nd lo n q i r s v → Q lo n q i r s v → mf_hd nd n q i r s v → mf_lev g t r ≤ s → Q lo (n + 1) 0 i (r + 1) (mf_lev g t r) (mf_al (mf_mea g t r) v))
    (bin : ∀ lo a n q q' i r j s v s' v', mf_op t r → mf_kin g t r < 3 → mf_at (nd (n + 1)) = r → mf_fi (nd (n + 1)) = a + 1 → mf_se (nd (n + 1)) = n + 1 → mf_R g t nd lo a q i r s v → Q lo a q i r s v → mf_hd nd a q i r s v → mf_R g t nd (a + 1) n q' (r + 1) j s' v' → Q (a + 1) n q' (r + 1) j s' v' → mf_hd nd n q' (r + 1) j s' v' → mf_nl g t r ≤ s → mf_nr g t r ≤ s' → Q lo (n + 1) 0 i j (mf_lev g t r) (mf_bt (mf_mea g t r) v v'))
    {lo n q i j s : Nat} {v : Int32} (d : mf_R g t nd lo n q i j s v) : Q lo n q i j s v := by
  have h := d (fun lo n q i j s v => mf_R g t nd lo n q i j s v ∧ Q lo n q i j s v) ⟨?_, ?_, ?_, ?_, ?_⟩
  · exact h.2
  · exact fun n i h h1 h2 h3 => ⟨mf_rNum h h1 h2 h3, num n i h h1 h2 h3⟩
  · exact fun lo n q i e s v h h' z => ⟨mf_rBr h h' z.1, br lo n q i e s v h h' z.1 z.2⟩
  · exact fun lo n q i j s v h hk h1 h2 h3 z hh hs => ⟨mf_rPre h hk h1 h2 h3 z.1 hh hs, pre lo n q i j s v h hk h1 h2 h3 z.1 z.2 hh hs⟩
  · exact fun lo n q i r s v h hk h1 h2 h3 z hh hs => ⟨mf_rPos h hk h1 h2 h3 z.1 hh hs, pos lo n q i r s v h hk h1 h2 h3 z.1 z.2 hh hs⟩
  · exact fun lo a n q q' i r j s v s' v' h hk h1 h2 h3 z hh z' hh' hs hs' => ⟨mf_rBin h hk h1 h2 h3 z.1 hh z'.1 hh' hs hs', bin lo a n q q' i r j s v s' v' h hk h1 h2 h3 z.1 z.2 hh z'.1 z'.2 hh' hs hs'⟩
theorem mf_rDer {lo n q i j s : Nat} {v : Int32} (d : mf_R g t nd lo n q i j s v) : ∃ c, mf_Der g t i j s c v := by
  refine mf_rInd (Q := fun _ _ _ i j s v => ∃ c, mf_Der g t i j s c v) ?_ ?_ ?_ ?_ ?_ d
  · exact fun n i h _ _ _ => ⟨0, mf_dNum h⟩
  · exact fun lo n q i e s v h h' _ ⟨c, z⟩ => ⟨1, mf_dBr h h' z⟩
  · exact fun lo n q i j s v h hk _ _ _ _ ⟨c, z⟩ _ hs => ⟨i + 2, mf_dPre h hk z hs⟩
  · exact fun lo n q i r s v h hk _ _ _ _ ⟨c, z⟩ _ hs => ⟨r + 2, mf_dPos h hk z hs⟩
  · exact fun lo a n q q' i r j s v s' v' h hk _ _ _ _ ⟨c, z⟩ _ _ ⟨c', z'⟩ _ hs hs' => ⟨r + 2, mf_dBin h hk z z' hs hs'⟩
theorem mf_rLo {lo n q i j s : Nat} {v : Int32} (d : mf_R g t nd lo n q i j s v) : lo ≤ n := by
  refine mf_rInd (Q := fun lo n _ _ _ _ _ => lo ≤ n) ?_ ?_ ?_ ?_ ?_ d
  · exact fun n i _ _ _ _ => Nat.le_refl _
  · exact fun lo n q i e s v _ _ _ z => z
  · exact fun lo n q i j s v _ _ _ _ _ _ z _ _ => Nat.le_succ_of_le z
  · exact fun lo n q i r s v _ _ _ _ _ _ z _ _ => Nat.le_succ_of_le z
  · intro lo a n q q' i r j s v s' v' _ _ _ _ _ _ z _ _ z' _ _ _
    omega
theorem mf_rFrame {lo n q i j s : Nat} {v : Int32} (d : mf_R g t nd lo n q i j s v) : ∀ nd' : Nat → mf_ND, (∀ m, m < n → nd' m = nd m) → mf_at (nd' n) = mf_at (nd n) → mf_fi (nd' n) = mf_fi (nd n) → mf_se (nd' n) = mf_se (nd n) → mf_R g t nd' lo n q i j s v := by
  refine mf_rInd (Q := fun lo n q i j s v => ∀ nd' : Nat → mf_ND, (∀ m, m < n → nd' m = nd m) → mf_at (nd' n) = mf_at (nd n) → mf_fi (nd' n) = mf_fi (nd n) → mf_se (nd' n) = mf_se (nd n) → mf_R g t nd' lo n q i j s v) ?_ ?_ ?_ ?_ ?_ d
  · exact fun n i h h1 h2 h3 nd' a b c e => mf_rNum h (b.trans h1) (c.trans h2) (e.trans h3)
  · exact fun lo n q i e s v h h' _ z nd' a b c e => mf_rBr h h' (z nd' a b c e)
  · intro lo n q i j s v h hk h1 h2 h3 _ z hh hs nd' a b c e
    have en := a n (Nat.lt_succ_self n)
    refine mf_rPre h hk (b.trans h1) (c.trans h2) (e.trans h3) (z nd' (fun m hm => a m (by omega)) (by rw [en]) (by rw [en]) (by rw [en])) ?_ hs
    unfold mf_hd at hh ⊢
    rw [en]
    exact hh
  · intro lo n q i r s v h hk h1 h2 h3 _ z hh hs nd' a b c e
    have en := a n (Nat.lt_succ_self n)
    refine mf_rPos h hk (b.trans h1) (c.trans h2) (e.trans h3) (z nd' (fun m hm => a m (by omega)) (by rw [en]) (by rw [en]) (by rw [en])) ?_ hs
    unfold mf_hd at hh ⊢
    rw [en]
    exact hh
  · intro lo a n q q' i r j s v s' v' h hk h1 h2 h3 _ z hh d' z' hh' hs hs' nd' A b c e
    have en := A n (Nat.lt_succ_self n)
    have ha := mf_rLo d'
    have ea := A a (by omega)
    refine mf_rBin h hk (b.trans h1) (c.trans h2) (e.trans h3) (z nd' (fun m hm => A m (by omega)) (by rw [ea]) (by rw [ea]) (by rw [ea])) ?_ (z' nd' (fun m hm => A m (by omega)) (by rw [en]) (by rw [en]) (by rw [en])) ?_ hs hs'
    · unfold mf_hd at hh ⊢
      rw [ea]
      exact hh
    · unfold mf_hd at hh' ⊢
      rw [en]
      exact hh'
end
end
section
/- complete: a stretch that derives is read -/
section
variable {g : mf_CF} {t : Nat → Nat}
theorem mf_ap_un {N a p : Nat} {P : List Nat} {f : Bool} {nd : Nat → mf_ND} (hk : 3 ≤ mf_kin g t p) : mf_ap g t (N, a :: P, f, nd) p = mf_un g t N f nd p a P := if_pos hk
theorem mf_ap_bi {N a b p : Nat} {P : List Nat} {f : Bool} {nd : Nat → mf_ND} (hk : mf_kin g t p < 3) : mf_ap g t (N, b :: a :: P, f, nd) p = mf_bi g t N f nd p a b P := if_neg (by omega)
theorem mf_aw_nil {k : Option Nat} {c : mf_CO} : mf_aw g t k [] c = ([], c) := rfl
theorem mf_aw_18 {k : Option Nat} {w : Nat} {W : List Nat} {c : mf_CO} (h : t w = 18) : mf_aw g t k (w :: W) c = (w :: W, c) := if_pos h
theorem mf_aw_go {k : Option Nat} {w : Nat} {W : List Nat} {c : mf_CO} (h : t w ≠ 18) (h' : mf_tk g (mf_lev g t w) k = true) : mf_aw g t k (w :: W) c = mf_aw g t k W (mf_ap g t c w) := by
  show (if t w = 18 then _ else _) = _
  rw [if_neg h, if_pos h']
theorem mf_aw_no {k : Option Nat} {w : Nat} {W : List Nat} {c : mf_CO} (h : t w ≠ 18) (h' : mf_tk g (mf_lev g t w) k = false) : mf_aw g t k (w :: W) c = (w :: W, c) := by
  show (if t w = 18 then _ else _) = _
  rw [if_neg h, if_neg (by rw [h']; exact Bool.false_ne_true)]
theorem mf_run1 {m p : Nat} {s : mf_ST} (h : s.2.2.2.2.1 = true) : mf_run g t (m + 1) p s = mf_run g t m (p + 1) (mf_sp g t p s) := if_pos h
theorem mf_run0 {m p : Nat} {s : mf_ST} (h : s.2.2.2.2.1 = false) : mf_run g t m p s = s := by
  cases m with
  | zero => rfl
  | succ m => exact if_neg (by rw [h]; exact Bool.false_ne_true)
theorem mf_run_add (b : Nat) : ∀ (a p : Nat) (s : mf_ST), mf_run g t (a + b) p s = mf_run g t b (p + a) (mf_run g t a p s) := by
  intro a
  induction a with
  | zero => intro p s; rw [Nat.zero_add, Nat.add_zero]; rfl
  | succ a ih =>
    intro p s
    cases h : s.2.2.2.2.1 with
    | false => rw [mf_run0 h, mf_run0 h, mf_run0 h]
    | true =>
      rw [show a + 1 + b = (a + b) + 1 from by omega, mf_run1 h, mf_run1 h, ih, show p + 1 + a = p + (a + 1) from by omega]
theorem mf_sp_t {p : Nat} {W : List Nat} {c : mf_CO} : mf_sp g t p (true, W, c) = mf_go g t p W c := if_pos rfl
theorem mf_sp_f {p : Nat} {W : List Nat} {c : mf_CO} : mf_sp g t p (false, W, c) = mf_bg g t p W c := if_neg (by exact Bool.false_ne_true)
/-- nothing of W is taken ahead of an operator as strong as s -/
def mf_cmp (g : mf_CF) (t : Nat → Nat) (W : List Nat) (s : Nat) : Prop := ∀ w W', W = w :: W' → t w ≠ 18 → ∀ l, s ≤ l → g.1 l ≠ 3 → mf_tk g (mf_lev g t w) (some l) = false
def mf_tks (g : mf_CF) (k : Option Nat) (s : Nat) : Prop := ∀ l, s ≤ l → mf_tk g l k = true
theorem mf_cmp_mono {W : List Nat} {s s' : Nat} (h : mf_cmp g t W s) (hs : s ≤ s') : mf_cmp g t W s' := fun w W' e h1 l h2 h3 => h w W' e h1 l (Nat.le_trans hs h2) h3
theorem mf_tks_mono {k : Option Nat} {s s' : Nat} (h : mf_tks g k s) (hs : s ≤ s') : mf_tks g k s' := fun l h2 => h l (Nat.le_trans hs h2)
theorem mf_aw_stop {W : List Nat} {s : Nat} {c : mf_CO} (h : mf_cmp g t W s) (hk : g.1 s ≠ 3) : mf_aw g t (some s) W c = (W, c) := by
  cases W with
  | nil => rfl
  | cons w W =>
    by_cases h1 : t w = 18
    · exact mf_aw_18 h1
    · exact mf_aw_no h1 (h w W rfl h1 s (Nat.le_refl _) hk)
theorem mf_tk_gt {l k : Nat} (h : k < l) : mf_tk g l (some k) = true := by
  show (decide (k < l) || _) = true
  rw [decide_eq_true h, Bool.true_or]
theorem mf_tk_eq {k : Nat} (h : g.1 k ≠ 1) : mf_tk g k (some k) = true := by
  show (decide (k < k) || (decide (k = k) && !decide (g.1 k = 1))) = true
  rw [decide_eq_true (rfl : k = k), decide_eq_false h, decide_eq_false (Nat.lt_irrefl k)]
  rfl
theorem mf_tk_lt {l k : Nat} (h : l < k) : mf_tk g l (some k) = false := by
  show (decide (k < l) || (decide (l = k) && !decide (g.1 k = 1))) = false
  rw [decide_eq_false (by omega : ¬ k < l), decide_eq_false (by omega : ¬ l = k)]
  rfl
theorem mf_tk_r {k : Nat} (h : g.1 k = 1) : mf_tk g k (some k) = false := by
  show (decide (k < k) || (decide (k = k) && !decide (g.1 k = 1))) = false
  rw [decide_eq_true (rfl : k = k), decide_eq_true h, decide_eq_false (Nat.lt_irrefl k)]
  rfl
/-- cF is c with one operand more, which stands for [i,j) -/
def mf_Pu (g : mf_CF) (t : Nat → Nat) (c cF : mf_CO) (i j s : Nat) (v : Int32) : Prop :=
  ∃ n nd q, cF = (n + 1, n :: c.2.1, true, nd) ∧ c.1 ≤ n ∧ (∀ m, m < c.1 → nd m = c.2.2.2 m) ∧ mf_R g t nd c.1 n q i j s v ∧ mf_hd nd n q i j s v
theorem mf_pu_un {c : mf_CO} {n q i j p i0 j0 s : Nat} {nd : Nat → mf_ND} {v : Int32} (h1 : c.1 ≤ n) (h2 : ∀ m, m < c.1 → nd m = c.2.2.2 m) (hR : mf_R g t nd c.1 n q i j s v) (hh : mf_hd nd n q i j s v)
    (hs : mf_lev g t p ≤ s) (hi : (if i < p then i else p) = i0) (hj : (if j ≤ p + 1 then p + 1 else j) = j0)
    (rule : ∀ nd' : Nat → mf_ND, mf_at (nd' (n + 1)) = p → mf_fi (nd' (n + 1)) = n + 1 → mf_se (nd' (n + 1)) = 0 → mf_R g t nd' c.1 n q i j s v → mf_hd nd' n q i j s v → mf_R g t nd' c.1 (n + 1) 0 i0 j0 (mf_lev g t p) (mf_al (mf_mea g t p) v)) :
    mf_Pu g t c (mf_un g t (n + 1) true nd p n c.2.1) i0 j0 (mf_lev g t p) (mf_al (mf_mea g t p) v) := by
  obtain ⟨e1, e2, e3, e4, e5⟩ := hh
  refine ⟨n + 1, mf_put nd (n + 1) (p, n + 1, 0, mf_lev g t p, mf_al (mf_mea g t p) (mf_va (nd n)), 0, (if mf_fr (nd n) < p then mf_fr (nd n) else p), (if mf_to (nd n) ≤ p then p else mf_to (nd n))), 0, ?_, by omega, ?_, rule _ (by rw [mf_put_s]; rfl) (by rw [mf_put_s]; rfl) (by rw [mf_put_s]; rfl) (mf_rFrame hR _ (fun m hm => mf_put_n (by omega)) (by rw [mf_put_n (by omega)]) (by rw [mf_put_n (by omega)]) (by rw [mf_put_n (by omega)])) ?_, ?_⟩
  · unfold mf_un
    rw [decide_eq_true (by rw [e4]; exact hs)]
    rfl
  · intro m hm
    rw [mf_put_n (by omega)]
    exact h2 m hm
  · unfold mf_hd
    rw [mf_put_n (by omega)]
    exact ⟨e1, e2, e3, e4, e5⟩
  · unfold mf_hd
    rw [mf_put_s]
    refine ⟨rfl, ?_, ?_, rfl, ?_⟩
    · show (if mf_fr (nd n) < p then mf_fr (nd n) else p) = i0
      rw [e2]; exact hi
    · show (if mf_to (nd n) ≤ p then p else mf_to (nd n)) + 1 = j0
      rw [← hj]
      split <;> split <;> omega
    · show mf_al (mf_mea g t p) (mf_va (nd n)) = _
      rw [e5]
theorem mf_read {i j s cc : Nat} {v : Int32} (d : mf_Der g t i j s cc v) : ∀ (W : List Nat) (c : mf_CO), c.2.2.1 = true → mf_cmp g t W s →
    ∃ W' c', mf_run g t (j - i) i (false, W, c) = (true, W', c') ∧ c'.2.2.1 = true ∧ ∃ cF, mf_Pu g t c cF i j s v ∧ ∀ k, mf_tks g k s → mf_aw g t k W' c' = mf_aw g t k W cF := by
  refine mf_ind (Q := fun i j s _ v => ∀ (W : List Nat) (c : mf_CO), c.2.2.1 = true → mf_cmp g t W s →
    ∃ W' c', mf_run g t (j - i) i (false, W, c) = (true, W', c') ∧ c'.2.2.1 = true ∧ ∃ cF, mf_Pu g t c cF i j s v ∧ ∀ k, mf_tks g k s → mf_aw g t k W' c' = mf_aw g t k W cF) ?_ ?_ ?_ ?_ ?_ d
  · intro i h W c hf _
    refine ⟨W, mf_num t i c, ?_, hf, mf_num t i c, ?_, fun k _ => rfl⟩
    · rw [show i + 1 - i = 0 + 1 from by omega, mf_run1 (by exact hf), mf_sp_f]
      show mf_bg g t i W c = _
      unfold mf_bg
      rw [if_pos h]
    · refine ⟨c.1, mf_put c.2.2.2 c.1 (i, 0, 0, 5, nI (t i), 0, i, i), 0, ?_, Nat.le_refl _, ?_, ?_, ?_⟩
      · unfold mf_num
        rw [hf]
      · intro m hm
        exact mf_put_n (by omega)
      · exact mf_rNum h (by rw [mf_put_s]; rfl) (by rw [mf_put_s]; rfl) (by rw [mf_put_s]; rfl)
      · unfold mf_hd
        rw [mf_put_s]
        exact ⟨rfl, rfl, rfl, rfl, rfl⟩
  · intro i e s cc v h h' d ih W c hf _
    have hlt := mf_lt d
    obtain ⟨W1, c1, hr, hf1, cF, hP, hA⟩ := ih (i :: W) c hf (fun w W' e' h1 => absurd h (by cases e'; exact h1))
    have hA' := hA none (fun _ _ => rfl)
    rw [mf_aw_18 h] at hA'
    refine ⟨W, mf_cl cF i e, ?_, ?_, mf_cl cF i e, ?_, fun k _ => rfl⟩
    · have hb : mf_bg g t i W c = (false, i :: W, c) := by
        unfold mf_bg
        rw [if_neg (by omega), decide_eq_true h, hf]
        unfold mf_setf
        rw [Bool.true_or, Bool.and_true, ← hf]
      have s0 : mf_run g t 1 i (false, W, c) = (false, i :: W, c) := by
        rw [mf_run1 (by exact hf), mf_sp_f, hb]
        rfl
      rw [show e + 1 - i = (1 + (e - (i + 1))) + 1 from by omega, mf_run_add, mf_run_add, s0, hr, show i + (1 + (e - (i + 1))) = e from by omega, mf_run1 (by exact hf1), mf_sp_t]
      show mf_go g t e W1 c1 = _
      unfold mf_go
      rw [if_pos h', hA']
      rfl
    · obtain ⟨n, nd, q, rfl, _⟩ := hP
      rfl
    · obtain ⟨n, nd, q, rfl, h1, h2, hR, hh⟩ := hP
      obtain ⟨e1, e2, e3, e4, e5⟩ := hh
      refine ⟨n, _, q + 1, rfl, h1, ?_, mf_rBr h h' (mf_rFrame hR _ (fun m hm => mf_put_n (by omega)) (by rw [mf_put_s]; rfl) (by rw [mf_put_s]; rfl) (by rw [mf_put_s]; rfl)), ?_⟩
      · intro m hm
        show mf_put nd n _ m = _
        rw [mf_put_n (by omega)]
        exact h2 m hm
      · unfold mf_hd
        rw [mf_put_s]
        exact ⟨congrArg (· + 1) e1, rfl, rfl, rfl, e5⟩
  · intro i j s cc v h hk d ih hs W c hf _
    have hlt := mf_lt d
    have h18 : t i ≠ 18 := by have := h.2; omega
    have hc : mf_cmp g t (i :: W) s := by
      intro w W' e' h1 l h2 h3
      cases e'
      refine mf_tk_lt ?_
      rcases (by omega : l = mf_lev g t i ∨ mf_lev g t i < l) with e | e
      · rw [e] at h3
        exact absurd hk h3
      · exact e
    obtain ⟨W1, c1, hr, hf1, cF, hP, hA⟩ := ih (i :: W) c hf hc
    obtain ⟨n, nd, q, rfl, h1, h2, hR, hh⟩ := hP
    refine ⟨W1, c1, ?_, hf1, mf_un g t (n + 1) true nd i n c.2.1, ?_, ?_⟩
    · rw [show j - i = 0 + 1 + (j - (i + 1)) from by omega, mf_run_add, mf_run1 (by exact hf), mf_sp_f]
      have hb : mf_bg g t i W c = (false, i :: W, c) := by
        unfold mf_bg
        have := h.1
        rw [if_neg (by omega), decide_eq_true h.2, decide_eq_true hk, hf]
        unfold mf_setf
        rw [Bool.and_true, Bool.or_true, Bool.and_true, ← hf]
      rw [hb]
      exact hr
    · refine mf_pu_un h1 h2 hR hh hs (if_neg (by omega)) (if_neg (by omega)) ?_
      intro nd' a b c' e f
      exact mf_rPre h hk a b c' e f hs
    · intro k hk'
      rw [hA k (mf_tks_mono hk' hs), mf_aw_go h18 (hk' _ (Nat.le_refl _)), mf_ap_un (by omega)]
  · intro i r s cc v h hk d ih hs W c hf hcmp
    have hlt := mf_lt d
    obtain ⟨W1, c1, hr, hf1, cF, hP, hA⟩ := ih W c hf (mf_cmp_mono hcmp hs)
    obtain ⟨n, nd, q, rfl, h1, h2, hR, hh⟩ := hP
    have hks : mf_tks g (some (mf_lev g t r)) s := by
      intro l hl
      rcases (by omega : l = mf_lev g t r ∨ mf_lev g t r < l) with e | e
      · rw [e]
        refine mf_tk_eq ?_
        show mf_kin g t r ≠ 1
        omega
      · exact mf_tk_gt e
    have hA' := hA _ hks
    have h3 : g.1 (mf_lev g t r) ≠ 3 := by
      show mf_kin g t r ≠ 3
      omega
    rw [mf_aw_stop hcmp h3] at hA'
    refine ⟨W, mf_un g t (n + 1) true nd r n c.2.1, ?_, ?_, mf_un g t (n + 1) true nd r n c.2.1, ?_, fun k _ => rfl⟩
    · rw [show r + 1 - i = (r - i) + 1 from by omega, mf_run_add, hr, show i + (r - i) = r from by omega, mf_run1 (by exact hf1), mf_sp_t]
      show mf_go g t r W1 c1 = _
      unfold mf_go
      have a := h.1
      have b := h.2
      rw [if_neg (by omega), if_neg (by omega), if_pos hk, hA']
      show (true, W, mf_ap g t (n + 1, n :: c.2.1, true, nd) r) = _
      rw [mf_ap_un (by omega)]
    · show (true && decide (mf_lev g t r ≤ mf_st (nd n))) = true
      rw [decide_eq_true (by rw [hh.2.2.2.1]; exact hs)]
      rfl
    · refine mf_pu_un h1 h2 hR hh hs (if_pos (by omega)) (if_pos (by omega)) ?_
      intro nd' a b c' e f
      exact mf_rPos h hk a b c' e f hs
  · intro i r j s cc v s' cc' v' h hk d ih d' ih' hs hs' W c hf hcmp
    have hlt := mf_lt d
    have hlt' := mf_lt d'
    have hl : mf_lev g t r ≤ mf_nl g t r := by unfold mf_nl; split <;> omega
    have hr0 : mf_lev g t r ≤ mf_nr g t r := by unfold mf_nr; split <;> omega
    have h18 : t r ≠ 18 := by have := h.2; omega
    obtain ⟨W1, c1, hr, hf1, cF, hP, hA⟩ := ih W c hf (mf_cmp_mono hcmp (by omega))
    obtain ⟨n, nd, q, rfl, h1, h2, hR, hh⟩ := hP
    have hks : mf_tks g (some (mf_lev g t r)) s := by
      intro l hl'
      rcases (by omega : l = mf_lev g t r ∨ mf_lev g t r < l) with e | e
      · rw [e]
        refine mf_tk_eq ?_
        show mf_kin g t r ≠ 1
        intro z
        have : mf_nl g t r = mf_lev g t r + 1 := if_pos (Or.inl z)
        omega
      · exact mf_tk_gt e
    have hA' := hA _ hks
    have h3 : g.1 (mf_lev g t r) ≠ 3 := by
      show mf_kin g t r ≠ 3
      omega
    rw [mf_aw_stop hcmp h3] at hA'
    have hc : mf_cmp g t (r :: W) s' := by
      intro w W' e' h1 l h2 h3
      cases e'
      rcases (by omega : l = mf_lev g t r ∨ mf_lev g t r < l) with e | e
      · rw [e]
        refine mf_tk_r ?_
        show mf_kin g t r = 1
        have : ¬ (mf_kin g t r = 0 ∨ mf_kin g t r = 2) := by
          intro z
          have : mf_nr g t r = mf_lev g t r + 1 := if_pos z
          omega
        omega
      · exact mf_tk_lt e
    obtain ⟨W2, c2, hr2, hf2, cF2, hP2, hA2⟩ := ih' (r :: W) (n + 1, n :: c.2.1, true, nd) rfl hc
    obtain ⟨n', nd', q', rfl, h1', h2', hR', hh'⟩ := hP2
    have h1' : n + 1 ≤ n' := h1'
    have en : nd' n = nd n := h2' n (Nat.lt_succ_self n)
    have hh1 : mf_hd nd' n q i r s v := by unfold mf_hd at hh ⊢; rw [en]; exact hh
    refine ⟨W2, c2, ?_, hf2, mf_bi g t (n' + 1) true nd' r n n' c.2.1, ?_, ?_⟩
    · rw [show j - i = ((r - i) + 1) + (j - (r + 1)) from by omega, mf_run_add, mf_run_add, hr, show i + (r - i) = r from by omega, mf_run1 (by exact hf1), mf_sp_t]
      have hb : mf_go g t r W1 c1 = (false, r :: W, (n + 1, n :: c.2.1, true, nd)) := by
        unfold mf_go
        have a := h.1
        have b := h.2
        rw [if_neg (by omega), if_neg (by omega), if_neg (by omega), hA']
      rw [hb]
      show mf_run g t (j - (r + 1)) (i + (r - i + 1)) (false, r :: W, (n + 1, n :: c.2.1, true, nd)) = _
      rw [show i + (r - i + 1) = r + 1 from by omega]
      exact hr2
    · refine ⟨n' + 1, mf_put nd' (n' + 1) (r, n + 1, n' + 1, mf_lev g t r, mf_bt (mf_mea g t r) (mf_va (nd' n)) (mf_va (nd' n')), 0, (if mf_fr (nd' n) < r then mf_fr (nd' n) else r), mf_to (nd' n')), 0, ?_, by omega, ?_, mf_rBin h hk (by rw [mf_put_s]; rfl) (by rw [mf_put_s]; rfl) (by rw [mf_put_s]; rfl) (mf_rFrame hR _ (fun m hm => ?_) ?_ ?_ ?_) ?_ (mf_rFrame hR' _ (fun m hm => mf_put_n (by omega)) (by rw [mf_put_n (by omega)]) (by rw [mf_put_n (by omega)]) (by rw [mf_put_n (by omega)])) ?_ hs hs', ?_⟩
      · unfold mf_bi
        rw [decide_eq_true (by rw [hh1.2.2.2.1]; exact hs), decide_eq_true (by rw [hh'.2.2.2.1]; exact hs')]
        rfl
      · intro m hm
        rw [mf_put_n (by omega)]
        exact (h2' m (by show m < n + 1; omega)).trans (h2 m hm)
      · rw [mf_put_n (by omega)]
        exact h2' m (by show m < n + 1; omega)
      · rw [mf_put_n (by omega), en]
      · rw [mf_put_n (by omega), en]
      · rw [mf_put_n (by omega), en]
      · unfold mf_hd
        rw [mf_put_n (by omega)]
        exact hh1
      · unfold mf_hd
        rw [mf_put_n (by omega)]
        exact hh'
      · unfold mf_hd
        rw [mf_put_s]
        refine ⟨rfl, ?_, ?_, rfl, ?_⟩
        · show (if mf_fr (nd' n) < r then mf_fr (nd' n) else r) = i
          rw [hh1.2.1]
          exact if_pos hlt
        · exact hh'.2.2.1
        · show mf_bt (mf_mea g t r) (mf_va (nd' n)) (mf_va (nd' n')) = _
          rw [hh1.2.2.2.2, hh'.2.2.2.2]
    · intro k hk'
      rw [hA2 k (mf_tks_mono hk' (by omega)), mf_aw_go h18 (hk' _ (Nat.le_refl _)), mf_ap_bi hk]
theorem mf_complete {n s cc : Nat} {v : Int32} (d : mf_Der g t 0 n s cc v) : ∃ m nd q, mf_all g t n = (m + 1, [m], true, nd) ∧ mf_R g t nd 0 m q 0 n s v ∧ mf_hd nd m q 0 n s v := by
  have hlt := mf_lt d
  obtain ⟨W', c', hr, hf, cF, ⟨m, nd, q, rfl, h1, h2, hR, hh⟩, hA⟩ := mf_read d [] (0, [], decide (0 < n), mf_nd0) (decide_eq_true hlt) (fun w W' e => nomatch e)
  refine ⟨m, nd, q, ?_, hR, hh⟩
  unfold mf_all mf_s0
  have hr : mf_run g t n 0 (false, [], 0, [], decide (0 < n), mf_nd0) = (true, W', c') := hr
  rw [hr]
  unfold mf_fin
  rw [if_pos ⟨hf, rfl⟩]
  show mf_fi2 (mf_aw g t none W' c') = _
  rw [hA none (fun _ _ => rfl)]
  rfl
end
end
section
/- counting, and sound: what the machine takes derives -/
def mf_dec : Nat → List Nat → Prop
  | _, [] => True
  | b, n :: P => n < b ∧ mf_dec n P
def mf_bn (g : mf_CF) (t : Nat → Nat) : List Nat → Nat
  | [] => 0
  | w :: W => (if t w ≠ 18 ∧ mf_kin g t w < 3 then 1 else 0) + mf_bn g t W
def mf_SI (g : mf_CF) (t : Nat → Nat) (pos wh : Nat) (W : List Nat) (c : mf_CO) : Prop :=
  c.1 + W.length ≤ pos ∧ c.2.1.length = mf_bn g t W + wh ∧ mf_dec c.1 c.2.1 ∧ ∀ w, w ∈ W → w < pos ∧ (t w = 18 ∨ (mf_op t w ∧ mf_kin g t w ≤ 3))
def mf_LF (g : mf_CF) (t : Nat → Nat) (nd : Nat → mf_ND) : List Nat → List Nat → Nat → Prop
  | [], P, pos => P = [] ∧ pos = 0
  | w :: W, P, pos => pos = w + 1 ∧ (((t w = 18 ∨ (mf_op t w ∧ mf_kin g t w = 3)) ∧ mf_LF g t nd W P w) ∨
      (mf_op t w ∧ mf_kin g t w < 3 ∧ ∃ n P' i cc v, P = n :: P' ∧ mf_Der g t i w (mf_st (nd n)) cc v ∧ mf_LF g t nd W P' i))
def mf_LT (g : mf_CF) (t : Nat → Nat) (nd : Nat → mf_ND) (W P : List Nat) (pos : Nat) : Prop :=
  ∃ n P' i cc v, P = n :: P' ∧ mf_Der g t i pos (mf_st (nd n)) cc v ∧ mf_LF g t nd W P' i
section
variable {g : mf_CF} {t : Nat → Nat}
theorem mf_dec_mono {b b' : Nat} {P : List Nat} (h : mf_dec b P) (hb : b ≤ b') : mf_dec b' P := by
  cases P with
  | nil => exact True.intro
  | cons n P => exact ⟨Nat.lt_of_lt_of_le h.1 hb, h.2⟩
theorem mf_dec_len : ∀ {P : List Nat} {b : Nat}, mf_dec b P → P.length ≤ b := by
  intro P
  induction P with
  | nil => intro b _; exact Nat.zero_le _
  | cons n P ih =>
    intro b h
    have h1 := ih h.2
    have h2 := h.1
    show P.length + 1 ≤ b
    omega
theorem mf_dec_mem : ∀ {P : List Nat} {b : Nat}, mf_dec b P → ∀ m, m ∈ P → m < b := by
  intro P
  induction P with
  | nil => intro b _ m hm; exact nomatch hm
  | cons n P ih =>
    intro b h m hm
    rcases List.mem_cons.mp hm with rfl | hm
    · exact h.1
    · exact Nat.lt_trans (ih h.2 m hm) h.1
theorem mf_bn3 {w : Nat} {W : List Nat} (h : t w = 18 ∨ 3 ≤ mf_kin g t w) : mf_bn g t (w :: W) = mf_bn g t W := by
  show (if _ then 1 else 0) + _ = _
  rw [if_neg (by omega), Nat.zero_add]
theorem mf_bn1 {w : Nat} {W : List Nat} (h : t w ≠ 18) (h' : mf_kin g t w < 3) : mf_bn g t (w :: W) = 1 + mf_bn g t W := by
  show (if _ then 1 else 0) + _ = _
  rw [if_pos ⟨h, h'⟩]
theorem mf_shape {pos w : Nat} {W : List Nat} {c : mf_CO} (h : mf_SI g t pos 1 (w :: W) c) (h18 : t w ≠ 18) :
    (mf_kin g t w = 3 ∧ ∃ N a P f nd, c = (N, a :: P, f, nd)) ∨ (mf_kin g t w < 3 ∧ ∃ N b a P f nd, c = (N, b :: a :: P, f, nd)) := by
  obtain ⟨N, P, f, nd⟩ := c
  obtain ⟨h1, h2, h3, h4⟩ := h
  have h2 : P.length = mf_bn g t (w :: W) + 1 := h2
  rcases (h4 w (List.mem_cons_self)).2 with e | ⟨_, e⟩
  · exact absurd e h18
  · rcases (by omega : mf_kin g t w = 3 ∨ mf_kin g t w < 3) with e | e
    · cases P with
      | nil => exact absurd h2 (by simp)
      | cons a P => exact Or.inl ⟨e, N, a, P, f, nd, rfl⟩
    · rw [mf_bn1 h18 e] at h2
      cases P with
      | nil => exact absurd h2 (by simp)
      | cons b P =>
        cases P with
        | nil => exact absurd h2 (by simp)
        | cons a P => exact Or.inr ⟨e, N, b, a, P, f, nd, rfl⟩
theorem mf_ap_SI {pos w : Nat} {W : List Nat} {c : mf_CO} (h : mf_SI g t pos 1 (w :: W) c) (h18 : t w ≠ 18) : mf_SI g t pos 1 W (mf_ap g t c w) := by
  rcases mf_shape h h18 with ⟨e, N, a, P, f, nd, rfl⟩ | ⟨e, N, b, a, P, f, nd, rfl⟩
  · rw [mf_ap_un (by omega)]
    obtain ⟨h1, h2, h3, h4⟩ := h
    rw [mf_bn3 (Or.inr (by omega))] at h2
    refine ⟨?_, h2, ⟨Nat.lt_succ_self N, mf_dec_mono h3.2 (Nat.le_of_lt h3.1)⟩, fun x hx => h4 x (List.mem_cons_of_mem _ hx)⟩
    have h1 : N + (W.length + 1) ≤ pos := h1
    show N + 1 + W.length ≤ pos
    omega
  · rw [mf_ap_bi e]
    obtain ⟨h1, h2, h3, h4⟩ := h
    rw [mf_bn1 h18 e] at h2
    have h2 : P.length + 1 + 1 = 1 + mf_bn g t W + 1 := h2
    have h1 : N + (W.length + 1) ≤ pos := h1
    have h5 := h3.1
    have h6 := h3.2.1
    refine ⟨?_, ?_, ⟨Nat.lt_succ_self N, mf_dec_mono h3.2.2 (by omega)⟩, fun x hx => h4 x (List.mem_cons_of_mem _ hx)⟩
    · show N + 1 + W.length ≤ pos
      omega
    · show P.length + 1 = _
      omega
theorem mf_aw_SI {pos : Nat} (k : Option Nat) : ∀ (W : List Nat) (c : mf_CO), mf_SI g t pos 1 W c → mf_SI g t pos 1 (mf_aw g t k W c).1 (mf_aw g t k W c).2 := by
  intro W
  induction W with
  | nil => intro c h; exact h
  | cons w W ih =>
    intro c h
    by_cases h18 : t w = 18
    · rw [mf_aw_18 h18]
      exact h
    · cases hk : mf_tk g (mf_lev g t w) k with
      | false =>
        rw [mf_aw_no h18 hk]
        exact h
      | true =>
        rw [mf_aw_go h18 hk]
        exact ih _ (mf_ap_SI h h18)
theorem mf_aw_none18 : ∀ (W : List Nat) (c : mf_CO) {w : Nat} {W' : List Nat}, (mf_aw g t none W c).1 = w :: W' → t w = 18 := by
  intro W
  induction W with
  | nil => intro c w W' h; exact nomatch h
  | cons x W ih =>
    intro c w W' h
    by_cases h18 : t x = 18
    · rw [mf_aw_18 h18] at h
      cases h
      exact h18
    · rw [mf_aw_go h18 rfl] at h
      exact ih _ h
theorem mf_ap_f {c : mf_CO} {p : Nat} (h : (mf_ap g t c p).2.2.1 = true) : c.2.2.1 = true := by
  obtain ⟨N, P, f, nd⟩ := c
  unfold mf_ap at h
  split at h
  · cases P with
    | nil => exact h
    | cons a P => exact (Bool.and_eq_true_iff.mp h).1
  · cases P with
    | nil => exact h
    | cons b P =>
      cases P with
      | nil => exact h
      | cons a P => exact (Bool.and_eq_true_iff.mp h).1
theorem mf_aw_f (k : Option Nat) : ∀ (W : List Nat) (c : mf_CO), (mf_aw g t k W c).2.2.2.1 = true → c.2.2.1 = true := by
  intro W
  induction W with
  | nil => intro c h; exact h
  | cons w W ih =>
    intro c h
    by_cases h18 : t w = 18
    · rw [mf_aw_18 h18] at h
      exact h
    · cases hk : mf_tk g (mf_lev g t w) k with
      | false =>
        rw [mf_aw_no h18 hk] at h
        exact h
      | true =>
        rw [mf_aw_go h18 hk] at h
        exact mf_ap_f (ih _ h)
theorem mf_LF_frame {nd nd' : Nat → mf_ND} : ∀ {W P : List Nat} {b pos : Nat}, mf_LF g t nd W P pos → mf_dec b P → (∀ m, m < b → nd' m = nd m) → mf_LF g t nd' W P pos := by
  intro W
  induction W with
  | nil => intro P b pos h _ _; exact h
  | cons w W ih =>
    intro P b pos h hd he
    obtain ⟨h1, ⟨h2, h3⟩ | ⟨h2, h3, n, P', i, cc, v, rfl, h4, h5⟩⟩ := h
    · exact ⟨h1, Or.inl ⟨h2, ih h3 hd he⟩⟩
    · refine ⟨h1, Or.inr ⟨h2, h3, n, P', i, cc, v, rfl, ?_, ih h5 hd.2 (fun m hm => he m (Nat.lt_trans hm hd.1))⟩⟩
      rw [he n hd.1]
      exact h4
theorem mf_ap_L {w pos : Nat} {W : List Nat} {c : mf_CO} (h18 : t w ≠ 18) (hd : mf_dec c.1 c.2.1) (hL : mf_LT g t c.2.2.2 (w :: W) c.2.1 pos) (hf : (mf_ap g t c w).2.2.1 = true) :
    mf_LT g t (mf_ap g t c w).2.2.2 W (mf_ap g t c w).2.1 pos := by
  obtain ⟨N, P, f, nd⟩ := c
  obtain ⟨n, P', i, cc, v, e, h1, h2⟩ := hL
  have e : P = n :: P' := e
  subst e
  obtain ⟨rfl, ⟨h3, h4⟩ | ⟨h3, h4, a, P'', i', cc', v', rfl, h5, h6⟩⟩ := h2
  · rcases h3 with h3 | ⟨h3, hk⟩
    · exact absurd h3 h18
    · rw [mf_ap_un (by omega)] at hf ⊢
      have hs := of_decide_eq_true (Bool.and_eq_true_iff.mp hf).2
      refine ⟨N, P', w, w + 2, mf_al (mf_mea g t w) v, rfl, ?_, ?_⟩
      · show mf_Der g t w pos (mf_st (mf_put nd N _ N)) _ _
        rw [mf_put_s]
        exact mf_dPre h3 hk h1 hs
      · exact mf_LF_frame h4 hd.2 (fun m hm => mf_put_n (by have := hd.1; simp only at this; omega))
  · rw [mf_ap_bi h4] at hf ⊢
    have hs := Bool.and_eq_true_iff.mp (Bool.and_eq_true_iff.mp hf).2
    refine ⟨N, P'', i', w + 2, mf_bt (mf_mea g t w) v' v, rfl, ?_, ?_⟩
    · show mf_Der g t i' pos (mf_st (mf_put nd N _ N)) _ _
      rw [mf_put_s]
      exact mf_dBin h3 h4 h5 h1 (of_decide_eq_true hs.1) (of_decide_eq_true hs.2)
    · exact mf_LF_frame h6 hd.2.2 (fun m hm => mf_put_n (by have := hd.1; have := hd.2.1; simp only at *; omega))
theorem mf_aw_L {pos : Nat} (k : Option Nat) : ∀ (W : List Nat) (c : mf_CO), mf_SI g t pos 1 W c → mf_LT g t c.2.2.2 W c.2.1 pos → (mf_aw g t k W c).2.2.2.1 = true →
    mf_LT g t (mf_aw g t k W c).2.2.2.2 (mf_aw g t k W c).1 (mf_aw g t k W c).2.2.1 pos := by
  intro W
  induction W with
  | nil => intro c _ h _; exact h
  | cons w W ih =>
    intro c hS h hf
    by_cases h18 : t w = 18
    · rw [mf_aw_18 h18]
      exact h
    · cases hk : mf_tk g (mf_lev g t w) k with
      | false =>
        rw [mf_aw_no h18 hk]
        exact h
      | true =>
        rw [mf_aw_go h18 hk] at hf ⊢
        exact ih _ (mf_ap_SI hS h18) (mf_ap_L h18 hS.2.2.1 h (mf_aw_f k _ _ hf)) hf
def mf_J (g : mf_CF) (t : Nat → Nat) (pos : Nat) (s : mf_ST) : Prop := s.2.2.2.2.1 = true →
  (s.1 = true ∧ mf_SI g t pos 1 s.2.1 s.2.2 ∧ mf_LT g t s.2.2.2.2.2 s.2.1 s.2.2.2.1 pos) ∨ (s.1 = false ∧ mf_SI g t pos 0 s.2.1 s.2.2 ∧ mf_LF g t s.2.2.2.2.2 s.2.1 s.2.2.2.1 pos)
theorem mf_J_bg {pos : Nat} {W : List Nat} {c : mf_CO} (hS : mf_SI g t pos 0 W c) (hL : mf_LF g t c.2.2.2 W c.2.1 pos) : mf_J g t (pos + 1) (mf_bg g t pos W c) := by
  obtain ⟨N, P, f, nd⟩ := c
  obtain ⟨h1, h2, h3, h4⟩ := hS
  have h1 : N + W.length ≤ pos := h1
  have h2 : P.length = mf_bn g t W + 0 := h2
  have h3 : mf_dec N P := h3
  have hL : mf_LF g t nd W P pos := hL
  intro hf
  unfold mf_bg at hf ⊢
  by_cases h : t pos < 10
  · rw [if_pos h] at hf ⊢
    refine Or.inl ⟨rfl, ⟨?_, ?_, ⟨Nat.lt_succ_self N, h3⟩, fun w hw => ⟨Nat.lt_succ_of_lt (h4 w hw).1, (h4 w hw).2⟩⟩, N, P, pos, 0, nI (t pos), rfl, ?_, ?_⟩
    · show N + 1 + W.length ≤ pos + 1
      omega
    · show P.length + 1 = mf_bn g t W + 1
      omega
    · show mf_Der g t pos (pos + 1) (mf_st (mf_put nd N _ N)) _ _
      rw [mf_put_s]
      exact mf_dNum h
    · exact mf_LF_frame hL h3 (fun m hm => mf_put_n (by omega))
  · rw [if_neg h] at hf ⊢
    have hf := (Bool.and_eq_true_iff.mp hf).2
    have hc : t pos = 18 ∨ (mf_op t pos ∧ mf_kin g t pos = 3) := by
      rcases Bool.or_eq_true_iff.mp hf with z | z
      · exact Or.inl (of_decide_eq_true z)
      · have := Bool.and_eq_true_iff.mp z
        exact Or.inr ⟨⟨by omega, of_decide_eq_true this.1⟩, of_decide_eq_true this.2⟩
    refine Or.inr ⟨rfl, ⟨?_, ?_, h3, ?_⟩, rfl, Or.inl ⟨hc, hL⟩⟩
    · show N + (W.length + 1) ≤ pos + 1
      omega
    · show P.length = mf_bn g t (pos :: W) + 0
      rw [mf_bn3 (by rcases hc with z | z; exact Or.inl z; exact Or.inr (by omega))]
      exact h2
    · intro w hw
      rcases List.mem_cons.mp hw with rfl | hw
      · refine ⟨Nat.lt_succ_self _, ?_⟩
        rcases hc with z | z
        · exact Or.inl z
        · exact Or.inr ⟨z.1, by omega⟩
      · exact ⟨Nat.lt_succ_of_lt (h4 w hw).1, (h4 w hw).2⟩
theorem mf_SI_up {pos wh : Nat} {W : List Nat} {c : mf_CO} (h : mf_SI g t pos wh W c) : mf_SI g t (pos + 1) wh W c :=
  ⟨Nat.le_succ_of_le h.1, h.2.1, h.2.2.1, fun w hw => ⟨Nat.lt_succ_of_lt (h.2.2.2 w hw).1, (h.2.2.2 w hw).2⟩⟩
theorem mf_J_go {pos : Nat} {W : List Nat} {c : mf_CO} (hg : mf_ok g) (hS : mf_SI g t pos 1 W c) (hL : mf_LT g t c.2.2.2 W c.2.1 pos) : mf_J g t (pos + 1) (mf_go g t pos W c) := by
  intro hf
  unfold mf_go at hf ⊢
  by_cases h19 : t pos = 19
  · rw [if_pos h19] at hf ⊢
    have hS1 := mf_aw_SI none W c hS
    have hL1 := mf_aw_L none W c hS hL
    have h18 := fun w W' => mf_aw_none18 (g := g) (t := t) W c (w := w) (W' := W')
    generalize mf_aw g t none W c = r at hf hS1 hL1 h18 ⊢
    obtain ⟨W1, N, P, f, nd⟩ := r
    cases W1 with
    | nil => exact nomatch hf
    | cons w W1 =>
      have hw8 : t w = 18 := h18 w W1 rfl
      have hS1 : mf_SI g t pos 1 (w :: W1) (N, P, f, nd) := hS1
      obtain ⟨s1, s2, s3, s4⟩ := hS1
      rw [mf_bn3 (Or.inl hw8)] at s2
      have s1 : N + (W1.length + 1) ≤ pos := s1
      cases P with
      | nil => exact absurd s2 (by simp)
      | cons n P =>
        have hf : f = true := hf
        obtain ⟨n', P', i, cc, v, e, d, l⟩ := hL1 hf
        have e : n :: P = n' :: P' := e
        cases e
        obtain ⟨rfl, ⟨_, l⟩ | ⟨z, _⟩⟩ := l
        · refine Or.inl ⟨rfl, ⟨?_, s2, s3, fun x hx => ?_⟩, n, P, w, 1, v, rfl, ?_, ?_⟩
          · show N + W1.length ≤ pos + 1
            omega
          · have := s4 x (List.mem_cons_of_mem _ hx)
            exact ⟨Nat.lt_succ_of_lt this.1, this.2⟩
          · show mf_Der g t w (pos + 1) (mf_st (mf_put nd n _ n)) _ _
            rw [mf_put_s]
            exact mf_dBr hw8 h19 d
          · exact mf_LF_frame l s3.2 (fun m hm => mf_put_n (by omega))
        · have := z.2
          omega
  · rw [if_neg h19] at hf ⊢
    by_cases hb : t pos < 10 ∨ 18 ≤ t pos ∨ mf_kin g t pos = 3
    · rw [if_pos hb] at hf
      exact nomatch hf
    · rw [if_neg hb] at hf ⊢
      have hop : mf_op t pos := ⟨by omega, by omega⟩
      have hS1 := mf_aw_SI (some (mf_lev g t pos)) W c hS
      have hL1 := mf_aw_L (some (mf_lev g t pos)) W c hS hL
      generalize mf_aw g t (some (mf_lev g t pos)) W c = r at hf hS1 hL1 ⊢
      obtain ⟨W1, N, P, f, nd⟩ := r
      by_cases h4 : mf_kin g t pos = 4
      · rw [if_pos h4] at hf ⊢
        have hf0 : f = true := mf_ap_f hf
        obtain ⟨n, P', i, cc, v, e, d, l⟩ := hL1 hf0
        have e : P = n :: P' := e
        subst e
        have hf : (mf_ap g t (N, n :: P', f, nd) pos).2.2.1 = true := hf
        obtain ⟨s1, s2, s3, s4⟩ := hS1
        have s1 : N + W1.length ≤ pos := s1
        show _ ∨ _
        refine Or.inl ⟨rfl, ?_⟩
        show mf_SI g t (pos + 1) 1 W1 (mf_ap g t (N, n :: P', f, nd) pos) ∧ mf_LT g t (mf_ap g t (N, n :: P', f, nd) pos).2.2.2 W1 (mf_ap g t (N, n :: P', f, nd) pos).2.1 (pos + 1)
        rw [mf_ap_un (by omega)] at hf ⊢
        have hs := of_decide_eq_true (Bool.and_eq_true_iff.mp hf).2
        have s5 : n < N := s3.1
        refine ⟨⟨?_, s2, ⟨Nat.lt_succ_self N, mf_dec_mono s3.2 (Nat.le_of_lt s5)⟩, fun x hx => ?_⟩, N, P', i, pos + 2, mf_al (mf_mea g t pos) v, rfl, ?_, ?_⟩
        · show N + 1 + W1.length ≤ pos + 1
          omega
        · have := s4 x hx
          exact ⟨Nat.lt_succ_of_lt this.1, this.2⟩
        · show mf_Der g t i (pos + 1) (mf_st (mf_put nd N _ N)) _ _
          rw [mf_put_s]
          exact mf_dPos hop h4 d hs
        · exact mf_LF_frame l s3.2 (fun m hm => mf_put_n (by omega))
      · rw [if_neg h4] at hf ⊢
        have hf : f = true := hf
        have hk : mf_kin g t pos < 3 := by
          have : mf_kin g t pos ≤ 4 := hg.1 _
          omega
        obtain ⟨n, P', i, cc, v, e, d, l⟩ := hL1 hf
        have e : P = n :: P' := e
        subst e
        obtain ⟨s1, s2, s3, s4⟩ := hS1
        have s1 : N + W1.length ≤ pos := s1
        have s2 : P'.length + 1 = mf_bn g t W1 + 1 := s2
        refine Or.inr ⟨rfl, ⟨?_, ?_, s3, ?_⟩, rfl, Or.inr ⟨hop, hk, n, P', i, cc, v, rfl, d, l⟩⟩
        · show N + (W1.length + 1) ≤ pos + 1
          omega
        · show P'.length + 1 = mf_bn g t (pos :: W1) + 0
          rw [mf_bn1 (by omega) hk]
          omega
        · intro x hx
          rcases List.mem_cons.mp hx with rfl | hx
          · exact ⟨Nat.lt_succ_self _, Or.inr ⟨hop, by omega⟩⟩
          · have := s4 x hx
            exact ⟨Nat.lt_succ_of_lt this.1, this.2⟩
theorem mf_J_sp {pos : Nat} {s : mf_ST} (hg : mf_ok g) (hJ : mf_J g t pos s) (hf : s.2.2.2.2.1 = true) : mf_J g t (pos + 1) (mf_sp g t pos s) := by
  obtain ⟨wh, W, c⟩ := s
  rcases hJ hf with ⟨e, hS, hL⟩ | ⟨e, hS, hL⟩
  · have e : wh = true := e
    subst e
    rw [mf_sp_t]
    exact mf_J_go hg hS hL
  · have e : wh = false := e
    subst e
    rw [mf_sp_f]
    exact mf_J_bg hS hL
theorem mf_J_0 (n : Nat) : mf_J g t 0 (mf_s0 n) := fun _ => Or.inr ⟨rfl, ⟨Nat.le_refl _, rfl, True.intro, fun w hw => nomatch hw⟩, rfl, rfl⟩
theorem mf_J_run (hg : mf_ok g) : ∀ (m p : Nat) (s : mf_ST), mf_J g t p s → mf_J g t (p + m) (mf_run g t m p s) := by
  intro m
  induction m with
  | zero => intro p s h; exact h
  | succ m ih =>
    intro p s h
    cases hf : s.2.2.2.2.1 with
    | false =>
      rw [mf_run0 hf]
      exact fun z => absurd (hf.symm.trans z) Bool.false_ne_true
    | true =>
      rw [mf_run1 hf, show p + (m + 1) = p + 1 + m from by omega]
      exact ih _ _ (mf_J_sp hg h hf)
theorem mf_sound (hg : mf_ok g) {n : Nat} (h : (mf_all g t n).2.2.1 = true) : ∃ s c v, mf_Der g t 0 n s c v := by
  have hJ := mf_J_run (t := t) hg n 0 (mf_s0 n) (mf_J_0 n)
  unfold mf_all mf_fin at h
  rw [Nat.zero_add] at hJ
  generalize mf_run g t n 0 (mf_s0 n) = s at h hJ
  obtain ⟨wh, W, c⟩ := s
  split at h
  · rename_i hh
    have hw : wh = true := hh.2
    subst hw
    rcases hJ hh.1 with ⟨_, hS, hL⟩ | ⟨e, _⟩
    · have h := Bool.and_eq_true_iff.mp h
      have hL1 := mf_aw_L none W c hS hL h.1
      have h2 := h.2
      generalize mf_aw g t none W c = r at hL1 h2
      obtain ⟨W1, N, P, f, nd⟩ := r
      cases W1 with
      | nil =>
        obtain ⟨m, P', i, cc, v, e, d, l⟩ := hL1
        have l2 : i = 0 := l.2
        subst l2
        exact ⟨_, _, _, d⟩
      | cons w W1 => exact nomatch h2
    · exact nomatch e
  · exact nomatch h
end
end
section
/- the component's state and the abstract one -/
def mx_b (b : Bool) : Int32 := match b with
  | true => 1
  | false => 0
def mx_fo : Nat → Int32
  | 0 => -1
  | m + 1 => nI m
def mx_L (a : Nat → Int32) : List Nat → Prop
  | [] => True
  | x :: l => a l.length = nI x ∧ mx_L a l
def mx_N1 (d : mf_ND) (x1 x2 x3 x4 x5 x6 x7 x8 : Int32) : Prop := x1 = nI (mf_at d) ∧ x2 = mx_fo (mf_fi d) ∧ x3 = mx_fo (mf_se d) ∧ x4 = nI (mf_st d) ∧ x5 = mf_va d ∧ x6 = nI (mf_pa d) ∧ x7 = nI (mf_fr d) ∧ x8 = nI (mf_to d) ∧ mf_st d ≤ 5 ∧ mf_fr d < 16 ∧ mf_to d < 16
def mx_N (nd : Nat → mf_ND) (N : Nat) (a_at a_first a_second a_strong a_values a_pairs a_from a_to : Nat → Int32) : Prop :=
  ∀ m, m < N → mx_N1 (nd m) (a_at m) (a_first m) (a_second m) (a_strong m) (a_values m) (a_pairs m) (a_from m) (a_to m)
def mx_U (g : mf_CF) (t : Nat → Nat) (n : Nat) (u : SX) : Prop := match u with
  | (f_count, f_nodes, f_operands, f_waiting, f_fine, f_top, a_kinds, a_levels, a_meanings, a_text, a_at, a_first, a_second, a_strong, a_values, a_pairs, a_from, a_to, a_operand, a_open) => f_count = nI n ∧ (∀ k, k < 5 → a_kinds k = nI (g.1 k)) ∧ (∀ o, o < 8 → a_levels o = nI (g.2.1 o)) ∧ (∀ o, o < 8 → a_meanings o = nI (g.2.2 o)) ∧ (∀ p, p < n → a_text p = nI (t p))
def mx_S (g : mf_CF) (t : Nat → Nat) (n : Nat) (c : mf_CO) (W : List Nat) (u : SX) : Prop := mx_U g t n u ∧ match u with
  | (f_count, f_nodes, f_operands, f_waiting, f_fine, f_top, a_kinds, a_levels, a_meanings, a_text, a_at, a_first, a_second, a_strong, a_values, a_pairs, a_from, a_to, a_operand, a_open) => f_nodes = nI c.1 ∧ f_operands = nI c.2.1.length ∧ f_waiting = nI W.length ∧ f_fine = mx_b c.2.2.1 ∧ mx_N c.2.2.2 c.1 a_at a_first a_second a_strong a_values a_pairs a_from a_to ∧ mx_L a_operand c.2.1 ∧ mx_L a_open W
theorem mx_L_upd {a : Nat → Int32} {k : Nat} {x : Int32} : ∀ {l : List Nat}, mx_L a l → l.length ≤ k → mx_L (upd a k x) l := by
  intro l
  induction l with
  | nil => intro _ _; exact True.intro
  | cons y l ih =>
    intro h hl
    have hl : l.length + 1 ≤ k := hl
    refine ⟨?_, ih h.2 (by omega)⟩
    rw [pk_un (by omega)]
    exact h.1
theorem mx_L_cons {a : Nat → Int32} {x : Nat} {l : List Nat} (h : mx_L a l) : mx_L (upd a l.length (nI x)) (x :: l) := ⟨pk_us, mx_L_upd h (Nat.le_refl _)⟩
section
variable {g : mf_CF} {t : Nat → Nat} {n : Nat} {u : SX}
theorem mx_lev4 (hg : mf_ok g) (p : Nat) : mf_lev g t p ≤ 4 := hg.2.1 _
theorem mx_kin4 (hg : mf_ok g) (p : Nat) : mf_kin g t p ≤ 4 := hg.1 _
theorem mx_nl5 (hg : mf_ok g) (p : Nat) : mf_nl g t p ≤ 5 := by
  have := mx_lev4 (t := t) hg p
  unfold mf_nl
  split <;> omega
theorem mx_nr5 (hg : mf_ok g) (p : Nat) : mf_nr g t p ≤ 5 := by
  have := mx_lev4 (t := t) hg p
  unfold mf_nr
  split <;> omega
theorem mx_levelAt {post : Int32 → Prop} (hU : mx_U g t n u) (hn : n ≤ 16) {p : Nat} (hp : p < n) (ho : mf_op t p) (k : post (nI (mf_lev g t p))) : wpX_levelAt post u (nI p) := by
  obtain ⟨f_count, f_nodes, f_operands, f_waiting, f_fine, f_top, a_kinds, a_levels, a_meanings, a_text, a_at, a_first, a_second, a_strong, a_values, a_pairs, a_from, a_to, a_operand, a_open⟩ := u
  obtain ⟨_, _, hl, _, hx⟩ := hU
  have h1 := ho.1
  have h2 := ho.2
  have e1 : a_text (nI p).toNatClampNeg - 10 = nI (t p - 10) := by
    rw [nI_clamp (by omega), hx p hp]
    exact pk_sub h1
  have e2 : (nI (t p - 10)).toNatClampNeg = t p - 10 := nI_clamp (by omega)
  unfold wpX_levelAt
  dsimp only
  rw [e1, e2, hl _ (by omega)]
  exact ⟨vp_in_nI (by omega) (by omega), vp_in_nI (by omega) (by omega), k⟩
theorem mx_kindAt {post : Int32 → Prop} (hU : mx_U g t n u) (hg : mf_ok g) (hn : n ≤ 16) {p : Nat} (hp : p < n) (ho : mf_op t p) (k : post (nI (mf_kin g t p))) : wpX_kindAt post u (nI p) := by
  obtain ⟨f_count, f_nodes, f_operands, f_waiting, f_fine, f_top, a_kinds, a_levels, a_meanings, a_text, a_at, a_first, a_second, a_strong, a_values, a_pairs, a_from, a_to, a_operand, a_open⟩ := u
  have h4 := mx_lev4 (t := t) hg p
  unfold wpX_kindAt
  dsimp only
  refine mx_levelAt hU hn hp ho ⟨vp_in_nI (by omega) (by omega), ?_⟩
  rw [nI_clamp (by omega), hU.2.1 _ (by omega)]
  exact k
theorem mx_needLeft {post : Int32 → Prop} (hU : mx_U g t n u) (hg : mf_ok g) (hn : n ≤ 16) {p : Nat} (hp : p < n) (ho : mf_op t p) (k : post (nI (mf_nl g t p))) : wpX_needLeft post u (nI p) := by
  obtain ⟨f_count, f_nodes, f_operands, f_waiting, f_fine, f_top, a_kinds, a_levels, a_meanings, a_text, a_at, a_first, a_second, a_strong, a_values, a_pairs, a_from, a_to, a_operand, a_open⟩ := u
  have h4 := mx_lev4 (t := t) hg p
  have h5 := mx_kin4 (t := t) hg p
  unfold wpX_needLeft
  dsimp only
  refine mx_levelAt hU hn hp ho ⟨vp_in_nI (by omega) (by omega), nm_r (e' := nI (mf_kin g t p)) ?_ ?_⟩
  · rw [nI_clamp (by omega), hU.2.1 _ (by omega)]
    rfl
  · unfold mf_nl at k
    refine pk_eq (mf_kin g t p) 1 (fun h => ?_) (fun h => pk_eq (mf_kin g t p) 2 (fun h' => ?_) (fun h' => ?_))
    · rw [if_pos (Or.inl h)] at k
      rw [nI_1]
      exact k
    · rw [if_pos (Or.inr h')] at k
      rw [nI_1]
      exact k
    · rw [if_neg (by omega)] at k
      exact k
theorem mx_needRight {post : Int32 → Prop} (hU : mx_U g t n u) (hg : mf_ok g) (hn : n ≤ 16) {p : Nat} (hp : p < n) (ho : mf_op t p) (k : post (nI (mf_nr g t p))) : wpX_needRight post u (nI p) := by
  obtain ⟨f_count, f_nodes, f_operands, f_waiting, f_fine, f_top, a_kinds, a_levels, a_meanings, a_text, a_at, a_first, a_second, a_strong, a_values, a_pairs, a_from, a_to, a_operand, a_open⟩ := u
  have h4 := mx_lev4 (t := t) hg p
  have h5 := mx_kin4 (t := t) hg p
  unfold wpX_needRight
  dsimp only
  refine mx_levelAt hU hn hp ho ⟨vp_in_nI (by omega) (by omega), nm_r (e' := nI (mf_kin g t p)) ?_ ?_⟩
  · rw [nI_clamp (by omega), hU.2.1 _ (by omega)]
    rfl
  · unfold mf_nr at k
    refine pk_eq (mf_kin g t p) 0 (fun h => ?_) (fun h => pk_eq (mf_kin g t p) 2 (fun h' => ?_) (fun h' => ?_))
    · rw [if_pos (Or.inl h)] at k
      rw [nI_1]
      exact k
    · rw [if_pos (Or.inr h')] at k
      rw [nI_1]
      exact k
    · rw [if_neg (by omega)] at k
      exact k
theorem mx_takesFirst {post : Int32 → Prop} (hU : mx_U g t n u) (hg : mf_ok g) (hn : n ≤ 16) {p l : Nat} (hp : p < n) (ho : mf_op t p) (hl : l ≤ 4) (k : post (mx_b (mf_tk g (mf_lev g t p) (some l)))) : wpX_takesFirst post u (nI p) (nI l) := by
  obtain ⟨f_count, f_nodes, f_operands, f_waiting, f_fine, f_top, a_kinds, a_levels, a_meanings, a_text, a_at, a_first, a_second, a_strong, a_values, a_pairs, a_from, a_to, a_operand, a_open⟩ := u
  have h4 := mx_lev4 (t := t) hg p
  have h5 := hg.1 l
  unfold wpX_takesFirst
  dsimp only
  refine mx_levelAt hU hn hp ho ?_
  refine pk_lt l (mf_lev g t p) (fun h => ?_) (fun h => pk_eq (mf_lev g t p) l (fun h' => ⟨vp_in_nI (by omega) (by omega), ?_⟩) (fun h' => ?_))
  · rw [mf_tk_gt h] at k
    exact k
  · rw [nI_clamp (by omega), hU.2.1 _ (by omega)]
    rw [h'] at k
    refine pk_eq (g.1 l) 1 (fun h => ?_) (fun h => ?_)
    · rw [mf_tk_r h] at k
      exact k
    · rw [mf_tk_eq h] at k
      exact k
  · rw [mf_tk_lt (by omega)] at k
    exact k
theorem mx_isOp1 {post : Int32 → Prop} {x : Nat} (h : 10 ≤ x) (h' : x < 18) (k : post 1) : wpX_isOperator post u (nI x) := by
  obtain ⟨f_count, f_nodes, f_operands, f_waiting, f_fine, f_top, a_kinds, a_levels, a_meanings, a_text, a_at, a_first, a_second, a_strong, a_values, a_pairs, a_from, a_to, a_operand, a_open⟩ := u
  exact pk_lt x 10 (fun z => by omega) (fun _ => pk_le 18 x (fun z => by omega) (fun _ => k))
theorem mx_isOp0 {post : Int32 → Prop} {x : Nat} (h : x < 10 ∨ 18 ≤ x) (hx : x ≤ 19) (k : post 0) : wpX_isOperator post u (nI x) := by
  obtain ⟨f_count, f_nodes, f_operands, f_waiting, f_fine, f_top, a_kinds, a_levels, a_meanings, a_text, a_at, a_first, a_second, a_strong, a_values, a_pairs, a_from, a_to, a_operand, a_open⟩ := u
  exact pk_lt x 10 (fun _ => k) (fun _ => pk_le 18 x (fun _ => k) (fun z => by omega))
theorem mx_between {post : Int32 → Prop} {m : Nat} {a b : Int32} (hm : m ≤ 3) (k : post (mf_bt m a b)) : wpX_between post u (nI m) a b := by
  obtain ⟨f_count, f_nodes, f_operands, f_waiting, f_fine, f_top, a_kinds, a_levels, a_meanings, a_text, a_at, a_first, a_second, a_strong, a_values, a_pairs, a_from, a_to, a_operand, a_open⟩ := u
  unfold mf_bt at k
  refine pk_eq m 0 (fun h => ?_) (fun h => pk_eq m 1 (fun h' => ?_) (fun h' => pk_eq m 2 (fun h'' => ?_) (fun h'' => ?_)))
  · rw [if_pos h] at k
    exact k
  · rw [if_neg h, if_pos h'] at k
    exact k
  · rw [if_neg h, if_neg h', if_pos h''] at k
    exact k
  · rw [if_neg h, if_neg h', if_neg h''] at k
    exact k
theorem mx_alone {post : Int32 → Prop} {m : Nat} {a : Int32} (hm : m ≤ 3) (k : post (mf_al m a)) : wpX_alone post u (nI m) a := by
  obtain ⟨f_count, f_nodes, f_operands, f_waiting, f_fine, f_top, a_kinds, a_levels, a_meanings, a_text, a_at, a_first, a_second, a_strong, a_values, a_pairs, a_from, a_to, a_operand, a_open⟩ := u
  unfold mf_al at k
  refine pk_eq m 0 (fun h => ?_) (fun h => pk_eq m 1 (fun h' => ?_) (fun h' => pk_eq m 2 (fun h'' => ?_) (fun h'' => ?_)))
  · rw [if_pos h] at k
    exact k
  · rw [if_neg h, if_pos h'] at k
    exact k
  · rw [if_neg h, if_neg h', if_pos h''] at k
    exact k
  · rw [if_neg h, if_neg h', if_neg h''] at k
    exact k
end
section
variable {f_count f_nodes f_operands f_waiting f_fine f_top : Int32} {a_kinds a_levels a_meanings a_text a_at a_first a_second a_strong a_values a_pairs a_from a_to a_operand a_open : Nat → Int32}
theorem mx_mk0 {post : Int32 → SX → Prop} {N p : Nat} {p2 p3 p4 : Int32} (hN : N < 16)
    (k : post (nI N) (f_count, nI (N + 1), f_operands, f_waiting, f_fine, f_top, a_kinds, a_levels, a_meanings, a_text, upd a_at N (nI p), upd a_first N (-1), upd a_second N p2, upd a_strong N p3, upd a_values N p4, upd a_pairs N 0, upd a_from N (nI p), upd a_to N (nI p), a_operand, a_open)) :
    wpX_makeNode post (f_count, nI N, f_operands, f_waiting, f_fine, f_top, a_kinds, a_levels, a_meanings, a_text, a_at, a_first, a_second, a_strong, a_values, a_pairs, a_from, a_to, a_operand, a_open) (nI p) (-1) p2 p3 p4 := by
  have hc : (nI N).toNatClampNeg = N := nI_clamp (by omega)
  have hi : vp_in (nI N) 16 := vp_in_nI hN (by omega)
  unfold wpX_makeNode wX_makeNode_93 wX_makeNode_94
  dsimp only
  rw [hc]
  refine ⟨hi, nm_e ⟨hi, nm_e ⟨hi, nm_e ⟨hi, nm_e ⟨hi, nm_e ⟨hi, nm_e (br_t (by decide) ⟨hi, nm_e ⟨hi, nm_e (nm_r (nI_1 N) ?_)⟩⟩)⟩⟩⟩⟩⟩⟩
  rw [nI_pred]
  exact k
theorem mx_mk1 {post : Int32 → SX → Prop} {N p a fr : Nat} {p2 p3 p4 : Int32} (hN : N < 16) (hp : p < 16) (ha : a < 16) (hf : fr < 16) (ef : a_from a = nI fr)
    (k : post (nI N) (f_count, nI (N + 1), f_operands, f_waiting, f_fine, f_top, a_kinds, a_levels, a_meanings, a_text, upd a_at N (nI p), upd a_first N (nI a), upd a_second N p2, upd a_strong N p3, upd a_values N p4, upd a_pairs N 0, upd a_from N (nI (if fr < p then fr else p)), upd a_to N (nI p), a_operand, a_open)) :
    wpX_makeNode post (f_count, nI N, f_operands, f_waiting, f_fine, f_top, a_kinds, a_levels, a_meanings, a_text, a_at, a_first, a_second, a_strong, a_values, a_pairs, a_from, a_to, a_operand, a_open) (nI p) (nI a) p2 p3 p4 := by
  have hc : (nI N).toNatClampNeg = N := nI_clamp (by omega)
  have hi : vp_in (nI N) 16 := vp_in_nI hN (by omega)
  have hca : (nI a).toNatClampNeg = a := nI_clamp (by omega)
  have hia : vp_in (nI a) 16 := vp_in_nI ha (by omega)
  unfold wpX_makeNode wX_makeNode_93 wX_makeNode_94
  dsimp only
  rw [hc, hca, ef]
  refine ⟨hi, nm_e ⟨hi, nm_e ⟨hi, nm_e ⟨hi, nm_e ⟨hi, nm_e ⟨hi, nm_e (br_f (nI_pos (by omega)) ⟨hia, pk_le p fr (fun h => ⟨hi, nm_e ⟨hi, nm_e (nm_r (nI_1 N) ?_)⟩⟩) (fun h => ⟨hia, hi, nm_e ⟨hi, nm_e (nm_r (nI_1 N) ?_)⟩⟩)⟩)⟩⟩⟩⟩⟩⟩
  · rw [nI_pred]
    rw [if_neg (by omega)] at k
    exact k
  · rw [nI_pred]
    rw [if_pos h] at k
    exact k
end
end
section
/- the component computes the machine: apply, applyWaiting -/
theorem mx_uu {f : Nat → Int32} {k : Nat} {x y : Int32} : upd (upd f k x) k y = upd f k y := by
  funext j
  by_cases h : j = k
  · rw [h, pk_us, pk_us]
  · rw [pk_un h, pk_un h, pk_un h]
theorem mx_nb (b : Bool) : narrow .boolean (.int (mx_b b)) = .int (mx_b b) := by cases b <;> rfl
theorem mx_fb (b : Bool) : fits .boolean (.int (mx_b b)) = true := by cases b <;> rfl
theorem mx_N_put {nd : Nat → mf_ND} {N : Nat} {d : mf_ND} {a1 a2 a3 a4 a5 a6 a7 a8 : Nat → Int32} {x1 x2 x3 x4 x5 x6 x7 x8 : Int32} (h : mx_N nd N a1 a2 a3 a4 a5 a6 a7 a8) (h1 : mx_N1 d x1 x2 x3 x4 x5 x6 x7 x8) :
    mx_N (mf_put nd N d) (N + 1) (upd a1 N x1) (upd a2 N x2) (upd a3 N x3) (upd a4 N x4) (upd a5 N x5) (upd a6 N x6) (upd a7 N x7) (upd a8 N x8) := by
  intro m hm
  rcases (by omega : m = N ∨ m < N) with rfl | hm
  · rw [mf_put_s, pk_us, pk_us, pk_us, pk_us, pk_us, pk_us, pk_us, pk_us]
    exact h1
  · have e : m ≠ N := by omega
    rw [mf_put_n e, pk_un e, pk_un e, pk_un e, pk_un e, pk_un e, pk_un e, pk_un e, pk_un e]
    exact h m hm
section
variable {f_count f_nodes f_operands f_waiting f_fine f_top : Int32} {a_kinds a_levels a_meanings a_text a_at a_first a_second a_strong a_values a_pairs a_from a_to a_operand a_open : Nat → Int32} {g : mf_CF} {t : Nat → Nat} {n : Nat} {post : SX → Prop}
theorem mx_un71 {N p a : Nat} {P : List Nat} {f b : Bool} {nd : Nat → mf_ND} {W : List Nat} (hS : mx_S g t n (N, a :: P, f, nd) W (f_count, f_nodes, f_operands, f_waiting, f_fine, f_top, a_kinds, a_levels, a_meanings, a_text, a_at, a_first, a_second, a_strong, a_values, a_pairs, a_from, a_to, a_operand, a_open)) (hg : mf_ok g) (hn : n ≤ 16) (hp : p < n) (hN : N < 16) (hd : mf_dec N (a :: P)) (eb : (f && decide (mf_lev g t p ≤ mf_st (nd a))) = b)
    (k : ∀ u', mx_S g t n (mf_un g t N f nd p a P) W u' → post u') :
    wX_apply_71 post (nI p) (nI (mf_mea g t p)) (nI (mf_lev g t p)) (nI a) (mx_b b) f_count f_nodes f_operands f_waiting f_fine f_top a_kinds a_levels a_meanings a_text a_at a_first a_second a_strong a_values a_pairs a_from a_to a_operand a_open := by
  have ha : a < N := hd.1
  have hlen : P.length < 16 := by
    have := mf_dec_len hd
    have : P.length + 1 ≤ N := this
    omega
  obtain ⟨hU, rfl, rfl, rfl, rfl, hNd, hP, hW⟩ := hS
  obtain ⟨e1, e2, e3, e4, e5, e6, e7, e8, b1, b2, b3⟩ := hNd a ha
  dsimp only at e1 e2 e3 e4 e5 e6 e7 e8 b1 b2 b3
  have hca : (nI a).toNatClampNeg = a := nI_clamp (by omega)
  have hia : vp_in (nI a) 16 := vp_in_nI (by omega) (by omega)
  have hcN : (nI N).toNatClampNeg = N := nI_clamp (by omega)
  have hiN : vp_in (nI N) 16 := vp_in_nI (by omega) (by omega)
  have hl1 : nI (a :: P).length - 1 = nI P.length := nI_pred P.length
  have hiL : vp_in (nI P.length) 16 := vp_in_nI hlen (by omega)
  have hcL : (nI P.length).toNatClampNeg = P.length := nI_clamp (by omega)
  have h4 := mx_lev4 (t := t) hg p
  unfold wX_apply_71
  refine ⟨mx_nb b, mx_fb b, hia, mx_alone (hg.2.2 _) (mx_mk1 hN (by omega) (by omega) b2 e7 ?_)⟩
  dsimp only
  unfold wX_apply_130
  rw [hca, pk_un (by omega), e8, hcN, hl1, hcL]
  have key : ∀ z : Nat, z = (if mf_to (nd a) ≤ p then p else mf_to (nd a)) → post (f_count, nI (N + 1), nI (a :: P).length, nI W.length, mx_b b, f_top, a_kinds, a_levels, a_meanings, a_text, upd a_at N (nI p), upd a_first N (nI a), upd a_second N (-1), upd a_strong N (nI (mf_lev g t p)), upd a_values N (mf_al (mf_mea g t p) (a_values a)), upd a_pairs N 0, upd a_from N (nI (if mf_fr (nd a) < p then mf_fr (nd a) else p)), upd (upd a_to N (nI p)) N (nI z), upd a_operand P.length (nI N), a_open) := by
    intro z ez
    refine k _ ⟨hU, rfl, rfl, rfl, ?_, ?_, ?_, hW⟩
    · show mx_b b = mx_b (f && decide (mf_lev g t p ≤ mf_st (nd a)))
      rw [eb]
    · rw [mx_uu, e5]
      refine mx_N_put hNd ⟨rfl, rfl, rfl, rfl, rfl, rfl, rfl, ?_, ?_, ?_, ?_⟩
      · rw [ez]; rfl
      · show mf_lev g t p ≤ 5
        omega
      · show (if mf_fr (nd a) < p then mf_fr (nd a) else p) < 16
        split <;> omega
      · show (if mf_to (nd a) ≤ p then p else mf_to (nd a)) < 16
        split <;> omega
    · exact mx_L_cons hP.2
  refine ⟨hia, pk_le (mf_to (nd a)) p (fun h => ⟨hiN, nm_e ⟨hiL, nm_e (key _ (if_pos h).symm)⟩⟩) (fun h => ⟨hia, hiN, nm_e ⟨hiL, nm_e (key _ (if_neg (by omega)).symm)⟩⟩)⟩
theorem mx_bi214 {N p a c : Nat} {P : List Nat} {f b : Bool} {nd : Nat → mf_ND} {W : List Nat} (hS : mx_S g t n (N, c :: a :: P, f, nd) W (f_count, f_nodes, f_operands, f_waiting, f_fine, f_top, a_kinds, a_levels, a_meanings, a_text, a_at, a_first, a_second, a_strong, a_values, a_pairs, a_from, a_to, a_operand, a_open)) (hg : mf_ok g) (hn : n ≤ 16) (hp : p < n) (hN : N < 16) (hd : mf_dec N (c :: a :: P)) (eb : (f && (decide (mf_nl g t p ≤ mf_st (nd a)) && decide (mf_nr g t p ≤ mf_st (nd c)))) = b)
    (k : ∀ u', mx_S g t n (mf_bi g t N f nd p a c P) W u' → post u') :
    wX_apply_214 post (nI p) (nI (mf_mea g t p)) (nI (mf_lev g t p)) (nI a) (nI c) (mx_b b) f_count f_nodes f_operands f_waiting f_fine f_top a_kinds a_levels a_meanings a_text a_at a_first a_second a_strong a_values a_pairs a_from a_to a_operand a_open := by
  have hc : c < N := hd.1
  have ha : a < c := hd.2.1
  have hlen : P.length + 1 < 16 := by
    have := mf_dec_len hd
    have : P.length + 1 + 1 ≤ N := this
    omega
  obtain ⟨hU, rfl, rfl, rfl, rfl, hNd, hP, hW⟩ := hS
  obtain ⟨e1, e2, e3, e4, e5, e6, e7, e8, b1, b2, b3⟩ := hNd a (by dsimp only; omega)
  obtain ⟨_, _, _, _, i5, _, _, i8, _, _, j3⟩ := hNd c hc
  dsimp only at e1 e2 e3 e4 e5 e6 e7 e8 b1 b2 b3 i5 i8 j3
  have hca : (nI a).toNatClampNeg = a := nI_clamp (by omega)
  have hia : vp_in (nI a) 16 := vp_in_nI (by omega) (by omega)
  have hcc : (nI c).toNatClampNeg = c := nI_clamp (by omega)
  have hic : vp_in (nI c) 16 := vp_in_nI (by omega) (by omega)
  have hcN : (nI N).toNatClampNeg = N := nI_clamp (by omega)
  have hiN : vp_in (nI N) 16 := vp_in_nI (by omega) (by omega)
  have hl1 : nI (c :: a :: P).length - 1 = nI (P.length + 1) := nI_pred (P.length + 1)
  have hl2 : nI (P.length + 1) - 1 = nI P.length := nI_pred P.length
  have hiL : vp_in (nI P.length) 16 := vp_in_nI (by omega) (by omega)
  have hcL : (nI P.length).toNatClampNeg = P.length := nI_clamp (by omega)
  have h4 := mx_lev4 (t := t) hg p
  unfold wX_apply_214
  refine ⟨mx_nb b, mx_fb b, hia, hic, mx_between (hg.2.2 _) (mx_mk1 hN (by omega) (by omega) b2 e7 ?_)⟩
  dsimp only
  rw [hca, hcc, pk_un (by omega), i8, hcN, hl1]
  refine ⟨hic, hiN, nm_e (nm_e ?_)⟩
  rw [hl2, hcL]
  refine ⟨hiL, nm_e (k _ ⟨hU, rfl, rfl, rfl, ?_, ?_, ?_, hW⟩)⟩
  · show mx_b b = mx_b (f && (decide (mf_nl g t p ≤ mf_st (nd a)) && decide (mf_nr g t p ≤ mf_st (nd c))))
    rw [eb]
  · rw [mx_uu, e5, i5]
    refine mx_N_put hNd ⟨rfl, rfl, rfl, rfl, rfl, rfl, rfl, rfl, ?_, ?_, ?_⟩
    · show mf_lev g t p ≤ 5
      omega
    · show (if mf_fr (nd a) < p then mf_fr (nd a) else p) < 16
      split <;> omega
    · exact j3
  · exact mx_L_cons hP.2.2
theorem mx_bz {b : Bool} {A B : Prop} (h1 : b = false → A) (h2 : b = true → B) : (mx_b b = 0 → A) ∧ (¬ mx_b b = 0 → B) := by
  cases b with
  | false => exact br_t rfl (h1 rfl)
  | true => exact br_f (by decide) (h2 rfl)
/-- apply, of one operand -/
theorem mx_ap1 {N p a : Nat} {P : List Nat} {f : Bool} {nd : Nat → mf_ND} {W : List Nat} {u : SX} (hS : mx_S g t n (N, a :: P, f, nd) W u) (hg : mf_ok g) (hn : n ≤ 16) (hp : p < n) (ho : mf_op t p) (hk : 3 ≤ mf_kin g t p) (hN : N < 16) (hd : mf_dec N (a :: P))
    (k : ∀ u', mx_S g t n (mf_un g t N f nd p a P) W u' → post u') : wpX_apply post u (nI p) := by
  obtain ⟨f_count, f_nodes, f_operands, f_waiting, f_fine, f_top, a_kinds, a_levels, a_meanings, a_text, a_at, a_first, a_second, a_strong, a_values, a_pairs, a_from, a_to, a_operand, a_open⟩ := u
  have hS0 := hS
  have ha : a < N := hd.1
  have hlen : P.length < 16 := by
    have := mf_dec_len hd
    have : P.length + 1 ≤ N := this
    omega
  obtain ⟨hU, e1, e2, e3, e4, hNd, hP, hW⟩ := hS
  have e4 : f_fine = mx_b f := e4
  subst e4
  obtain ⟨hU1, hU2, hU3, hU4, hU5⟩ := hU
  have o1 := ho.1
  have o2 := ho.2
  have h4 := mx_lev4 (t := t) hg p
  have h5 := mx_kin4 (t := t) hg p
  have t1 : a_text (nI p).toNatClampNeg - 10 = nI (t p - 10) := by
    rw [nI_clamp (by omega), hU5 p hp]
    exact pk_sub o1
  have t2 : (nI (t p - 10)).toNatClampNeg = t p - 10 := nI_clamp (by omega)
  have hl1 : f_operands - 1 = nI P.length := by rw [e2]; exact nI_pred P.length
  have hcL : (nI P.length).toNatClampNeg = P.length := nI_clamp (by omega)
  have hca : (nI a).toNatClampNeg = a := nI_clamp (by omega)
  unfold wpX_apply wX_apply_70
  dsimp only
  rw [t1, t2]
  refine ⟨vp_in_nI (by omega) (by omega), vp_in_nI (by omega) (by omega), nm_r (hU4 _ (by omega)) ?_⟩
  refine mx_kindAt hS0.1 hg hn hp ho (mx_levelAt hS0.1 hn hp ho ?_)
  refine pk_lt (mf_kin g t p) 3 (fun z => by omega) (fun _ => ?_)
  rw [hl1, hcL]
  refine ⟨vp_in_nI hlen (by omega), nm_r hP.1 ?_⟩
  refine mx_bz (fun z => ?_) (fun z => ?_)
  · exact mx_un71 (b := false) hS0 hg hn hp hN hd (by rw [show f = false from z]; rfl) k
  · rw [hca, (hNd a ha).2.2.2.1]
    have b1 : mf_st (nd a) ≤ 5 := (hNd a ha).2.2.2.2.2.2.2.2.1
    refine ⟨vp_in_nI (by omega) (by omega), pk_lt (mf_st (nd a)) (mf_lev g t p) (fun h => ?_) (fun h => ?_)⟩
    · exact mx_un71 (b := false) hS0 hg hn hp hN hd (by rw [decide_eq_false (by omega), Bool.and_false]) k
    · exact mx_un71 (b := true) hS0 hg hn hp hN hd (by rw [decide_eq_true h, show f = true from z]; rfl) k
theorem mx_ap2 {N p a c : Nat} {P : List Nat} {f : Bool} {nd : Nat → mf_ND} {W : List Nat} {u : SX} (hS : mx_S g t n (N, c :: a :: P, f, nd) W u) (hg : mf_ok g) (hn : n ≤ 16) (hp : p < n) (ho : mf_op t p) (hk : mf_kin g t p < 3) (hN : N < 16) (hd : mf_dec N (c :: a :: P))
    (k : ∀ u', mx_S g t n (mf_bi g t N f nd p a c P) W u' → post u') : wpX_apply post u (nI p) := by
  obtain ⟨f_count, f_nodes, f_operands, f_waiting, f_fine, f_top, a_kinds, a_levels, a_meanings, a_text, a_at, a_first, a_second, a_strong, a_values, a_pairs, a_from, a_to, a_operand, a_open⟩ := u
  have hS0 := hS
  have hc : c < N := hd.1
  have ha : a < c := hd.2.1
  have hlen : P.length + 1 < 16 := by
    have := mf_dec_len hd
    have : P.length + 1 + 1 ≤ N := this
    omega
  obtain ⟨hU, e1, e2, e3, e4, hNd, hP, hW⟩ := hS
  have e4 : f_fine = mx_b f := e4
  subst e4
  obtain ⟨hU1, hU2, hU3, hU4, hU5⟩ := hU
  have o1 := ho.1
  have o2 := ho.2
  have h4 := mx_lev4 (t := t) hg p
  have h5 := mx_kin4 (t := t) hg p
  have h6 := mx_nl5 (t := t) hg p
  have h7 := mx_nr5 (t := t) hg p
  have t1 : a_text (nI p).toNatClampNeg - 10 = nI (t p - 10) := by
    rw [nI_clamp (by omega), hU5 p hp]
    exact pk_sub o1
  have t2 : (nI (t p - 10)).toNatClampNeg = t p - 10 := nI_clamp (by omega)
  have hl1 : f_operands - 1 = nI (P.length + 1) := by rw [e2]; exact nI_pred (P.length + 1)
  have hl2 : f_operands - 2 = nI P.length := by rw [e2]; exact pk_sub (a := P.length + 1 + 1) (b := 2) (by omega)
  have hcL : (nI P.length).toNatClampNeg = P.length := nI_clamp (by omega)
  have hcM : (nI (P.length + 1)).toNatClampNeg = P.length + 1 := nI_clamp (by omega)
  have hca : (nI a).toNatClampNeg = a := nI_clamp (by omega)
  have hcc : (nI c).toNatClampNeg = c := nI_clamp (by omega)
  unfold wpX_apply wX_apply_213
  dsimp only
  rw [t1, t2]
  refine ⟨vp_in_nI (by omega) (by omega), vp_in_nI (by omega) (by omega), nm_r (hU4 _ (by omega)) ?_⟩
  refine mx_kindAt hS0.1 hg hn hp ho (mx_levelAt hS0.1 hn hp ho ?_)
  refine pk_lt (mf_kin g t p) 3 (fun _ => ?_) (fun z => by omega)
  rw [hl1, hl2, hcL, hcM]
  refine ⟨vp_in_nI (by omega) (by omega), nm_r hP.2.1 ⟨vp_in_nI (by omega) (by omega), nm_r hP.1 ?_⟩⟩
  refine mx_bz (fun z => ?_) (fun z => ?_)
  · exact mx_bi214 (b := false) hS0 hg hn hp hN hd (by rw [show f = false from z]; rfl) k
  · have hNa := hNd a (by dsimp only; omega)
    have hNc := hNd c hc
    rw [hca, hcc, hNa.2.2.2.1, hNc.2.2.2.1]
    have b1 : mf_st (nd a) ≤ 5 := hNa.2.2.2.2.2.2.2.2.1
    have b2 : mf_st (nd c) ≤ 5 := hNc.2.2.2.2.2.2.2.2.1
    refine ⟨vp_in_nI (by omega) (by omega), mx_needLeft hS0.1 hg hn hp ho (pk_lt (mf_st (nd a)) (mf_nl g t p) (fun h => ?_) (fun h => ⟨vp_in_nI (by omega) (by omega), mx_needRight hS0.1 hg hn hp ho (pk_lt (mf_st (nd c)) (mf_nr g t p) (fun h' => ?_) (fun h' => ?_))⟩))⟩
    · exact mx_bi214 (b := false) hS0 hg hn hp hN hd (by rw [decide_eq_false (by omega), Bool.false_and, Bool.and_false]) k
    · exact mx_bi214 (b := false) hS0 hg hn hp hN hd (by rw [decide_eq_false (p := mf_nr g t p ≤ mf_st (nd c)) (by omega), Bool.and_false, Bool.and_false]) k
    · exact mx_bi214 (b := true) hS0 hg hn hp hN hd (by rw [decide_eq_true h, decide_eq_true h', show f = true from z]; rfl) k
end
end
section
/- the component computes the machine: applyWaiting, begin, goOn, readAll -/
def mx_k : Option Nat → Int32
  | none => -1
  | some l => nI l
def mx_awu (post : SX → Prop) (x1 : Int32) (m : Nat) (x2 : Int32) (u : SX) : Prop := match u with
  | (f_count, f_nodes, f_operands, f_waiting, f_fine, f_top, a_kinds, a_levels, a_meanings, a_text, a_at, a_first, a_second, a_strong, a_values, a_pairs, a_from, a_to, a_operand, a_open) => wX_applyWaiting_2 post x1 m x2 f_count f_nodes f_operands f_waiting f_fine f_top a_kinds a_levels a_meanings a_text a_at a_first a_second a_strong a_values a_pairs a_from a_to a_operand a_open
theorem mx_N_set {nd : Nat → mf_ND} {N m : Nat} {d : mf_ND} {a1 a2 a3 a4 a5 a6 a7 a8 : Nat → Int32} {x4 x6 x7 x8 : Int32} (h : mx_N nd N a1 a2 a3 a4 a5 a6 a7 a8) (h1 : mx_N1 d (a1 m) (a2 m) (a3 m) x4 (a5 m) x6 x7 x8) :
    mx_N (mf_put nd m d) N a1 a2 a3 (upd a4 m x4) a5 (upd a6 m x6) (upd a7 m x7) (upd a8 m x8) := by
  intro j hj
  by_cases e : j = m
  · subst e
    rw [mf_put_s, pk_us, pk_us, pk_us, pk_us]
    exact h1
  · rw [mf_put_n e, pk_un e, pk_un e, pk_un e, pk_un e]
    exact h j hj
section
variable {g : mf_CF} {t : Nat → Nat} {n : Nat}
theorem mx_aw {post : SX → Prop} {k : Option Nat} {pos : Nat} (hk : ∀ l, k = some l → l ≤ 4) (hg : mf_ok g) (hn : n ≤ 16) (hpos : pos ≤ n) : ∀ (W : List Nat) (c : mf_CO) (u : SX) (i m : Nat), mx_S g t n c W u → mf_SI g t pos 1 W c → i + W.length ≤ 15 → W.length < m →
    (∀ u', mx_S g t n (mf_aw g t k W c).2 (mf_aw g t k W c).1 u' → post u') → mx_awu post (mx_k k) m (nI i) u := by
  intro W
  induction W with
  | nil =>
    intro c u i m hS hI hi hm K
    obtain ⟨m, rfl⟩ : ∃ m', m = m' + 1 := ⟨m - 1, by have : 0 < m := hm; omega⟩
    have h := K u hS
    obtain ⟨f_count, f_nodes, f_operands, f_waiting, f_fine, f_top, a_kinds, a_levels, a_meanings, a_text, a_at, a_first, a_second, a_strong, a_values, a_pairs, a_from, a_to, a_operand, a_open⟩ := u
    obtain ⟨hU, e1, e2, e3, e4, hNd, hP, hW⟩ := hS
    have e3 : f_waiting = 0 := e3
    subst e3
    have hi : i ≤ 15 := hi
    exact pk_le 15 i (fun _ => h) (fun _ => br_t (by decide) h)
  | cons w W ih =>
    intro c u i m hS hI hi hm K
    have hi : i + (W.length + 1) ≤ 15 := hi
    have hm : W.length + 1 < m := hm
    obtain ⟨m, rfl⟩ : ∃ m', m = m' + 1 := ⟨m - 1, by omega⟩
    obtain ⟨f_count, f_nodes, f_operands, f_waiting, f_fine, f_top, a_kinds, a_levels, a_meanings, a_text, a_at, a_first, a_second, a_strong, a_values, a_pairs, a_from, a_to, a_operand, a_open⟩ := u
    obtain ⟨hw1, hw2⟩ := hI.2.2.2 w (List.mem_cons_self)
    have hS0 := hS
    obtain ⟨hU, e1, e2, e3, e4, hNd, hP, hW⟩ := hS
    have hx := hU.2.2.2.2 w (by omega)
    have e3 : f_waiting = nI (W.length + 1) := e3
    have f1 : f_waiting - 1 = nI W.length := by rw [e3]; exact nI_pred W.length
    have f2 : (nI W.length).toNatClampNeg = W.length := nI_clamp (by omega)
    have f3 : a_open W.length = nI w := hW.1
    have f4 : (nI w).toNatClampNeg = w := nI_clamp (by omega)
    have tk : t w ≤ 18 := by
      rcases hw2 with z | z
      · omega
      · have := z.1.2; omega
    have i1 : vp_in (nI W.length) 16 := vp_in_nI (by omega) (by omega)
    have i2 : vp_in (nI w) 16 := vp_in_nI (by omega) (by omega)
    have GO : t w ≠ 18 → mf_tk g (mf_lev g t w) k = true → wX_applyWaiting_66 post (wX_applyWaiting_2 post (mx_k k) m) (mx_k k) (nI i) (nI w) 1 f_count f_nodes f_operands f_waiting f_fine f_top a_kinds a_levels a_meanings a_text a_at a_first a_second a_strong a_values a_pairs a_from a_to a_operand a_open := by
      intro h18 htk
      have ho : mf_op t w := by
        rcases hw2 with z | z
        · exact absurd z h18
        · exact z.1
      refine br_f (by decide) (nm_r f1 ?_)
      have hS1 : mx_S g t n c W (f_count, f_nodes, f_operands, nI W.length, f_fine, f_top, a_kinds, a_levels, a_meanings, a_text, a_at, a_first, a_second, a_strong, a_values, a_pairs, a_from, a_to, a_operand, a_open) := ⟨hU, e1, e2, rfl, e4, hNd, hP, hW.2⟩
      have hI1 := mf_ap_SI hI h18
      have hN : c.1 < 16 := by
        have h1 : c.1 + (W.length + 1) ≤ pos := hI.1
        omega
      have K1 : ∀ u', mx_S g t n (mf_ap g t c w) W u' → mx_awu post (mx_k k) m (nI (i + 1)) u' := by
        intro u' hu
        exact ih (mf_ap g t c w) u' (i + 1) m hu hI1 (by omega) (by omega) (by rw [← mf_aw_go h18 htk]; exact K)
      rcases mf_shape hI h18 with ⟨hk3, N, a, P, f, nd, rfl⟩ | ⟨hk3, N, b, a, P, f, nd, rfl⟩
      · rw [mf_ap_un (by omega)] at K1
        refine mx_ap1 hS1 hg hn (by omega) ho (by omega) hN hI.2.2.1 (fun u' hu => ?_)
        have z := K1 u' hu
        obtain ⟨f_count, f_nodes, f_operands, f_waiting, f_fine, f_top, a_kinds, a_levels, a_meanings, a_text, a_at, a_first, a_second, a_strong, a_values, a_pairs, a_from, a_to, a_operand, a_open⟩ := u'
        exact nm_r (nI_1 i) z
      · rw [mf_ap_bi hk3] at K1
        refine mx_ap2 hS1 hg hn (by omega) ho hk3 hN hI.2.2.1 (fun u' hu => ?_)
        have z := K1 u' hu
        obtain ⟨f_count, f_nodes, f_operands, f_waiting, f_fine, f_top, a_kinds, a_levels, a_meanings, a_text, a_at, a_first, a_second, a_strong, a_values, a_pairs, a_from, a_to, a_operand, a_open⟩ := u'
        exact nm_r (nI_1 i) z
    show wX_applyWaiting_2 post (mx_k k) (m + 1) (nI i) f_count f_nodes f_operands f_waiting f_fine f_top a_kinds a_levels a_meanings a_text a_at a_first a_second a_strong a_values a_pairs a_from a_to a_operand a_open
    rw [wX_applyWaiting_2]
    dsimp only
    rw [f1, f2, f3, f4, hx]
    refine pk_le 15 i (fun _ => by omega) (fun _ => br_f (by rw [e3]; exact nI_nle (by omega) (by omega)) ⟨i1, i2, pk_eq (t w) 18 (fun h => K _ (by rw [mf_aw_18 h]; exact hS0)) (fun h => ⟨i1, nm_e ?_⟩)⟩)
    cases k with
    | none => exact br_t (by decide) (GO h rfl)
    | some l =>
      have hl := hk l rfl
      have ho : mf_op t w := by
        rcases hw2 with z | z
        · exact absurd z h
        · exact z.1
      refine br_f (nI_pos (by omega)) (mx_takesFirst hS0.1 hg hn (by omega) ho hl ?_)
      refine mx_bz (fun z => br_t rfl (K _ (by rw [mf_aw_no h z]; exact hS0))) (fun z => GO h z)
theorem mx_applyWaiting {post : SX → Prop} {k : Option Nat} {pos : Nat} {W : List Nat} {c : mf_CO} {u : SX} (hS : mx_S g t n c W u) (hk : ∀ l, k = some l → l ≤ 4) (hg : mf_ok g) (hn : n ≤ 16) (hpos : pos ≤ n) (hI : mf_SI g t pos 1 W c)
    (K : ∀ u', mx_S g t n (mf_aw g t k W c).2 (mf_aw g t k W c).1 u' → post u') : wpX_applyWaiting post u (mx_k k) := by
  have h1 : c.1 + W.length ≤ pos := hI.1
  have h2 : c.2.1.length = mf_bn g t W + 1 := hI.2.1
  have h3 := mf_dec_len hI.2.2.1
  have z := mx_aw hk hg hn hpos W c u 0 (W.length + 1) hS hI (by omega) (by omega) K
  obtain ⟨f_count, f_nodes, f_operands, f_waiting, f_fine, f_top, a_kinds, a_levels, a_meanings, a_text, a_at, a_first, a_second, a_strong, a_values, a_pairs, a_from, a_to, a_operand, a_open⟩ := u
  exact ⟨_, z⟩
theorem mx_begin {post : Int32 → SX → Prop} {p : Nat} {W : List Nat} {c : mf_CO} {u : SX} (hS : mx_S g t n c W u) (hg : mf_ok g) (hn : n ≤ 16) (ht : ∀ x, t x ≤ 19) (hp : p < n) (hf : c.2.2.1 = true) (hI : mf_SI g t p 0 W c)
    (K : ∀ u', mx_S g t n (mf_bg g t p W c).2.2 (mf_bg g t p W c).2.1 u' → post (mx_b (mf_bg g t p W c).1) u') : wpX_begin post u (nI p) := by
  obtain ⟨f_count, f_nodes, f_operands, f_waiting, f_fine, f_top, a_kinds, a_levels, a_meanings, a_text, a_at, a_first, a_second, a_strong, a_values, a_pairs, a_from, a_to, a_operand, a_open⟩ := u
  obtain ⟨N, P, f, nd⟩ := c
  have hf : f = true := hf
  subst hf
  have h1 : N + W.length ≤ p := hI.1
  have hS0 := hS
  obtain ⟨hU, e1, e2, e3, e4, hNd, hP, hW⟩ := hS
  have e1 : f_nodes = nI N := e1
  have e2 : f_operands = nI P.length := e2
  have e3 : f_waiting = nI W.length := e3
  have e4 : f_fine = 1 := e4
  have h3 : P.length ≤ N := mf_dec_len hI.2.2.1
  have hx := hU.2.2.2.2 p hp
  have tp := ht p
  have hc : (nI p).toNatClampNeg = p := nI_clamp (by omega)
  have hcW : (nI W.length).toNatClampNeg = W.length := nI_clamp (by omega)
  subst e1 e2 e3 e4
  unfold mf_bg at K
  have PUSH : ∀ b : Bool, (∀ u', mx_S g t n (N, P, b, nd) (p :: W) u' → post 0 u') → wX_begin_66 post (nI p) (mx_b b) f_count (nI N) (nI P.length) (nI W.length) 1 f_top a_kinds a_levels a_meanings a_text a_at a_first a_second a_strong a_values a_pairs a_from a_to a_operand a_open := by
    intro b Kb
    unfold wX_begin_66
    rw [hcW]
    refine ⟨mx_nb b, mx_fb b, vp_in_nI (by omega) (by omega), nm_e (nm_r (nI_1 W.length) (Kb _ ⟨hU, rfl, rfl, rfl, rfl, hNd, hP, mx_L_cons hW⟩))⟩
  unfold wpX_begin wX_begin_65 wX_begin_61
  dsimp only
  rw [hc]
  refine ⟨vp_in_nI (by omega) (by omega), nm_r hx (pk_le 10 (t p) (fun h => ?_) (fun h => ?_))⟩
  · rw [if_neg (by omega)] at K
    refine br_f (by decide) (pk_eq (t p) 18 (fun h18 => ?_) (fun h18 => ?_))
    · rw [decide_eq_true h18] at K
      exact PUSH true K
    · rcases (by omega : t p < 18 ∨ t p = 19) with hl | hl
      · refine mx_isOp1 h hl (br_f (by decide) (mx_kindAt hS0.1 hg hn hp ⟨h, hl⟩ ?_))
        have h5 := mx_kin4 (t := t) hg p
        refine pk_eq (mf_kin g t p) 3 (fun h3 => ?_) (fun h3 => ?_)
        · rw [decide_eq_false h18, decide_eq_true hl, decide_eq_true h3] at K
          exact PUSH true K
        · rw [decide_eq_false h18, decide_eq_true hl, decide_eq_false h3] at K
          exact PUSH false K
      · refine mx_isOp0 (Or.inr (by omega)) tp (br_t rfl ?_)
        rw [decide_eq_false h18, decide_eq_false (by omega)] at K
        exact PUSH false K
  · rw [if_pos h] at K
    have hcP : (nI P.length).toNatClampNeg = P.length := nI_clamp (by omega)
    refine mx_mk0 (by omega) ?_
    dsimp only
    unfold wpX_putOperand
    dsimp only
    rw [hcP]
    refine ⟨vp_in_nI (by omega) (by omega), nm_e (nm_r (nI_1 P.length) (K _ ⟨hU, rfl, rfl, rfl, rfl, ?_, mx_L_cons hP, hW⟩))⟩
    exact mx_N_put hNd ⟨rfl, rfl, rfl, rfl, rfl, rfl, rfl, rfl, Nat.le_refl _, by show p < 16; omega, by show p < 16; omega⟩
theorem mx_close {post : SX → Prop} {p : Nat} {W : List Nat} {c : mf_CO} {u : SX} (hS : mx_S g t n c W u) (hg : mf_ok g) (hn : n ≤ 16) (hp : p < n) (hI : mf_SI g t p 1 W c)
    (K : ∀ u', mx_S g t n (mf_clo (mf_aw g t none W c) p).2.2 (mf_clo (mf_aw g t none W c) p).2.1 u' → post u') : wpX_closeBracket post u (nI p) := by
  obtain ⟨f_count, f_nodes, f_operands, f_waiting, f_fine, f_top, a_kinds, a_levels, a_meanings, a_text, a_at, a_first, a_second, a_strong, a_values, a_pairs, a_from, a_to, a_operand, a_open⟩ := u
  unfold wpX_closeBracket
  dsimp only
  refine mx_applyWaiting (k := none) hS (fun l z => nomatch z) hg hn (Nat.le_of_lt hp) hI (fun u' hu => ?_)
  have hI1 := mf_aw_SI none W c hI
  generalize mf_aw g t none W c = r at K hu hI1
  obtain ⟨W1, N, P, f, nd⟩ := r
  obtain ⟨f_count, f_nodes, f_operands, f_waiting, f_fine, f_top, a_kinds, a_levels, a_meanings, a_text, a_at, a_first, a_second, a_strong, a_values, a_pairs, a_from, a_to, a_operand, a_open⟩ := u'
  obtain ⟨hU, e1, e2, e3, e4, hNd, hP, hW⟩ := hu
  have e1 : f_nodes = nI N := e1
  have e2 : f_operands = nI P.length := e2
  have e3 : f_waiting = nI W1.length := e3
  have e4 : f_fine = mx_b f := e4
  subst e1 e2 e3 e4
  have h1 : N + W1.length ≤ p := hI1.1
  dsimp only
  cases W1 with
  | nil => exact br_t rfl (K _ ⟨hU, rfl, rfl, rfl, rfl, hNd, hP, True.intro⟩)
  | cons w W1 =>
    have h1 : N + (W1.length + 1) ≤ p := h1
    have h2 : P.length = mf_bn g t (w :: W1) + 1 := hI1.2.1
    have h3 : P.length ≤ N := mf_dec_len hI1.2.2.1
    cases P with
    | nil => exact absurd h2 (by simp)
    | cons m P =>
      have hm : m < N := hI1.2.2.1.1
      have hw := (hI1.2.2.2 w (List.mem_cons_self)).1
      have h3 : P.length + 1 ≤ N := h3
      have hcm : (nI m).toNatClampNeg = m := nI_clamp (by omega)
      have him : vp_in (nI m) 16 := vp_in_nI (by omega) (by omega)
      have hcP : (nI P.length).toNatClampNeg = P.length := nI_clamp (by omega)
      have hcW : (nI W1.length).toNatClampNeg = W1.length := nI_clamp (by omega)
      have f1 : nI (m :: P).length - 1 = nI P.length := nI_pred P.length
      have f2 : nI (w :: W1).length - 1 = nI W1.length := nI_pred W1.length
      obtain ⟨x1, x2, x3, x4, x5, x6, x7, x8, b1, b2, b3⟩ := hNd m hm
      dsimp only at x1 x2 x3 x4 x5 x6 x7 x8 b1 b2 b3
      refine br_f (nI_ne0 (by simp) (by show W1.length + 1 < _; omega)) (nm_r f2 ?_)
      rw [f1, hcP, hcW, show a_open W1.length = nI w from hW.1]
      refine ⟨vp_in_nI (by omega) (by omega), nm_r (show a_operand P.length = nI m from hP.1) ?_⟩
      rw [hcm, x6, nI_1]
      refine ⟨him, him, nm_e ⟨him, nm_e ⟨vp_in_nI (by omega) (by omega), him, nm_e ⟨him, nm_e (K _ ⟨hU, rfl, rfl, rfl, rfl, ?_, hP, hW.2⟩)⟩⟩⟩⟩
      refine mx_N_set hNd ⟨x1, x2, x3, rfl, x5, rfl, rfl, rfl, Nat.le_refl _, by show w < 16; omega, by show p < 16; omega⟩
theorem mx_goOn {post : Int32 → SX → Prop} {p : Nat} {W : List Nat} {c : mf_CO} {u : SX} (hS : mx_S g t n c W u) (hg : mf_ok g) (hn : n ≤ 16) (ht : ∀ x, t x ≤ 19) (hp : p < n) (hI : mf_SI g t p 1 W c)
    (K : ∀ u', mx_S g t n (mf_go g t p W c).2.2 (mf_go g t p W c).2.1 u' → post (mx_b (mf_go g t p W c).1) u') : wpX_goOn post u (nI p) := by
  obtain ⟨f_count, f_nodes, f_operands, f_waiting, f_fine, f_top, a_kinds, a_levels, a_meanings, a_text, a_at, a_first, a_second, a_strong, a_values, a_pairs, a_from, a_to, a_operand, a_open⟩ := u
  have hx := hS.1.2.2.2.2 p hp
  have tp := ht p
  have hc : (nI p).toNatClampNeg = p := nI_clamp (by omega)
  have h5 := mx_kin4 (t := t) hg p
  unfold mf_go at K
  have BAD : (∀ u', mx_S g t n (mf_setf c false) W u' → post 1 u') → post 1 (f_count, f_nodes, f_operands, f_waiting, 0, f_top, a_kinds, a_levels, a_meanings, a_text, a_at, a_first, a_second, a_strong, a_values, a_pairs, a_from, a_to, a_operand, a_open) := by
    intro Kb
    obtain ⟨hU, e1, e2, e3, e4, hNd, hP, hW⟩ := hS
    exact Kb _ ⟨hU, e1, e2, e3, rfl, hNd, hP, hW⟩
  unfold wpX_goOn
  dsimp only
  rw [hc]
  refine ⟨vp_in_nI (by omega) (by omega), nm_r hx (pk_eq (t p) 19 (fun h19 => ?_) (fun h19 => ?_))⟩
  · rw [if_pos h19] at K
    refine mx_close hS hg hn hp hI (fun u' hu => ?_)
    have z := K u' hu
    obtain ⟨f_count, f_nodes, f_operands, f_waiting, f_fine, f_top, a_kinds, a_levels, a_meanings, a_text, a_at, a_first, a_second, a_strong, a_values, a_pairs, a_from, a_to, a_operand, a_open⟩ := u'
    have ew : (mf_clo (mf_aw g t none W c) p).1 = true := by
      unfold mf_clo
      split <;> rfl
    rw [ew] at z
    exact z
  · rw [if_neg h19] at K
    rcases (by omega : (t p < 10 ∨ 18 ≤ t p) ∨ (10 ≤ t p ∧ t p < 18)) with hb | ⟨ho1, ho2⟩
    · rw [if_pos (by omega)] at K
      exact mx_isOp0 hb tp (br_t rfl (BAD K))
    · have ho : mf_op t p := ⟨ho1, ho2⟩
      refine mx_isOp1 ho1 ho2 (br_f (by decide) (mx_kindAt hS.1 hg hn hp ho (pk_eq (mf_kin g t p) 3 (fun h3 => ?_) (fun h3 => ?_))))
      · rw [if_pos (by omega)] at K
        exact BAD K
      · rw [if_neg (by omega)] at K
        refine mx_levelAt hS.1 hn hp ho ?_
        have hl4 := mx_lev4 (t := t) hg p
        refine mx_applyWaiting (k := some (mf_lev g t p)) hS (fun l z => by cases z; exact hl4) hg hn (Nat.le_of_lt hp) hI (fun u' hu => ?_)
        have hI1 := mf_aw_SI (some (mf_lev g t p)) W c hI
        generalize mf_aw g t (some (mf_lev g t p)) W c = r at K hu hI1
        obtain ⟨W1, N, P, f, nd⟩ := r
        obtain ⟨f_count, f_nodes, f_operands, f_waiting, f_fine, f_top, a_kinds, a_levels, a_meanings, a_text, a_at, a_first, a_second, a_strong, a_values, a_pairs, a_from, a_to, a_operand, a_open⟩ := u'
        have h1 : N + W1.length ≤ p := hI1.1
        dsimp only
        refine mx_kindAt hu.1 hg hn hp ho (pk_eq (mf_kin g t p) 4 (fun h4 => ?_) (fun h4 => ?_))
        · rw [if_pos h4] at K
          have h2 : P.length = mf_bn g t W1 + 1 := hI1.2.1
          cases P with
          | nil => exact absurd h2 (by simp)
          | cons a P =>
            refine mx_ap1 hu hg hn hp ho (by omega) (by omega) hI1.2.2.1 (fun u' hu' => ?_)
            have z := K u' (by dsimp only; rw [mf_ap_un (by omega)]; exact hu')
            obtain ⟨f_count, f_nodes, f_operands, f_waiting, f_fine, f_top, a_kinds, a_levels, a_meanings, a_text, a_at, a_first, a_second, a_strong, a_values, a_pairs, a_from, a_to, a_operand, a_open⟩ := u'
            exact z
        · rw [if_neg h4] at K
          obtain ⟨hU, e1, e2, e3, e4, hNd, hP, hW⟩ := hu
          have e3 : f_waiting = nI W1.length := e3
          subst e3
          have hcW : (nI W1.length).toNatClampNeg = W1.length := nI_clamp (by omega)
          rw [hcW]
          exact ⟨vp_in_nI (by omega) (by omega), nm_e (nm_r (nI_1 W1.length) (K _ ⟨hU, e1, e2, rfl, e4, hNd, hP, mx_L_cons hW⟩))⟩
end
end
section
/- the component's readAll -/
def mx_V (g : mf_CF) (t : Nat → Nat) (n : Nat) (nd : Nat → mf_ND) (m : Nat) (u : SX) : Prop := mx_U g t n u ∧ match u with
  | (f_count, f_nodes, f_operands, f_waiting, f_fine, f_top, a_kinds, a_levels, a_meanings, a_text, a_at, a_first, a_second, a_strong, a_values, a_pairs, a_from, a_to, a_operand, a_open) => f_nodes = nI (m + 1) ∧ f_top = nI m ∧ mx_N nd (m + 1) a_at a_first a_second a_strong a_values a_pairs a_from a_to
def mx_rau (post : Int32 → SX → Prop) (fu : Nat) (x1 x2 : Int32) (u : SX) : Prop := match u with
  | (f_count, f_nodes, f_operands, f_waiting, f_fine, f_top, a_kinds, a_levels, a_meanings, a_text, a_at, a_first, a_second, a_strong, a_values, a_pairs, a_from, a_to, a_operand, a_open) => wX_readAll_35 post fu x1 x2 f_count f_nodes f_operands f_waiting f_fine f_top a_kinds a_levels a_meanings a_text a_at a_first a_second a_strong a_values a_pairs a_from a_to a_operand a_open
def mx_74u (post : Int32 → SX → Prop) (x1 : Int32) (u : SX) : Prop := match u with
  | (f_count, f_nodes, f_operands, f_waiting, f_fine, f_top, a_kinds, a_levels, a_meanings, a_text, a_at, a_first, a_second, a_strong, a_values, a_pairs, a_from, a_to, a_operand, a_open) => wX_readAll_74 post x1 f_count f_nodes f_operands f_waiting f_fine f_top a_kinds a_levels a_meanings a_text a_at a_first a_second a_strong a_values a_pairs a_from a_to a_operand a_open
section
variable {g : mf_CF} {t : Nat → Nat} {n : Nat}
theorem mf_rCnt {nd : Nat → mf_ND} {lo n q i j s : Nat} {v : Int32} (d : mf_R g t nd lo n q i j s v) : n + 1 ≤ lo + (j - i) ∧ i < j := by
  refine mf_rInd (Q := fun lo n _ i j _ _ => n + 1 ≤ lo + (j - i) ∧ i < j) ?_ ?_ ?_ ?_ ?_ d
  · intro n i _ _ _ _
    omega
  · intro lo n q i e s v _ _ _ z
    omega
  · intro lo n q i j s v _ _ _ _ _ _ z _ _
    omega
  · intro lo n q i r s v _ _ _ _ _ _ z _ _
    omega
  · intro lo a n q q' i r j s v s' v' _ _ _ _ _ d z _ d' z' _ _ _
    have := mf_rLo d
    omega
theorem mx_run {post : Int32 → SX → Prop} (hg : mf_ok g) (hn : n ≤ 16) (ht : ∀ x, t x ≤ 19) : ∀ (m p : Nat) (s : mf_ST) (u : SX), p + m = n → mx_S g t n s.2.2 s.2.1 u → mf_J g t p s →
    (∀ u', mx_S g t n (mf_run g t m p s).2.2 (mf_run g t m p s).2.1 u' → mx_74u post (mx_b (mf_run g t m p s).1) u') → mx_rau post (m + 1) (mx_b s.1) (nI p) u := by
  intro m
  induction m with
  | zero =>
    intro p s u hp hS _ K
    have z := K u hS
    have ec : mx_U g t n u := hS.1
    obtain ⟨f_count, f_nodes, f_operands, f_waiting, f_fine, f_top, a_kinds, a_levels, a_meanings, a_text, a_at, a_first, a_second, a_strong, a_values, a_pairs, a_from, a_to, a_operand, a_open⟩ := u
    have ec : f_count = nI n := ec.1
    subst ec
    exact br_t (nI_le (by omega) (by omega)) z
  | succ m ih =>
    intro p s u hp hS hJ K
    cases hf : s.2.2.2.2.1 with
    | false =>
      rw [mf_run0 hf] at K
      have z := K u hS
      have ec : mx_U g t n u := hS.1
      obtain ⟨f_count, f_nodes, f_operands, f_waiting, f_fine, f_top, a_kinds, a_levels, a_meanings, a_text, a_at, a_first, a_second, a_strong, a_values, a_pairs, a_from, a_to, a_operand, a_open⟩ := u
      have ec : f_count = nI n := ec.1
      subst ec
      have e4 : f_fine = mx_b s.2.2.2.2.1 := hS.2.2.2.2.1
      rw [hf] at e4
      exact br_f (nI_ge (by omega) (by omega)) (br_t e4 z)
    | true =>
      rw [mf_run1 hf] at K
      have hJ1 := mf_J_sp hg hJ hf
      have ih := ih (p + 1) (mf_sp g t p s)
      have ec : mx_U g t n u := hS.1
      obtain ⟨wh, W, c⟩ := s
      have hf : c.2.2.1 = true := hf
      have hS : mx_S g t n c W u := hS
      have hJf := hJ hf
      obtain ⟨f_count, f_nodes, f_operands, f_waiting, f_fine, f_top, a_kinds, a_levels, a_meanings, a_text, a_at, a_first, a_second, a_strong, a_values, a_pairs, a_from, a_to, a_operand, a_open⟩ := u
      have ec : f_count = nI n := ec.1
      have e4 : f_fine = mx_b c.2.2.1 := hS.2.2.2.2.1
      rw [hf] at e4
      subst ec
      refine br_f (nI_ge (by omega) (by omega)) (br_f (by rw [e4]; decide) ?_)
      cases wh with
      | false =>
        rw [mf_sp_f] at ih K hJ1
        rcases hJf with ⟨z, _⟩ | ⟨_, hI, _⟩
        · exact nomatch z
        · refine br_t rfl (mx_begin hS hg hn ht (by omega) hf hI (fun u' hu => ?_))
          have z := ih u' (by omega) hu hJ1 K
          obtain ⟨f_count, f_nodes, f_operands, f_waiting, f_fine, f_top, a_kinds, a_levels, a_meanings, a_text, a_at, a_first, a_second, a_strong, a_values, a_pairs, a_from, a_to, a_operand, a_open⟩ := u'
          exact nm_r (nI_1 p) z
      | true =>
        rw [mf_sp_t] at ih K hJ1
        rcases hJf with ⟨_, hI, _⟩ | ⟨z, _⟩
        · refine br_f (show ¬ mx_b true = 0 by decide) (mx_goOn hS hg hn ht (by omega) hI (fun u' hu => ?_))
          have z := ih u' (by omega) hu hJ1 K
          obtain ⟨f_count, f_nodes, f_operands, f_waiting, f_fine, f_top, a_kinds, a_levels, a_meanings, a_text, a_at, a_first, a_second, a_strong, a_values, a_pairs, a_from, a_to, a_operand, a_open⟩ := u'
          exact nm_r (nI_1 p) z
        · exact nomatch z
/-- the end of readAll, from the machine's state s -/
theorem mx_end {post : Int32 → SX → Prop} (hg : mf_ok g) (hn : n ≤ 16) {s : mf_ST} {u : SX} (hS : mx_S g t n s.2.2 s.2.1 u) (hJ : mf_J g t n s)
    (h0 : (mf_fin g t s).2.2.1 = false → ∀ u', mx_U g t n u' → post 0 u')
    (h1 : ∀ N m nd, mf_fin g t s = (N, m, true, nd) → ∀ u', (mx_U g t n u' ∧ match u' with | (f_count, f_nodes, f_operands, f_waiting, f_fine, f_top, a_kinds, a_levels, a_meanings, a_text, a_at, a_first, a_second, a_strong, a_values, a_pairs, a_from, a_to, a_operand, a_open) => f_nodes = nI N ∧ f_top = a_operand 0 ∧ mx_N nd N a_at a_first a_second a_strong a_values a_pairs a_from a_to ∧ mx_L a_operand m) → post 1 u') : mx_74u post (mx_b s.1) u := by
  obtain ⟨f_count, f_nodes, f_operands, f_waiting, f_fine, f_top, a_kinds, a_levels, a_meanings, a_text, a_at, a_first, a_second, a_strong, a_values, a_pairs, a_from, a_to, a_operand, a_open⟩ := u
  obtain ⟨wh, W, c⟩ := s
  have e4 : f_fine = mx_b c.2.2.1 := hS.2.2.2.2.1
  have hU := hS.1
  have BAD : (c.2.2.1 = false ∨ wh = false) → wX_readAll_90 post f_count f_nodes f_operands f_waiting f_fine f_top a_kinds a_levels a_meanings a_text a_at a_first a_second a_strong a_values a_pairs a_from a_to a_operand a_open := by
    intro hb
    have hz : (mf_fin g t (wh, W, c)).2.2.1 = false := by
      unfold mf_fin
      rw [if_neg (by dsimp only; rcases hb with z | z <;> rw [z] <;> simp)]
      rfl
    unfold wX_readAll_90 wX_readAll_91
    exact ⟨narrow_b0, rfl, br_t rfl ⟨narrow_b0, h0 hz _ hU⟩⟩
  show wX_readAll_74 post (mx_b wh) f_count f_nodes f_operands f_waiting f_fine f_top a_kinds a_levels a_meanings a_text a_at a_first a_second a_strong a_values a_pairs a_from a_to a_operand a_open
  unfold wX_readAll_74
  cases hf : c.2.2.1 with
  | false =>
    rw [hf] at e4
    exact br_t e4 (BAD (Or.inl hf))
  | true =>
    rw [hf] at e4
    subst e4
    refine br_f (by decide) ?_
    cases wh with
    | false => exact br_t rfl (BAD (Or.inr rfl))
    | true =>
      refine br_f (by decide) ?_
      unfold wX_readAll_91
      refine ⟨narrow_b1, rfl, br_f (by decide) ?_⟩
      have hz : mf_fin g t (true, W, c) = mf_fi2 (mf_aw g t none W c) := if_pos ⟨hf, rfl⟩
      rw [hz] at h0 h1
      rcases hJ hf with ⟨_, hI, _⟩ | ⟨z, _⟩
      · refine mx_applyWaiting (k := none) hS (fun l z => nomatch z) hg hn (Nat.le_refl n) hI (fun u' hu => ?_)
        have hI1 := mf_aw_SI none W c hI
        generalize mf_aw g t none W c = r at h0 h1 hu hI1
        obtain ⟨W1, N, P, f, nd⟩ := r
        obtain ⟨f_count, f_nodes, f_operands, f_waiting, f_fine, f_top, a_kinds, a_levels, a_meanings, a_text, a_at, a_first, a_second, a_strong, a_values, a_pairs, a_from, a_to, a_operand, a_open⟩ := u'
        obtain ⟨hU, e1, e2, e3, e4, hNd, hP, hW⟩ := hu
        have e4 : f_fine = mx_b f := e4
        have e3 : f_waiting = nI W1.length := e3
        subst e3 e4
        unfold wX_readAll_125 wX_readAll_126
        refine mx_bz (fun ef => ?_) (fun ef => ?_)
        · subst ef
          exact ⟨narrow_b0, rfl, nm_e ⟨narrow_b0, h0 rfl _ hU⟩⟩
        · subst ef
          cases W1 with
          | nil => exact br_t rfl ⟨narrow_b1, rfl, nm_e ⟨narrow_b1, h1 N P nd rfl _ ⟨hU, e1, rfl, hNd, hP⟩⟩⟩
          | cons w W1 =>
            refine br_f ?_ ⟨narrow_b0, rfl, nm_e ⟨narrow_b0, h0 rfl _ hU⟩⟩
            have hl : N + (W1.length + 1) ≤ n := hI1.1
            exact nI_ne0 (by simp) (by show W1.length + 1 < _; omega)
      · exact nomatch z
theorem mx_readAll {post : Int32 → SX → Prop} {u : SX} (hU : mx_U g t n u) (hg : mf_ok g) (hn : n ≤ 16) (ht : ∀ x, t x ≤ 19)
    (h0 : (∀ s c v, ¬ mf_Der g t 0 n s c v) → ∀ u', mx_U g t n u' → post 0 u')
    (h1 : ∀ s c v nd m q, mf_Der g t 0 n s c v → m < 16 → mf_R g t nd 0 m q 0 n s v → mf_hd nd m q 0 n s v → ∀ u', mx_V g t n nd m u' → post 1 u') : wpX_readAll post u := by
  obtain ⟨f_count, f_nodes, f_operands, f_waiting, f_fine, f_top, a_kinds, a_levels, a_meanings, a_text, a_at, a_first, a_second, a_strong, a_values, a_pairs, a_from, a_to, a_operand, a_open⟩ := u
  have ec : f_count = nI n := hU.1
  subst ec
  have G : mx_rau post (n + 1) 0 0 (nI n, 0, 0, 0, mx_b (decide (0 < n)), f_top, a_kinds, a_levels, a_meanings, a_text, a_at, a_first, a_second, a_strong, a_values, a_pairs, a_from, a_to, a_operand, a_open) := by
    refine mx_run hg hn ht n 0 (mf_s0 n) _ (by omega) ⟨hU, rfl, rfl, rfl, rfl, fun m hm => absurd hm (Nat.not_lt_zero m), True.intro, True.intro⟩ (mf_J_0 n) (fun u' hu => ?_)
    have hJ := mf_J_run (t := t) hg n 0 (mf_s0 n) (mf_J_0 n)
    rw [Nat.zero_add] at hJ
    refine mx_end hg hn hu hJ (fun z => h0 ?_) (fun N P nd z u' hu' => ?_)
    · intro s c v d
      obtain ⟨m, nd, q, e, _⟩ := mf_complete d
      have z : (mf_all g t n).2.2.1 = false := z
      rw [e] at z
      exact nomatch z
    · have z : mf_all g t n = (N, P, true, nd) := z
      obtain ⟨s, c, v, d⟩ := mf_sound (t := t) hg (n := n) (by rw [z])
      obtain ⟨m, nd', q, e, hR, hh⟩ := mf_complete d
      rw [z] at e
      cases e
      have hc := (mf_rCnt hR).1
      refine h1 s c v nd m q d (by omega) hR hh u' ?_
      obtain ⟨f_count, f_nodes, f_operands, f_waiting, f_fine, f_top, a_kinds, a_levels, a_meanings, a_text, a_at, a_first, a_second, a_strong, a_values, a_pairs, a_from, a_to, a_operand, a_open⟩ := u'
      obtain ⟨a, b, c, d, e⟩ := hu'
      exact ⟨a, b, c.trans e.1, d⟩
  unfold wpX_readAll
  dsimp only
  rcases Nat.eq_zero_or_pos n with e | e
  · rw [decide_eq_false (by omega)] at G
    subst e
    exact br_t (by decide) ⟨_, G⟩
  · rw [decide_eq_true e] at G
    exact br_f (nI_nle e (by omega)) ⟨_, G⟩
end
end
section
/- the reference's table and derivations -/
def my_enc : Nat → Int32
  | 0 => -1
  | 1 => -2
  | r + 2 => nI r
def my_cell (g : mf_CF) (t : Nat → Nat) (i j : Nat) (a b c : Int32) : Prop :=
  (∃ s r w, mf_Der g t i j s r w ∧ a = nI s ∧ b = w ∧ c = my_enc r) ∨ ((∀ s r w, ¬ mf_Der g t i j s r w) ∧ a = -1 ∧ b = 0 ∧ c = -4)
def my_sv (g : mf_CF) (t : Nat → Nat) (i j : Nat) (x : Int32) : Prop :=
  (∃ s r w, mf_Der g t i j s r w ∧ x = nI s) ∨ ((∀ s r w, ¬ mf_Der g t i j s r w) ∧ x = -1)
def my_G (g : mf_CF) (t : Nat → Nat) (n : Nat) (v : SY) : Prop := match v with
  | (f_size, f_many, a_kinds, a_levels, a_meanings, a_text, a_read, a_strengths, a_values, a_operators, a_froms, a_tos, a_keptFroms, a_keptTos, a_open) => f_many = nI n ∧ (∀ k, k < 5 → a_kinds k = nI (g.1 k)) ∧ (∀ o, o < 8 → a_levels o = nI (g.2.1 o)) ∧ (∀ o, o < 8 → a_meanings o = nI (g.2.2 o)) ∧ (∀ p, p < n → a_read p = nI (t p))
/-- the cells of all shorter stretches within [i,j) are right -/
def my_B (g : mf_CF) (t : Nat → Nat) (i j : Nat) (a b c : Nat → Int32) : Prop := ∀ i' j', i ≤ i' → i' < j' → j' ≤ j → j' - i' < j - i → my_cell g t i' j' (a (17 * i' + j')) (b (17 * i' + j')) (c (17 * i' + j'))
theorem my_ix {i j i' j' : Nat} (h : 17 * i + j = 17 * i' + j') (hj : j ≤ 16) (hj' : j' ≤ 16) : i = i' ∧ j = j' := by omega
theorem my_B_upd {g : mf_CF} {t : Nat → Nat} {i j : Nat} {a b c : Nat → Int32} {x y z : Int32} (hj : j ≤ 16) (h : my_B g t i j a b c) : my_B g t i j (upd a (17 * i + j) x) (upd b (17 * i + j) y) (upd c (17 * i + j) z) := by
  intro i' j' h1 h2 h3 h4
  have e : 17 * i' + j' ≠ 17 * i + j := by
    intro z
    have := my_ix z (by omega) hj
    omega
  rw [pk_un e, pk_un e, pk_un e]
  exact h i' j' h1 h2 h3 h4
section
variable {g : mf_CF} {t : Nat → Nat}
theorem mf_s5 (hg : mf_ok g) {i j s c : Nat} {v : Int32} (d : mf_Der g t i j s c v) : s ≤ 5 := by
  rcases mf_inv d with ⟨_, _, rfl, _⟩ | ⟨_, _, _, _, _, _, _, rfl, _⟩ | ⟨r, _, rfl, _⟩
  · exact Nat.le_refl _
  · exact Nat.le_refl _
  · exact Nat.le_succ_of_le (mx_lev4 hg r)
theorem mf_O_rng {i j r : Nat} {v : Int32} (h : mf_O g t i j r v) : i ≤ r ∧ r < j := by
  obtain ⟨ho, ⟨hk, rfl, s, c, w, d, _⟩ | ⟨hk, rfl, s, c, w, d, _⟩ | ⟨hk, s, c, w, s', c', w', d, d', _⟩⟩ := h
  · have := mf_lt d; omega
  · have := mf_lt d; omega
  · have := mf_lt d; have := mf_lt d'; omega
/-- the test x < k of a strength -/
theorem my_sv_lt (hg : mf_ok g) {i j k : Nat} {x y : Int32} {A B : Prop} (h : my_sv g t i j x) (hk : k ≤ 5) (hy : y = nI k) (fa : (∀ s c w, mf_Der g t i j s c w → s < k) → A) (fb : ∀ s c w, mf_Der g t i j s c w → k ≤ s → B) : (x < y → A) ∧ (¬ x < y → B) := by
  subst hy
  rcases h with ⟨s, r, w, d, rfl⟩ | ⟨hno, rfl⟩
  · have := mf_s5 hg d
    refine pk_lt s k (fun z => fa (fun s' c' w' d' => ?_)) (fun z => fb s r w d z)
    rw [(mf_uni d' d).1]
    exact z
  · refine br_t ?_ (fa (fun s c w d => absurd d (hno s c w)))
    have h1 := nI_toInt (n := k) (by omega)
    rw [Int32.lt_iff_toInt_lt, h1]
    have : (-1 : Int32).toInt = -1 := by decide
    omega
theorem my_sv_0 (hg : mf_ok g) {i j : Nat} {x : Int32} {A B : Prop} (h : my_sv g t i j x) (fa : (∀ s c w, ¬ mf_Der g t i j s c w) → A) (fb : ∀ s c w, mf_Der g t i j s c w → B) : (x < 0 → A) ∧ (¬ x < 0 → B) :=
  my_sv_lt hg (k := 0) h (by omega) rfl (fun z => fa (fun s c w d => absurd (z s c w d) (Nat.not_lt_zero s))) (fun s c w d _ => fb s c w d)
theorem my_sv_0' (hg : mf_ok g) {i j : Nat} {x : Int32} {A B : Prop} (h : my_sv g t i j x) (fa : (∀ s c w, ¬ mf_Der g t i j s c w) → A) (fb : ∀ s c w, mf_Der g t i j s c w → B) : (0 ≤ x → B) ∧ (¬ 0 ≤ x → A) := by
  have z := my_sv_0 hg h fa fb
  refine ⟨fun h => z.2 (Int32.not_lt.mpr h), fun h => z.1 (Int32.not_le.mp h)⟩
end
section
variable {f_size f_many : Int32} {a_kinds a_levels a_meanings a_text a_read a_strengths a_values a_operators a_froms a_tos a_keptFroms a_keptTos a_open : Nat → Int32} {g : mf_CF} {t : Nat → Nat} {n : Nat}
theorem my_idx {i j : Nat} : 17 * nI i + nI j = nI (17 * i + j) := by
  rw [show (17 : Int32) = nI 17 from rfl, pk_mul, nI_add]
theorem my_idx1 {r j : Nat} : 17 * nI r + 17 + nI j = nI (17 * (r + 1) + j) := by
  rw [show (17 : Int32) = nI 17 from rfl, pk_mul, nI_add, nI_add, show 17 * r + 17 + j = 17 * (r + 1) + j from by omega]
theorem my_strongest {post : Int32 → Prop} {i j : Nat} (hi : i ≤ 16) (hj : j ≤ 16) (hT : i < j → my_cell g t i j (a_strengths (17 * i + j)) (a_values (17 * i + j)) (a_operators (17 * i + j))) (k : ∀ x, my_sv g t i j x → post x) : wpY_strongest post (f_size, f_many, a_kinds, a_levels, a_meanings, a_text, a_read, a_strengths, a_values, a_operators, a_froms, a_tos, a_keptFroms, a_keptTos, a_open) (nI i) (nI j) := by
  unfold wpY_strongest
  dsimp only
  rw [my_idx]
  refine pk_le j i (fun h => k _ (Or.inr ⟨fun s r w d => absurd (mf_lt d) (by omega), rfl⟩)) (fun h => ⟨vp_in_nI (by omega) (by omega), ?_⟩)
  rw [nI_clamp (by omega)]
  rcases hT h with ⟨s, r, w, d, e, _⟩ | ⟨hno, e, _⟩
  · exact k _ (Or.inl ⟨s, r, w, d, e⟩)
  · exact k _ (Or.inr ⟨hno, e⟩)
theorem my_set {post : SY → Prop} {i j : Nat} {p2 p3 p4 : Int32} (hi : i < 16) (hj : j ≤ 16) (k : post (f_size, f_many, a_kinds, a_levels, a_meanings, a_text, a_read, upd a_strengths (17 * i + j) p2, upd a_values (17 * i + j) p3, upd a_operators (17 * i + j) p4, a_froms, a_tos, a_keptFroms, a_keptTos, a_open)) : wpY_set post (f_size, f_many, a_kinds, a_levels, a_meanings, a_text, a_read, a_strengths, a_values, a_operators, a_froms, a_tos, a_keptFroms, a_keptTos, a_open) (nI i) (nI j) p2 p3 p4 := by
  unfold wpY_set
  dsimp only
  rw [my_idx, nI_clamp (by omega)]
  have h : vp_in (nI (17 * i + j)) 289 := vp_in_nI (by omega) (by omega)
  exact ⟨h, nm_e ⟨h, nm_e ⟨h, nm_e k⟩⟩⟩
theorem my_between {post : Int32 → Prop} {m : Nat} {a b : Int32} {u : SY} (hm : m ≤ 3) (k : post (mf_bt m a b)) : wpY_between post u (nI m) a b := by
  obtain ⟨f_size, f_many, a_kinds, a_levels, a_meanings, a_text, a_read, a_strengths, a_values, a_operators, a_froms, a_tos, a_keptFroms, a_keptTos, a_open⟩ := u
  unfold mf_bt at k
  refine pk_eq m 0 (fun h => ?_) (fun h => pk_eq m 1 (fun h' => ?_) (fun h' => pk_eq m 2 (fun h'' => ?_) (fun h'' => ?_)))
  · rw [if_pos h] at k
    exact k
  · rw [if_neg h, if_pos h'] at k
    exact k
  · rw [if_neg h, if_neg h', if_pos h''] at k
    exact k
  · rw [if_neg h, if_neg h', if_neg h''] at k
    exact k
theorem my_alone {post : Int32 → Prop} {m : Nat} {a : Int32} {u : SY} (hm : m ≤ 3) (k : post (mf_al m a)) : wpY_alone post u (nI m) a := by
  obtain ⟨f_size, f_many, a_kinds, a_levels, a_meanings, a_text, a_read, a_strengths, a_values, a_operators, a_froms, a_tos, a_keptFroms, a_keptTos, a_open⟩ := u
  unfold mf_al at k
  refine pk_eq m 0 (fun h => ?_) (fun h => pk_eq m 1 (fun h' => ?_) (fun h' => pk_eq m 2 (fun h'' => ?_) (fun h'' => ?_)))
  · rw [if_pos h] at k
    exact k
  · rw [if_neg h, if_pos h'] at k
    exact k
  · rw [if_neg h, if_neg h', if_pos h''] at k
    exact k
  · rw [if_neg h, if_neg h', if_neg h''] at k
    exact k
end
end
section
section
variable {f_size f_many : Int32} {a_kinds a_levels a_meanings a_text a_read a_strengths a_values a_operators a_froms a_tos a_keptFroms a_keptTos a_open : Nat → Int32} {g : mf_CF} {t : Nat → Nat} {n : Nat}
theorem my_sv_of {i j s c : Nat} {w a : Int32} {b e : Int32} (h : my_cell g t i j a b e) (d : mf_Der g t i j s c w) : b = w := by
  rcases h with ⟨s', r', w', d', _, rfl, _⟩ | ⟨hno, _⟩
  · exact (mf_uni d' d).2.2
  · exact absurd d (hno s c w)
theorem my_tryOperator {post : Int32 → SY → Prop} {i j r k : Nat} (hG : my_G g t n (f_size, f_many, a_kinds, a_levels, a_meanings, a_text, a_read, a_strengths, a_values, a_operators, a_froms, a_tos, a_keptFroms, a_keptTos, a_open)) (hg : mf_ok g) (hn : n ≤ 16) (hi : i ≤ r) (hr : r < j) (hj : j ≤ n) (hB : my_B g t i j a_strengths a_values a_operators) (ho : mf_op t r) (hk : mf_lev g t r = k)
    (K0 : (∀ w, ¬ mf_O g t i j r w) → post 0 (f_size, f_many, a_kinds, a_levels, a_meanings, a_text, a_read, a_strengths, a_values, a_operators, a_froms, a_tos, a_keptFroms, a_keptTos, a_open))
    (K1 : ∀ w, mf_O g t i j r w → post 1 (f_size, f_many, a_kinds, a_levels, a_meanings, a_text, a_read, upd a_strengths (17 * i + j) (nI k), upd a_values (17 * i + j) w, upd a_operators (17 * i + j) (nI r), a_froms, a_tos, a_keptFroms, a_keptTos, a_open)) :
    wpY_tryOperator post (f_size, f_many, a_kinds, a_levels, a_meanings, a_text, a_read, a_strengths, a_values, a_operators, a_froms, a_tos, a_keptFroms, a_keptTos, a_open) (nI i) (nI j) (nI r) (nI k) := by
  obtain ⟨g1, g2, g3, g4, g5⟩ := hG
  have o1 := ho.1
  have o2 := ho.2
  have k4 : k ≤ 4 := by rw [← hk]; exact mx_lev4 hg r
  have kin4 := mx_kin4 (t := t) hg r
  have ek : g.1 k = mf_kin g t r := by rw [← hk]; rfl
  have t1 : a_read (nI r).toNatClampNeg - 10 = nI (t r - 10) := by
    rw [nI_clamp (by omega), g5 r (by omega)]
    exact pk_sub o1
  have cL : i < r → my_cell g t i r (a_strengths (17 * i + r)) (a_values (17 * i + r)) (a_operators (17 * i + r)) := fun h => hB i r (Nat.le_refl _) h (by omega) (by omega)
  have cR : r + 1 < j → my_cell g t (r + 1) j (a_strengths (17 * (r + 1) + j)) (a_values (17 * (r + 1) + j)) (a_operators (17 * (r + 1) + j)) := fun h => hB (r + 1) j (by omega) h (Nat.le_refl _) (by omega)
  have NO : (∀ w, ¬ mf_O g t i j r w) → wY_tryOperator_136 post (nI i) (nI j) (nI r) (nI k) (nI (t r - 10)) (nI (mf_kin g t r)) 0 f_size f_many a_kinds a_levels a_meanings a_text a_read a_strengths a_values a_operators a_froms a_tos a_keptFroms a_keptTos a_open := fun h => br_t rfl (K0 h)
  have SET : ∀ w, mf_O g t i j r w → wY_tryOperator_230 post (nI i) (nI j) (nI r) (nI k) w f_size f_many a_kinds a_levels a_meanings a_text a_read a_strengths a_values a_operators a_froms a_tos a_keptFroms a_keptTos a_open := fun w h => my_set (by omega) (by omega) (K1 w h)
  have hc8 : (nI (t r - 10)).toNatClampNeg = t r - 10 := nI_clamp (by omega)
  have em : a_meanings (t r - 10) = nI (mf_mea g t r) := g4 _ (by omega)
  have i8 : vp_in (nI (t r - 10)) 8 := vp_in_nI (by omega) (by omega)
  have hcR : (nI (17 * (r + 1) + j)).toNatClampNeg = 17 * (r + 1) + j := nI_clamp (by omega)
  have hcL : (nI (17 * i + r)).toNatClampNeg = 17 * i + r := nI_clamp (by omega)
  have YES3 : mf_kin g t r = 3 → r = i → ∀ s c w, mf_Der g t (r + 1) j s c w → mf_lev g t r ≤ s → wY_tryOperator_136 post (nI i) (nI j) (nI r) (nI k) (nI (t r - 10)) (nI (mf_kin g t r)) 1 f_size f_many a_kinds a_levels a_meanings a_text a_read a_strengths a_values a_operators a_froms a_tos a_keptFroms a_keptTos a_open := by
    intro h3 hri s c w d hs
    have hO : mf_O g t i j r (mf_al (mf_mea g t r) w) := ⟨ho, Or.inl ⟨h3, hri, s, c, w, d, hs, rfl⟩⟩
    have ev := my_sv_of (cR (mf_lt d)) d
    have := mf_lt d
    refine br_f (by decide) (br_t (by rw [h3]; rfl) ?_)
    unfold wY_tryOperator_179
    rw [my_idx1, hcR, ev, hc8, em]
    refine ⟨vp_in_nI (by omega) (by omega), br_f (by rw [h3]; decide) ⟨i8, my_alone (hg.2.2 _) (SET _ hO)⟩⟩
  have YES4 : mf_kin g t r = 4 → j = r + 1 → ∀ s c w, mf_Der g t i r s c w → mf_lev g t r ≤ s → wY_tryOperator_136 post (nI i) (nI j) (nI r) (nI k) (nI (t r - 10)) (nI (mf_kin g t r)) 1 f_size f_many a_kinds a_levels a_meanings a_text a_read a_strengths a_values a_operators a_froms a_tos a_keptFroms a_keptTos a_open := by
    intro h4 hrj s c w d hs
    have hO : mf_O g t i j r (mf_al (mf_mea g t r) w) := ⟨ho, Or.inr (Or.inl ⟨h4, hrj, s, c, w, d, hs, rfl⟩)⟩
    have ev := my_sv_of (cL (mf_lt d)) d
    refine br_f (by decide) (br_f (by rw [h4]; decide) ?_)
    unfold wY_tryOperator_179
    rw [my_idx, hcL, ev, hc8, em]
    refine ⟨vp_in_nI (by omega) (by omega), br_f (by rw [h4]; decide) ⟨i8, my_alone (hg.2.2 _) (SET _ hO)⟩⟩
  have YES2 : mf_kin g t r < 3 → ∀ s c w s' c' w', mf_Der g t i r s c w → mf_Der g t (r + 1) j s' c' w' → mf_nl g t r ≤ s → mf_nr g t r ≤ s' → wY_tryOperator_136 post (nI i) (nI j) (nI r) (nI k) (nI (t r - 10)) (nI (mf_kin g t r)) 1 f_size f_many a_kinds a_levels a_meanings a_text a_read a_strengths a_values a_operators a_froms a_tos a_keptFroms a_keptTos a_open := by
    intro h2 s c w s' c' w' d d' hs hs'
    have hO : mf_O g t i j r (mf_bt (mf_mea g t r) w w') := ⟨ho, Or.inr (Or.inr ⟨h2, s, c, w, s', c', w', d, d', hs, hs', rfl⟩)⟩
    have ev := my_sv_of (cL (mf_lt d)) d
    have ev' := my_sv_of (cR (mf_lt d')) d'
    have := mf_lt d'
    refine br_f (by decide) (pk_eq (mf_kin g t r) 3 (fun z => by omega) (fun _ => ?_))
    unfold wY_tryOperator_179
    rw [my_idx, my_idx1, hcL, hcR, ev, ev', hc8, em]
    refine ⟨vp_in_nI (by omega) (by omega), pk_le (mf_kin g t r) 2 (fun _ => ⟨i8, vp_in_nI (by omega) (by omega), my_between (hg.2.2 _) (SET _ hO)⟩) (fun z => by omega)⟩
  unfold wpY_tryOperator
  dsimp only
  rw [t1]
  refine ⟨vp_in_nI (by omega) (by omega), nm_e (my_strongest (g := g) (t := t) (by omega) (by omega) cL (fun x hx => ?_))⟩
  rw [nI_1 r]
  refine my_strongest (g := g) (t := t) (by omega) (by omega) cR (fun y hy => ⟨vp_in_nI (by omega) (by omega), nm_r (e' := nI (mf_kin g t r)) ?_ ?_⟩)
  · rw [nI_clamp (by omega), g2 k (by omega), ek]
  refine pk_eq (mf_kin g t r) 3 (fun h3 => ?_) (fun h3 => pk_eq (mf_kin g t r) 4 (fun h4 => ?_) (fun h4 => ?_))
  · refine pk_eq r i (fun hri => ?_) (fun hri => NO ?_)
    · refine my_sv_lt hg hy (by omega) rfl (fun z => NO ?_) (fun s c w d hs => YES3 h3 hri s c w d (by omega))
      rintro w ⟨_, ⟨_, _, s, c, w', d, hs, _⟩ | ⟨z4, _⟩ | ⟨z4, _⟩⟩
      · have := z s c w' d; omega
      · omega
      · omega
    · rintro w ⟨_, ⟨_, z4, _⟩ | ⟨z4, _⟩ | ⟨z4, _⟩⟩
      · exact hri z4
      · omega
      · omega
  · have ej : nI j - 1 = nI (j - 1) := pk_sub (a := j) (b := 1) (by omega)
    rw [ej]
    refine pk_eq r (j - 1) (fun hrj => ?_) (fun hrj => NO ?_)
    · refine my_sv_lt hg hx (by omega) rfl (fun z => NO ?_) (fun s c w d hs => YES4 h4 (by omega) s c w d (by omega))
      rintro w ⟨_, ⟨z4, _⟩ | ⟨_, _, s, c, w', d, hs, _⟩ | ⟨z4, _⟩⟩
      · omega
      · have := z s c w' d; omega
      · omega
    · rintro w ⟨_, ⟨z4, _⟩ | ⟨_, z4, _⟩ | ⟨z4, _⟩⟩
      · omega
      · omega
      · omega
  · have k2 : mf_kin g t r < 3 := by omega
    have n5 := mx_nl5 (t := t) hg r
    have m5 := mx_nr5 (t := t) hg r
    have T128 : ∀ s c w, mf_Der g t i r s c w → mf_nl g t r ≤ s → wY_tryOperator_128 post (nI i) (nI j) (nI r) (nI k) (nI (t r - 10)) (nI (mf_kin g t r)) (nI (mf_nr g t r)) y f_size f_many a_kinds a_levels a_meanings a_text a_read a_strengths a_values a_operators a_froms a_tos a_keptFroms a_keptTos a_open := by
      intro s c w d hs
      refine my_sv_lt hg hy m5 rfl (fun z => NO ?_) (fun s' c' w' d' hs' => YES2 k2 s c w s' c' w' d d' hs hs')
      rintro w ⟨_, ⟨z4, _⟩ | ⟨z4, _⟩ | ⟨_, _, _, _, s', c', w', _, d', _, hs', _⟩⟩
      · omega
      · omega
      · have := z s' c' w' d'; omega
    have NOL : (∀ s c w, mf_Der g t i r s c w → s < mf_nl g t r) → ∀ w, ¬ mf_O g t i j r w := by
      rintro z w ⟨_, ⟨z4, _⟩ | ⟨z4, _⟩ | ⟨_, s, c, w', _, _, _, d, _, hs, _⟩⟩
      · omega
      · omega
      · have := z s c w' d; omega
    refine pk_eq (mf_kin g t r) 0 (fun h0 => ?_) (fun h0 => ?_)
    · have el : mf_nl g t r = k := by unfold mf_nl; rw [if_neg (by omega)]; exact hk
      have er : mf_nr g t r = k + 1 := by unfold mf_nr; rw [if_pos (Or.inl h0), hk]
      refine my_sv_lt hg hx n5 (by rw [el]) (fun z => NO (NOL z)) (fun s c w d hs => ?_)
      have T := T128 s c w d hs
      rw [er] at T
      refine pk_eq (mf_kin g t r) 1 (fun z => by omega) (fun _ => ?_)
      rw [nI_1 k]
      exact T
    · have el : mf_nl g t r = k + 1 := by unfold mf_nl; rw [if_pos (by omega), hk]
      refine my_sv_lt hg hx n5 (by rw [el, nI_1]) (fun z => NO (NOL z)) (fun s c w d hs => ?_)
      have T := T128 s c w d hs
      refine pk_eq (mf_kin g t r) 1 (fun z => ?_) (fun z => ?_)
      · have er : mf_nr g t r = k := by unfold mf_nr; rw [if_neg (by omega), hk]
        rw [er] at T
        exact T
      · have er : mf_nr g t r = k + 1 := by unfold mf_nr; rw [if_pos (by omega), hk]
        rw [er, ← nI_1] at T
        exact T
theorem my_tryLevel3 {post : Int32 → SY → Prop} {i j k : Nat} (hG : my_G g t n (f_size, f_many, a_kinds, a_levels, a_meanings, a_text, a_read, a_strengths, a_values, a_operators, a_froms, a_tos, a_keptFroms, a_keptTos, a_open)) (hg : mf_ok g) (hn : n ≤ 16) (ht : ∀ x, t x ≤ 19) (hj : j ≤ n) (hk : k ≤ 4) (hB : my_B g t i j a_strengths a_values a_operators)
    (K0 : (∀ r w, mf_lev g t r = k → ¬ mf_O g t i j r w) → post 0 (f_size, f_many, a_kinds, a_levels, a_meanings, a_text, a_read, a_strengths, a_values, a_operators, a_froms, a_tos, a_keptFroms, a_keptTos, a_open))
    (K1 : ∀ r w, mf_O g t i j r w → mf_lev g t r = k → post 1 (f_size, f_many, a_kinds, a_levels, a_meanings, a_text, a_read, upd a_strengths (17 * i + j) (nI k), upd a_values (17 * i + j) w, upd a_operators (17 * i + j) (nI r), a_froms, a_tos, a_keptFroms, a_keptTos, a_open)) :
    ∀ (m r : Nat), i ≤ r → r + m = j → (∀ r' w, r' < r → mf_lev g t r' = k → ¬ mf_O g t i j r' w) → wY_tryLevel_3 post (nI i) (nI j) (nI k) (m + 1) (nI r) f_size f_many a_kinds a_levels a_meanings a_text a_read a_strengths a_values a_operators a_froms a_tos a_keptFroms a_keptTos a_open := by
  intro m
  induction m with
  | zero =>
    intro r h1 h2 h3
    refine br_t (nI_le (by omega) (by omega)) (K0 (fun r' w e hO => ?_))
    have := mf_O_rng hO
    exact h3 r' w (by omega) e hO
  | succ m ih =>
    intro r h1 h2 h3
    have NEXT : (∀ w, mf_lev g t r = k → ¬ mf_O g t i j r w) → wY_tryLevel_3 post (nI i) (nI j) (nI k) (m + 1) (nI (r + 1)) f_size f_many a_kinds a_levels a_meanings a_text a_read a_strengths a_values a_operators a_froms a_tos a_keptFroms a_keptTos a_open := by
      intro hno
      refine ih (r + 1) (by omega) (by omega) (fun r' w h e => ?_)
      rcases (by omega : r' < r ∨ r' = r) with z | rfl
      · exact h3 r' w z e
      · exact hno w e
    have hx : a_read r = nI (t r) := hG.2.2.2.2 r (by omega)
    have tr := ht r
    have hc : (nI r).toNatClampNeg = r := nI_clamp (by omega)
    have ir : vp_in (nI r) 16 := vp_in_nI (by omega) (by omega)
    rw [wY_tryLevel_3]
    dsimp only
    rw [hc, hx]
    refine br_f (nI_ge (by omega) (by omega)) ⟨ir, pk_le (t r) 9 (fun h => nm_r (nI_1 r) (NEXT ?_)) (fun h => ⟨ir, pk_le 18 (t r) (fun h' => nm_r (nI_1 r) (NEXT ?_)) (fun h' => ?_)⟩)⟩
    · intro w _ hO
      have := hO.1.1
      omega
    · intro w _ hO
      have := hO.1.2
      omega
    · have e10 : nI (t r) - 10 = nI (t r - 10) := pk_sub (a := t r) (b := 10) (by omega)
      have hc8 : (nI (t r - 10)).toNatClampNeg = t r - 10 := nI_clamp (by omega)
      have el : a_levels (t r - 10) = nI (mf_lev g t r) := hG.2.2.1 _ (by omega)
      have l4 := mx_lev4 (t := t) hg r
      rw [e10, hc8, el]
      refine ⟨ir, vp_in_nI (by omega) (by omega), pk_eq (mf_lev g t r) k (fun e => ?_) (fun e => nm_r (nI_1 r) (NEXT (fun w z => absurd z e)))⟩
      refine my_tryOperator hG hg hn h1 (by omega) hj hB ⟨by omega, by omega⟩ e (fun hno => br_t rfl (nm_r (nI_1 r) (NEXT (fun w _ => hno w)))) (fun w hO => br_f (by decide) (K1 r w hO e))
theorem my_tryLevel {post : Int32 → SY → Prop} {i j k : Nat} (hG : my_G g t n (f_size, f_many, a_kinds, a_levels, a_meanings, a_text, a_read, a_strengths, a_values, a_operators, a_froms, a_tos, a_keptFroms, a_keptTos, a_open)) (hg : mf_ok g) (hn : n ≤ 16) (ht : ∀ x, t x ≤ 19) (hij : i < j) (hj : j ≤ n) (hk : k ≤ 4) (hB : my_B g t i j a_strengths a_values a_operators)
    (K0 : (∀ r w, mf_lev g t r = k → ¬ mf_O g t i j r w) → post 0 (f_size, f_many, a_kinds, a_levels, a_meanings, a_text, a_read, a_strengths, a_values, a_operators, a_froms, a_tos, a_keptFroms, a_keptTos, a_open))
    (K1 : ∀ r w, mf_O g t i j r w → mf_lev g t r = k → post 1 (f_size, f_many, a_kinds, a_levels, a_meanings, a_text, a_read, upd a_strengths (17 * i + j) (nI k), upd a_values (17 * i + j) w, upd a_operators (17 * i + j) (nI r), a_froms, a_tos, a_keptFroms, a_keptTos, a_open)) :
    wpY_tryLevel post (f_size, f_many, a_kinds, a_levels, a_meanings, a_text, a_read, a_strengths, a_values, a_operators, a_froms, a_tos, a_keptFroms, a_keptTos, a_open) (nI i) (nI j) (nI k) := by
  refine ⟨j - i + 1, my_tryLevel3 hG hg hn ht hj hk hB K0 K1 (j - i) i (Nat.le_refl _) (by omega) (fun r' w h _ hO => ?_)⟩
  have := mf_O_rng hO
  omega
end
end
section
def my_U (g : mf_CF) (t : Nat → Nat) (n : Nat) (v : SY) : Prop := match v with
  | (f_size, f_many, a_kinds, a_levels, a_meanings, a_text, a_read, a_strengths, a_values, a_operators, a_froms, a_tos, a_keptFroms, a_keptTos, a_open) => f_size = nI n ∧ (∀ k, k < 5 → a_kinds k = nI (g.1 k)) ∧ (∀ o, o < 8 → a_levels o = nI (g.2.1 o)) ∧ (∀ o, o < 8 → a_meanings o = nI (g.2.2 o)) ∧ (∀ p, p < n → a_text p = nI (t p))
def my_T (g : mf_CF) (t : Nat → Nat) (n L i0 : Nat) (a b c : Nat → Int32) : Prop := ∀ i j, i < j → j ≤ n → (j - i < L ∨ (j - i = L ∧ i < i0)) → my_cell g t i j (a (17 * i + j)) (b (17 * i + j)) (c (17 * i + j))
def my_TT (g : mf_CF) (t : Nat → Nat) (n : Nat) (a b c : Nat → Int32) : Prop := ∀ i j, i < j → j ≤ n → my_cell g t i j (a (17 * i + j)) (b (17 * i + j)) (c (17 * i + j))
section
variable {f_size f_many : Int32} {a_kinds a_levels a_meanings a_text a_read a_strengths a_values a_operators a_froms a_tos a_keptFroms a_keptTos a_open : Nat → Int32} {g : mf_CF} {t : Nat → Nat} {n : Nat}
theorem my_rs108 {post : SY → Prop} {i j : Nat} (hG : my_G g t n (f_size, f_many, a_kinds, a_levels, a_meanings, a_text, a_read, a_strengths, a_values, a_operators, a_froms, a_tos, a_keptFroms, a_keptTos, a_open)) (hg : mf_ok g) (hn : n ≤ 16) (ht : ∀ x, t x ≤ 19) (hij : i < j) (hj : j ≤ n) (hB : my_B g t i j a_strengths a_values a_operators)
    (K0 : (∀ r w, ¬ mf_O g t i j r w) → post (f_size, f_many, a_kinds, a_levels, a_meanings, a_text, a_read, a_strengths, a_values, a_operators, a_froms, a_tos, a_keptFroms, a_keptTos, a_open))
    (K1 : ∀ r w, mf_O g t i j r w → post (f_size, f_many, a_kinds, a_levels, a_meanings, a_text, a_read, upd a_strengths (17 * i + j) (nI (mf_lev g t r)), upd a_values (17 * i + j) w, upd a_operators (17 * i + j) (nI r), a_froms, a_tos, a_keptFroms, a_keptTos, a_open)) :
    ∀ (m : Nat), m ≤ 5 → (∀ r w, m ≤ mf_lev g t r → ¬ mf_O g t i j r w) → wY_readStretch_108 post (nI i) (nI j) (m + 1) (nI m + (-1)) f_size f_many a_kinds a_levels a_meanings a_text a_read a_strengths a_values a_operators a_froms a_tos a_keptFroms a_keptTos a_open := by
  intro m
  induction m with
  | zero =>
    intro _ h
    exact br_t (by decide) (K0 (fun r w => h r w (Nat.zero_le _)))
  | succ k ih =>
    intro hm h
    rw [pk_m1]
    refine br_f (nI_pos (by omega)) (my_tryLevel hG hg hn ht hij hj (by omega) hB (fun hno => br_t rfl (nm_e (ih (by omega) (fun r w hr => ?_)))) (fun r w hO e => br_f (by decide) ?_))
    · rcases (by omega : mf_lev g t r = k ∨ k + 1 ≤ mf_lev g t r) with e | e
      · exact hno r w e
      · exact h r w e
    · have := K1 r w hO
      rw [e] at this
      exact this
theorem my_readStretch {post : SY → Prop} {i j : Nat} (hG : my_G g t n (f_size, f_many, a_kinds, a_levels, a_meanings, a_text, a_read, a_strengths, a_values, a_operators, a_froms, a_tos, a_keptFroms, a_keptTos, a_open)) (hg : mf_ok g) (hn : n ≤ 16) (ht : ∀ x, t x ≤ 19) (hij : i < j) (hj : j ≤ n) (hB : my_B g t i j a_strengths a_values a_operators)
    (K : ∀ x y z, my_cell g t i j x y z → post (f_size, f_many, a_kinds, a_levels, a_meanings, a_text, a_read, upd a_strengths (17 * i + j) x, upd a_values (17 * i + j) y, upd a_operators (17 * i + j) z, a_froms, a_tos, a_keptFroms, a_keptTos, a_open)) :
    wpY_readStretch post (f_size, f_many, a_kinds, a_levels, a_meanings, a_text, a_read, a_strengths, a_values, a_operators, a_froms, a_tos, a_keptFroms, a_keptTos, a_open) (nI i) (nI j) := by
  have hx : a_read i = nI (t i) := hG.2.2.2.2 i (by omega)
  have hy : a_read (j - 1) = nI (t (j - 1)) := hG.2.2.2.2 (j - 1) (by omega)
  have ti := ht i
  have tj := ht (j - 1)
  have hc : (nI i).toNatClampNeg = i := nI_clamp (by omega)
  have ej : nI j - 1 = nI (j - 1) := pk_sub (a := j) (b := 1) (by omega)
  have hcj : (nI (j - 1)).toNatClampNeg = j - 1 := nI_clamp (by omega)
  have hB1 := my_B_upd (x := -1) (y := 0) (z := -4) (by omega) hB
  have LOOP : ¬ (j = i + 1 ∧ t i < 10) → (t i = 18 → t (j - 1) = 19 → ∀ s c w, ¬ mf_Der g t (i + 1) (j - 1) s c w) → ∃ n108 : Nat, wY_readStretch_108 post (nI i) (nI j) n108 4 f_size f_many a_kinds a_levels a_meanings a_text a_read (upd a_strengths (17 * i + j) (-1)) (upd a_values (17 * i + j) 0) (upd a_operators (17 * i + j) (-4)) a_froms a_tos a_keptFroms a_keptTos a_open := by
    intro h1 h2
    refine ⟨6, my_rs108 (g := g) (t := t) (n := n) (a_strengths := upd a_strengths (17 * i + j) (-1)) (a_values := upd a_values (17 * i + j) 0) (a_operators := upd a_operators (17 * i + j) (-4)) hG hg hn ht hij hj hB1 (fun hno => K _ _ _ (Or.inr ⟨fun s c w d => ?_, rfl, rfl, rfl⟩)) (fun r w hO => ?_) 5 (Nat.le_refl _) (fun r w hr => absurd (mx_lev4 (t := t) hg r) (by omega))⟩
    · rcases mf_inv d with ⟨a, b, _⟩ | ⟨e, s', c', a, b, c, d', _⟩ | ⟨r, hO, _⟩
      · exact h1 ⟨a, b⟩
      · have ee : e = j - 1 := by omega
        subst ee
        exact h2 b c s' c' w d'
      · exact hno r w hO
    · have z := K (nI (mf_lev g t r)) w (nI r) (Or.inl ⟨mf_lev g t r, r + 2, w, mf_dO hO, rfl, rfl, rfl⟩)
      rw [mx_uu, mx_uu, mx_uu]
      exact z
  have S43 : ¬ (j = i + 1 ∧ t i < 10) → wY_readStretch_43 post (nI i) (nI j) f_size f_many a_kinds a_levels a_meanings a_text a_read (upd a_strengths (17 * i + j) (-1)) (upd a_values (17 * i + j) 0) (upd a_operators (17 * i + j) (-4)) a_froms a_tos a_keptFroms a_keptTos a_open := by
    intro h1
    unfold wY_readStretch_43
    rw [hc, hx, ej, hcj, hy]
    refine ⟨vp_in_nI (by omega) (by omega), pk_eq (t i) 18 (fun h18 => ⟨vp_in_nI (by omega) (by omega), pk_eq (t (j - 1)) 19 (fun h19 => ?_) (fun h19 => LOOP h1 (fun _ z => absurd z h19))⟩) (fun h18 => LOOP h1 (fun z => absurd z h18))⟩
    rw [nI_1 i]
    have cI : i + 1 < j - 1 → my_cell g t (i + 1) (j - 1) (upd a_strengths (17 * i + j) (-1) (17 * (i + 1) + (j - 1))) (upd a_values (17 * i + j) 0 (17 * (i + 1) + (j - 1))) (upd a_operators (17 * i + j) (-4) (17 * (i + 1) + (j - 1))) := fun h => hB1 (i + 1) (j - 1) (by omega) h (by omega) (by omega)
    refine my_strongest (g := g) (t := t) (by omega) (by omega) cI (fun x hx => my_sv_0 hg hx (fun z => LOOP h1 (fun _ _ => z)) (fun s c w d => ?_))
    have hlt := mf_lt d
    have ev := my_sv_of (cI hlt) d
    have e1 : 17 * nI i + 17 + nI j - 1 = nI (17 * (i + 1) + (j - 1)) := by
      rw [my_idx1, show (1 : Int32) = nI 1 from rfl, pk_sub (by omega), show 17 * (i + 1) + j - 1 = 17 * (i + 1) + (j - 1) from by omega]
    rw [e1, nI_clamp (by omega), ev]
    refine ⟨vp_in_nI (by omega) (by omega), my_set (by omega) (by omega) ?_⟩
    rw [mx_uu, mx_uu, mx_uu]
    refine K _ _ _ (Or.inl ⟨5, 1, w, ?_, rfl, rfl, rfl⟩)
    have := mf_dBr h18 h19 d
    rw [show j - 1 + 1 = j from by omega] at this
    exact this
  unfold wpY_readStretch
  dsimp only
  refine my_set (by omega) (by omega) ?_
  dsimp only
  rw [nI_1 i, hc, hx]
  refine pk_eq j (i + 1) (fun e => ⟨vp_in_nI (by omega) (by omega), pk_le 10 (t i) (fun h => S43 (fun z => by omega)) (fun h => ⟨vp_in_nI (by omega) (by omega), my_set (by omega) (by omega) ?_⟩)⟩) (fun e => S43 (fun z => e z.1))
  rw [mx_uu, mx_uu, mx_uu]
  refine K _ _ _ (Or.inl ⟨5, 0, _, ?_, rfl, rfl, rfl⟩)
  rw [e]
  exact mf_dNum h
theorem my_ra12 {post : Int32 → SY → Prop} {J2 : Int32 → Int32 → Int32 → (Nat → Int32) → (Nat → Int32) → (Nat → Int32) → (Nat → Int32) → (Nat → Int32) → (Nat → Int32) → (Nat → Int32) → (Nat → Int32) → (Nat → Int32) → (Nat → Int32) → (Nat → Int32) → (Nat → Int32) → (Nat → Int32) → Prop} {L : Nat} (hG : my_G g t n (f_size, f_many, a_kinds, a_levels, a_meanings, a_text, a_read, a_strengths, a_values, a_operators, a_froms, a_tos, a_keptFroms, a_keptTos, a_open)) (hg : mf_ok g) (hn : n ≤ 16) (ht : ∀ x, t x ≤ 19) (hL : 0 < L) (hLn : L ≤ n)
    (K : ∀ a b c, my_T g t n (L + 1) 0 a b c → J2 (nI (L + 1)) f_size f_many a_kinds a_levels a_meanings a_text a_read a b c a_froms a_tos a_keptFroms a_keptTos a_open) :
    ∀ (m i : Nat) (a b c : Nat → Int32), i + L + m = n + 1 → my_T g t n L i a b c → wY_readAll_12 post J2 (nI L) (m + 1) (nI i) f_size f_many a_kinds a_levels a_meanings a_text a_read a b c a_froms a_tos a_keptFroms a_keptTos a_open := by
  have em : f_many = nI n := hG.1
  subst em
  intro m
  induction m with
  | zero =>
    intro i a b c h hT
    rw [wY_readAll_12]
    dsimp only
    rw [nI_add]
    refine br_t (nI_lt (by omega) (by omega)) (nm_r (nI_1 L) (K a b c (fun i' j' h1 h2 h3 => hT i' j' h1 h2 (by omega))))
  | succ m ih =>
    intro i a b c h hT
    rw [wY_readAll_12]
    dsimp only
    rw [nI_add]
    refine br_f (nI_nlt (by omega) (by omega)) (my_readStretch (g := g) (t := t) (n := n) hG hg hn ht (by omega) (by omega) (fun i' j' h1 h2 h3 h4 => hT i' j' h2 (by omega) (by omega)) (fun x y z hc => nm_r (nI_1 i) (ih (i + 1) _ _ _ (by omega) ?_)))
    intro i' j' h1 h2 h3
    dsimp only
    by_cases e : 17 * i' + j' = 17 * i + (i + L)
    · have := my_ix e (by omega) (by omega)
      obtain ⟨rfl, rfl⟩ := this
      rw [pk_us, pk_us, pk_us]
      exact hc
    · rw [pk_un e, pk_un e, pk_un e]
      exact hT i' j' h1 h2 (by omega)
theorem my_ra2 {post : Int32 → SY → Prop} (hG : my_G g t n (f_size, f_many, a_kinds, a_levels, a_meanings, a_text, a_read, a_strengths, a_values, a_operators, a_froms, a_tos, a_keptFroms, a_keptTos, a_open)) (hg : mf_ok g) (hn : n ≤ 16) (ht : ∀ x, t x ≤ 19)
    (K : ∀ x a b c, my_sv g t 0 n x → my_TT g t n a b c → post x (f_size, f_many, a_kinds, a_levels, a_meanings, a_text, a_read, a, b, c, a_froms, a_tos, a_keptFroms, a_keptTos, a_open)) :
    ∀ (m L : Nat) (a b c : Nat → Int32), L + m = n + 1 → 0 < L → my_T g t n L 0 a b c → wY_readAll_2 post (m + 1) (nI L) f_size f_many a_kinds a_levels a_meanings a_text a_read a b c a_froms a_tos a_keptFroms a_keptTos a_open := by
  have em : f_many = nI n := hG.1
  subst em
  intro m
  induction m with
  | zero =>
    intro L a b c h h0 hT
    refine br_t (nI_lt (by omega) (by omega)) ?_
    have hTT : my_TT g t n a b c := fun i j h1 h2 => hT i j h1 h2 (by omega)
    exact my_strongest (g := g) (t := t) (i := 0) (by omega) (by omega) (fun h => hTT 0 n h (Nat.le_refl _)) (fun x hx => K x a b c hx hTT)
  | succ m ih =>
    intro L a b c h h0 hT
    refine br_f (nI_nlt (by omega) (by omega)) ⟨n + 1 - L + 1, ?_⟩
    exact my_ra12 (g := g) (t := t) (n := n) (L := L) hG hg hn ht h0 (by omega) (fun a b c hT' => ih (L + 1) a b c (by omega) (by omega) hT') (n + 1 - L) 0 a b c (by omega) hT
theorem my_readAll {post : Int32 → SY → Prop} (hG : my_G g t n (f_size, f_many, a_kinds, a_levels, a_meanings, a_text, a_read, a_strengths, a_values, a_operators, a_froms, a_tos, a_keptFroms, a_keptTos, a_open)) (hg : mf_ok g) (hn : n ≤ 16) (ht : ∀ x, t x ≤ 19)
    (K : ∀ x a b c, my_sv g t 0 n x → my_TT g t n a b c → post x (f_size, f_many, a_kinds, a_levels, a_meanings, a_text, a_read, a, b, c, a_froms, a_tos, a_keptFroms, a_keptTos, a_open)) : wpY_readAll post (f_size, f_many, a_kinds, a_levels, a_meanings, a_text, a_read, a_strengths, a_values, a_operators, a_froms, a_tos, a_keptFroms, a_keptTos, a_open) :=
  ⟨n + 1, my_ra2 hG hg hn ht K n 1 a_strengths a_values a_operators (by omega) (by omega) (fun i j h1 h2 h3 => by omega)⟩
theorem my_rt10 {post : Int32 → SY → Prop} (hU : my_U g t n (f_size, f_many, a_kinds, a_levels, a_meanings, a_text, a_read, a_strengths, a_values, a_operators, a_froms, a_tos, a_keptFroms, a_keptTos, a_open)) (hg : mf_ok g) (hn : n ≤ 15) (ht : ∀ x, t x ≤ 19)
    (K : ∀ x R a b c, (∀ p, p < n → R p = nI (t p)) → my_sv g t 0 n x → my_TT g t n a b c → post x (f_size, nI n, a_kinds, a_levels, a_meanings, a_text, R, a, b, c, a_froms, a_tos, a_keptFroms, a_keptTos, a_open)) :
    ∀ (m i : Nat) (R : Nat → Int32), i + m = n → (∀ p, p < i → R p = nI (t p)) → wY_readText_10 post f_size (nI n) (m + 1) (nI i) a_kinds a_levels a_meanings a_text R a_strengths a_values a_operators a_froms a_tos a_keptFroms a_keptTos a_open := by
  have em : f_size = nI n := hU.1
  subst em
  obtain ⟨_, hU2, hU3, hU4, hU5⟩ := hU
  intro m
  induction m with
  | zero =>
    intro i R h hR
    have e : i = n := by omega
    subst e
    refine br_t (nI_le (by omega) (by omega)) (my_readAll (g := g) (t := t) (n := i) ⟨rfl, hU2, hU3, hU4, hR⟩ hg (by omega) ht (fun x a b c hx hT => K x R a b c hR hx hT))
  | succ m ih =>
    intro i R h hR
    have hc : (nI i).toNatClampNeg = i := nI_clamp (by omega)
    rw [wY_readText_10]
    dsimp only
    rw [hc, hU5 i (by omega)]
    refine br_f (nI_ge (by omega) (by omega)) ⟨vp_in_nI (by omega) (by omega), vp_in_nI (by omega) (by omega), nm_e (nm_r (nI_1 i) (ih (i + 1) _ (by omega) (fun p hp => ?_)))⟩
    by_cases e : p = i
    · rw [e, pk_us]
    · rw [pk_un e]
      exact hR p (by omega)
theorem my_readText {post : Int32 → SY → Prop} (hU : my_U g t n (f_size, f_many, a_kinds, a_levels, a_meanings, a_text, a_read, a_strengths, a_values, a_operators, a_froms, a_tos, a_keptFroms, a_keptTos, a_open)) (hg : mf_ok g) (hn : n ≤ 15) (ht : ∀ x, t x ≤ 19)
    (K : ∀ x R a b c, (∀ p, p < n → R p = nI (t p)) → my_sv g t 0 n x → my_TT g t n a b c → post x (f_size, nI n, a_kinds, a_levels, a_meanings, a_text, R, a, b, c, a_froms, a_tos, a_keptFroms, a_keptTos, a_open)) : wpY_readText post (f_size, f_many, a_kinds, a_levels, a_meanings, a_text, a_read, a_strengths, a_values, a_operators, a_froms, a_tos, a_keptFroms, a_keptTos, a_open) := by
  have em : f_size = nI n := hU.1
  have z := my_rt10 hU hg hn ht K n 0 a_read (by omega) (fun p hp => absurd hp (Nat.not_lt_zero p))
  unfold wpY_readText
  dsimp only
  refine ⟨n + 1, ?_⟩
  rw [← em] at z
  exact z
end
end
section
/- the relation, the constructors, and the calls without reading -/
def i_Rel (k : Nat) (u : SX) (v : SY) : Prop := ∃ (g : mf_CF) (t : Nat → Nat) (n : Nat), mf_ok g ∧ (∀ x, t x ≤ 19) ∧ n ≤ 15 ∧ mx_U g t n u ∧ my_U g t n v
theorem i_up {k : Nat} {u : SX} {v : SY} (h : i_Rel k u v) : i_Rel (k + 4) u v := h
def mr_l0 (o : Nat) : Nat := if o < 6 then o / 2 else if o < 8 then o - 3 else 0
def mr_g0 : mf_CF := (fun _ => 0, mr_l0, fun o => o % 4)
theorem mr_g0ok : mf_ok mr_g0 := by
  refine ⟨fun k => Nat.zero_le _, fun o => ?_, fun o => ?_⟩
  · show mr_l0 o ≤ 4
    unfold mr_l0
    split
    · omega
    · split <;> omega
  · show o % 4 ≤ 3
    omega
theorem mr_and3 {i : Nat} (h : i < 8) : nI i &&& 3 = nI (i % 4) := pk_andN (n := i) (by omega) 2 (by decide)
theorem mr_div2 {i : Nat} (h : i < 8) : nI i / 2 = nI (i / 2) := pk_div (a := i) (d := 2) (by omega) (by omega) (by omega)
theorem mr_sub3 {i : Nat} (h : 3 ≤ i) : nI i - 3 = nI (i - 3) := pk_sub (a := i) (b := 3) h
section
variable {f_count f_nodes f_operands f_waiting f_fine f_top : Int32} {a_kinds a_levels a_meanings a_text a_at a_first a_second a_strong a_values a_pairs a_from a_to a_operand a_open : Nat → Int32}
theorem mr_x143 {post : SX → Prop} {J : Int32 → (Nat → Int32) → (Nat → Int32) → (Nat → Int32) → (Nat → Int32) → (Nat → Int32) → (Nat → Int32) → (Nat → Int32) → (Nat → Int32) → (Nat → Int32) → (Nat → Int32) → (Nat → Int32) → (Nat → Int32) → (Nat → Int32) → (Nat → Int32) → Prop} {i : Nat} {z : Int32} (hi : i < 8) (hz : z = nI (mr_l0 i)) (hL : ∀ o, o < i → a_levels o = nI (mr_l0 o)) (hM : ∀ o, o < i → a_meanings o = nI (o % 4))
    (K : ∀ L M, (∀ o, o < i + 1 → L o = nI (mr_l0 o)) → (∀ o, o < i + 1 → M o = nI (o % 4)) → J (nI (i + 1)) a_kinds L M a_text a_at a_first a_second a_strong a_values a_pairs a_from a_to a_operand a_open) : wX_init_143 post J (nI i) z (nI i) f_count f_nodes f_operands f_waiting f_fine f_top a_kinds a_levels a_meanings a_text a_at a_first a_second a_strong a_values a_pairs a_from a_to a_operand a_open := by
  have hc : (nI i).toNatClampNeg = i := nI_clamp (by omega)
  have hv : vp_in (nI i) 8 := vp_in_nI hi (by omega)
  unfold wX_init_143
  rw [hc, mr_and3 hi]
  refine ⟨hv, nm_e ⟨hv, nm_e (nm_r (nI_1 i) (K _ _ ?_ ?_))⟩⟩
  · refine lt_s (fun a ha => ?_) ?_
    · rw [pk_un (by omega)]
      exact hL a ha
    · rw [pk_us, hz]
  · refine lt_s (fun a ha => ?_) ?_
    · rw [pk_un (by omega)]
      exact hM a ha
    · rw [pk_us]
theorem mr_xloop {post : SX → Prop} (K : ∀ L M, (∀ o, o < 8 → L o = nI (mr_l0 o)) → (∀ o, o < 8 → M o = nI (o % 4)) → post (f_count, f_nodes, f_operands, f_waiting, f_fine, f_top, a_kinds, L, M, a_text, a_at, a_first, a_second, a_strong, a_values, a_pairs, a_from, a_to, a_operand, a_open)) :
    ∀ (m i : Nat) (L M : Nat → Int32), i + m = 8 → (∀ o, o < i → L o = nI (mr_l0 o)) → (∀ o, o < i → M o = nI (o % 4)) → wX_init_117 post f_count f_nodes f_operands f_waiting f_fine f_top (m + 1) (nI i) a_kinds L M a_text a_at a_first a_second a_strong a_values a_pairs a_from a_to a_operand a_open := by
  intro m
  induction m with
  | zero =>
    intro i L M h hL hM
    have e : i = 8 := by omega
    subst e
    exact br_t (by decide) (K L M hL hM)
  | succ m ih =>
    intro i L M h hL hM
    refine pk_le 8 i (fun z => by omega) (fun _ => pk_le 6 i (fun h6 => ?_) (fun h6 => ⟨by decide, ?_⟩))
    · refine mr_x143 (by omega) ?_ hL hM (fun L' M' h1 h2 => ih (i + 1) L' M' (by omega) h1 h2)
      rw [mr_sub3 (by omega)]
      unfold mr_l0
      rw [if_neg (by omega), if_pos (by omega)]
    · refine mr_x143 (by omega) ?_ hL hM (fun L' M' h1 h2 => ih (i + 1) L' M' (by omega) h1 h2)
      rw [mr_div2 (by omega)]
      unfold mr_l0
      rw [if_pos (by omega)]
end
section
variable {f_size f_many : Int32} {a_kinds a_levels a_meanings a_text a_read a_strengths a_values a_operators a_froms a_tos a_keptFroms a_keptTos a_open : Nat → Int32}
theorem mr_y138 {post : SY → Prop} {J : Int32 → (Nat → Int32) → (Nat → Int32) → (Nat → Int32) → (Nat → Int32) → (Nat → Int32) → (Nat → Int32) → (Nat → Int32) → (Nat → Int32) → (Nat → Int32) → (Nat → Int32) → (Nat → Int32) → (Nat → Int32) → (Nat → Int32) → Prop} {i : Nat} {z : Int32} (hi : i < 8) (hz : z = nI (mr_l0 i)) (hL : ∀ o, o < i → a_levels o = nI (mr_l0 o)) (hM : ∀ o, o < i → a_meanings o = nI (o % 4))
    (K : ∀ L M, (∀ o, o < i + 1 → L o = nI (mr_l0 o)) → (∀ o, o < i + 1 → M o = nI (o % 4)) → J (nI (i + 1)) a_kinds L M a_text a_read a_strengths a_values a_operators a_froms a_tos a_keptFroms a_keptTos a_open) : wY_init_138 post J (nI i) z (nI i) f_size f_many a_kinds a_levels a_meanings a_text a_read a_strengths a_values a_operators a_froms a_tos a_keptFroms a_keptTos a_open := by
  have hc : (nI i).toNatClampNeg = i := nI_clamp (by omega)
  have hv : vp_in (nI i) 8 := vp_in_nI hi (by omega)
  unfold wY_init_138
  rw [hc, mr_and3 hi]
  refine ⟨hv, nm_e ⟨hv, nm_e (nm_r (nI_1 i) (K _ _ ?_ ?_))⟩⟩
  · refine lt_s (fun a ha => ?_) ?_
    · rw [pk_un (by omega)]
      exact hL a ha
    · rw [pk_us, hz]
  · refine lt_s (fun a ha => ?_) ?_
    · rw [pk_un (by omega)]
      exact hM a ha
    · rw [pk_us]
theorem mr_yloop {post : SY → Prop} (K : ∀ L M, (∀ o, o < 8 → L o = nI (mr_l0 o)) → (∀ o, o < 8 → M o = nI (o % 4)) → post (f_size, f_many, a_kinds, L, M, a_text, a_read, a_strengths, a_values, a_operators, a_froms, a_tos, a_keptFroms, a_keptTos, a_open)) :
    ∀ (m i : Nat) (L M : Nat → Int32), i + m = 8 → (∀ o, o < i → L o = nI (mr_l0 o)) → (∀ o, o < i → M o = nI (o % 4)) → wY_init_112 post f_size f_many (m + 1) (nI i) a_kinds L M a_text a_read a_strengths a_values a_operators a_froms a_tos a_keptFroms a_keptTos a_open := by
  intro m
  induction m with
  | zero =>
    intro i L M h hL hM
    have e : i = 8 := by omega
    subst e
    exact br_t (by decide) (K L M hL hM)
  | succ m ih =>
    intro i L M h hL hM
    refine pk_le 8 i (fun z => by omega) (fun _ => pk_le 6 i (fun h6 => ?_) (fun h6 => ⟨by decide, ?_⟩))
    · refine mr_y138 (by omega) ?_ hL hM (fun L' M' h1 h2 => ih (i + 1) L' M' (by omega) h1 h2)
      rw [mr_sub3 (by omega)]
      unfold mr_l0
      rw [if_neg (by omega), if_pos (by omega)]
    · refine mr_y138 (by omega) ?_ hL hM (fun L' M' h1 h2 => ih (i + 1) L' M' (by omega) h1 h2)
      rw [mr_div2 (by omega)]
      unfold mr_l0
      rw [if_pos (by omega)]
end
theorem i_vc0 : wpX_init (fun u => wpY_init (fun v => i_Rel 0 u v)) := by
  refine ⟨9, mr_xloop (fun L M hL hM => ⟨9, mr_yloop (fun L' M' hL' hM' => ?_) 8 0 _ _ rfl lt_0 lt_0⟩) 8 0 _ _ rfl lt_0 lt_0⟩
  exact ⟨mr_g0, fun _ => 0, 0, mr_g0ok, fun _ => Nat.zero_le _, Nat.zero_le _, ⟨rfl, fun _ _ => rfl, hL, hM, lt_0⟩, ⟨rfl, fun _ _ => rfl, hL', hM', lt_0⟩⟩
def mr_put (f : Nat → Nat) (k x : Nat) : Nat → Nat := fun j => if j = k then x else f j
theorem mr_put_le {f : Nat → Nat} {k x b : Nat} (h : ∀ j, f j ≤ b) (hx : x ≤ b) : ∀ j, mr_put f k x j ≤ b := by
  intro j
  unfold mr_put
  split
  · exact hx
  · exact h j
theorem mr_put_a {f : Nat → Nat} {a : Nat → Int32} {k x N : Nat} (h : ∀ j, j < N → a j = nI (f j)) : ∀ j, j < N → upd a k (nI x) j = nI (mr_put f k x j) := by
  intro j hj
  unfold mr_put upd
  split
  · rfl
  · exact h j hj
theorem i_vc_level {k : Nat} {u : SX} {v : SY} (I : i_Rel k u v) (hk : k + 4 ≤ 2048) (v1 : Int32) (v2 : Int32) : wpX_level (fun r u' => wpY_level (fun r' v' => r' = r ∧ i_Rel (k + 4) u' v') v v1 v2) u v1 v2 := by
  have I0 := I
  obtain ⟨g, t, n, hg, ht, hn, hX, hY⟩ := I
  obtain ⟨x_count, x_nodes, x_operands, x_waiting, x_fine, x_top, x_kinds, x_levels, x_meanings, x_text, x_at, x_first, x_second, x_strong, x_values, x_pairs, x_from, x_to, x_operand, x_open⟩ := u
  obtain ⟨f_size, f_many, a_kinds, a_levels, a_meanings, a_text, a_read, a_strengths, a_values, a_operators, a_froms, a_tos, a_keptFroms, a_keptTos, a_open⟩ := v
  have R1 := And.intro (rfl : (-1 : Int32) = -1) I0
  by_cases h1 : v1 < 0
  · exact br_t h1 (br_t h1 R1)
  obtain ⟨p, hp, rfl⟩ := nI_of h1
  refine br_f h1 (pk_le 5 p (fun z => br_f h1 (br_t (nI_lt (a := 4) (by omega) hp) R1)) (fun z => ?_))
  have z4 : ¬ (4 : Int32) < nI p := nI_nlt (b := p) (a := 4) (by omega) (by omega)
  by_cases h2 : v2 < 0
  · exact br_t h2 (br_f h1 (br_f z4 (br_t h2 R1)))
  obtain ⟨q, hq, rfl⟩ := nI_of h2
  refine br_f h2 (pk_le q 4 (fun z' => ?_) (fun z' => br_f h1 (br_f z4 (br_f h2 (br_f (nI_ge (b := q) (a := 4) z' hq) R1)))))
  have hc : (nI p).toNatClampNeg = p := nI_clamp (by omega)
  have hv : vp_in (nI p) 5 := vp_in_nI (by omega) (by omega)
  refine ⟨hv, nm_e ⟨hv, nm_e (br_f h1 (br_f z4 (br_f h2 (br_t (nI_le (a := q) (b := 4) z' (by omega)) ⟨hv, nm_e ⟨hv, nm_e ?_⟩⟩))))⟩⟩
  rw [hc]
  obtain ⟨x1, x2, x3, x4, x5⟩ := hX
  obtain ⟨y1, y2, y3, y4, y5⟩ := hY
  refine ⟨(y2 p (by omega)).trans (x2 p (by omega)).symm, (mr_put g.1 p q, g.2), t, n, ⟨mr_put_le hg.1 z', hg.2⟩, ht, hn, ⟨x1, mr_put_a x2, x3, x4, x5⟩, ⟨y1, mr_put_a y2, y3, y4, y5⟩⟩
theorem i_vc_operator {k : Nat} {u : SX} {v : SY} (I : i_Rel k u v) (hk : k + 4 ≤ 2048) (v1 : Int32) (v2 : Int32) (v3 : Int32) : wpX_operator (fun r u' => wpY_operator (fun r' v' => r' = r ∧ i_Rel (k + 4) u' v') v v1 v2 v3) u v1 v2 v3 := by
  have I0 := I
  obtain ⟨g, t, n, hg, ht, hn, hX, hY⟩ := I
  obtain ⟨x_count, x_nodes, x_operands, x_waiting, x_fine, x_top, x_kinds, x_levels, x_meanings, x_text, x_at, x_first, x_second, x_strong, x_values, x_pairs, x_from, x_to, x_operand, x_open⟩ := u
  obtain ⟨f_size, f_many, a_kinds, a_levels, a_meanings, a_text, a_read, a_strengths, a_values, a_operators, a_froms, a_tos, a_keptFroms, a_keptTos, a_open⟩ := v
  have R1 := And.intro (rfl : (-1 : Int32) = -1) I0
  by_cases h1 : v1 < 0
  · exact br_t h1 (br_t h1 R1)
  obtain ⟨p, hp, rfl⟩ := nI_of h1
  refine br_f h1 (pk_lt 7 p (fun z => br_f h1 (br_t (nI_lt (a := 7) z hp) R1)) (fun z => ?_))
  have z7 : ¬ (7 : Int32) < nI p := nI_nlt (b := p) (a := 7) z (by omega)
  by_cases h2 : v2 < 0
  · exact br_t h2 (br_f h1 (br_f z7 (br_t h2 R1)))
  obtain ⟨q, hq, rfl⟩ := nI_of h2
  refine br_f h2 (pk_le 5 q (fun z' => br_f h1 (br_f z7 (br_f h2 (br_t (nI_lt (a := 4) (by omega) hq) R1)))) (fun z' => ?_))
  have z4 : ¬ (4 : Int32) < nI q := nI_nlt (b := q) (a := 4) (by omega) (by omega)
  by_cases h3 : v3 < 0
  · exact br_t h3 (br_f h1 (br_f z7 (br_f h2 (br_f z4 (br_t h3 R1)))))
  obtain ⟨m, hm, rfl⟩ := nI_of h3
  refine br_f h3 (pk_le m 3 (fun z'' => ?_) (fun z'' => br_f h1 (br_f z7 (br_f h2 (br_f z4 (br_f h3 (br_f (nI_ge (b := m) (a := 3) z'' hm) R1)))))))
  have hc : (nI p).toNatClampNeg = p := nI_clamp (by omega)
  have hv : vp_in (nI p) 8 := vp_in_nI (by omega) (by omega)
  refine ⟨hv, nm_e ⟨hv, nm_e ⟨hv, nm_e (br_f h1 (br_f z7 (br_f h2 (br_f z4 (br_f h3 (br_t (nI_le (a := m) (b := 3) z'' (by omega)) ⟨hv, nm_e ⟨hv, nm_e ⟨hv, nm_e ?_⟩⟩⟩))))))⟩⟩⟩
  rw [hc]
  obtain ⟨x1, x2, x3, x4, x5⟩ := hX
  obtain ⟨y1, y2, y3, y4, y5⟩ := hY
  refine ⟨(y3 p (by omega)).trans (x3 p (by omega)).symm, (g.1, mr_put g.2.1 p q, mr_put g.2.2 p m), t, n, ⟨hg.1, mr_put_le hg.2.1 (by omega), mr_put_le hg.2.2 z''⟩, ht, hn, ⟨x1, x2, mr_put_a x3, mr_put_a x4, x5⟩, ⟨y1, y2, mr_put_a y3, mr_put_a y4, y5⟩⟩
theorem i_vc_token {k : Nat} {u : SX} {v : SY} (I : i_Rel k u v) (hk : k + 4 ≤ 2048) (v1 : Int32) : wpX_token (fun r u' => wpY_token (fun r' v' => r' = r ∧ i_Rel (k + 4) u' v') v v1) u v1 := by
  have I0 := I
  obtain ⟨g, t, n, hg, ht, hn, hX, hY⟩ := I
  obtain ⟨x_count, x_nodes, x_operands, x_waiting, x_fine, x_top, x_kinds, x_levels, x_meanings, x_text, x_at, x_first, x_second, x_strong, x_values, x_pairs, x_from, x_to, x_operand, x_open⟩ := u
  obtain ⟨f_size, f_many, a_kinds, a_levels, a_meanings, a_text, a_read, a_strengths, a_values, a_operators, a_froms, a_tos, a_keptFroms, a_keptTos, a_open⟩ := v
  obtain ⟨x1, x2, x3, x4, x5⟩ := hX
  obtain ⟨y1, y2, y3, y4, y5⟩ := hY
  subst x1 y1
  by_cases h1 : v1 < 0
  · exact br_t h1 (br_t h1 ⟨rfl, I0⟩)
  obtain ⟨p, hp, rfl⟩ := nI_of h1
  refine br_f h1 (pk_le p 19 (fun z => ?_) (fun z => br_f h1 (br_f (nI_ge (b := p) (a := 19) z hp) ⟨rfl, I0⟩)))
  have z' : nI p ≤ 19 := nI_le (b := 19) z (by omega)
  refine pk_eq n 15 (fun e => br_f h1 (br_t z' (br_t (by rw [e]; rfl) ⟨rfl, I0⟩))) (fun e => ?_)
  have hc : (nI n).toNatClampNeg = n := nI_clamp (by omega)
  have e' : ¬ nI n = 15 := by
    intro y
    exact e ((nI_eq (a := n) (b := 15) (by omega) (by omega)).mp y)
  rw [hc]
  refine ⟨vp_in_nI (by omega) (by omega), nm_e (nm_r (nI_1 n) (br_f h1 (br_t z' (br_f e' ⟨vp_in_nI (by omega) (by omega), nm_e (nm_r (nI_1 n) ?_)⟩))))⟩
  rw [hc]
  refine ⟨rfl, g, mr_put t n p, n + 1, hg, mr_put_le ht z, by omega, ⟨rfl, x2, x3, x4, ?_⟩, ⟨rfl, y2, y3, y4, ?_⟩⟩
  · intro j hj
    unfold mr_put upd
    split
    · rfl
    · exact x5 j (by omega)
  · intro j hj
    unfold mr_put upd
    split
    · rfl
    · exact y5 j (by omega)
theorem i_vc_untoken {k : Nat} {u : SX} {v : SY} (I : i_Rel k u v) (hk : k + 4 ≤ 2048) : wpX_untoken (fun r u' => wpY_untoken (fun r' v' => r' = r ∧ i_Rel (k + 4) u' v') v) u := by
  have I0 := I
  obtain ⟨g, t, n, hg, ht, hn, hX, hY⟩ := I
  obtain ⟨x_count, x_nodes, x_operands, x_waiting, x_fine, x_top, x_kinds, x_levels, x_meanings, x_text, x_at, x_first, x_second, x_strong, x_values, x_pairs, x_from, x_to, x_operand, x_open⟩ := u
  obtain ⟨f_size, f_many, a_kinds, a_levels, a_meanings, a_text, a_read, a_strengths, a_values, a_operators, a_froms, a_tos, a_keptFroms, a_keptTos, a_open⟩ := v
  obtain ⟨x1, x2, x3, x4, x5⟩ := hX
  obtain ⟨y1, y2, y3, y4, y5⟩ := hY
  subst x1 y1
  cases n with
  | zero => exact br_t rfl (br_t rfl ⟨rfl, I0⟩)
  | succ n =>
    have h0 : ¬ nI (n + 1) = 0 := nI_ne0 (by omega) (by omega)
    have hc : (nI n).toNatClampNeg = n := nI_clamp (by omega)
    refine br_f h0 (nm_r (nI_pred n) ⟨vp_in_nI (by omega) (by omega), br_f h0 (nm_r (nI_pred n) ⟨vp_in_nI (by omega) (by omega), ?_⟩)⟩)
    rw [hc]
    refine ⟨(y5 n (by omega)).trans (x5 n (by omega)).symm, g, t, n, hg, ht, by omega, ⟨rfl, x2, x3, x4, fun p hp => x5 p (by omega)⟩, ⟨rfl, y2, y3, y4, fun p hp => y5 p (by omega)⟩⟩
theorem i_vc_clear {k : Nat} {u : SX} {v : SY} (I : i_Rel k u v) (hk : k + 4 ≤ 2048) : wpX_clear (fun u' => wpY_clear (fun v' => i_Rel (k + 4) u' v') v) u := by
  obtain ⟨g, t, n, hg, ht, hn, hX, hY⟩ := I
  obtain ⟨x_count, x_nodes, x_operands, x_waiting, x_fine, x_top, x_kinds, x_levels, x_meanings, x_text, x_at, x_first, x_second, x_strong, x_values, x_pairs, x_from, x_to, x_operand, x_open⟩ := u
  obtain ⟨f_size, f_many, a_kinds, a_levels, a_meanings, a_text, a_read, a_strengths, a_values, a_operators, a_froms, a_tos, a_keptFroms, a_keptTos, a_open⟩ := v
  obtain ⟨x1, x2, x3, x4, x5⟩ := hX
  obtain ⟨y1, y2, y3, y4, y5⟩ := hY
  exact ⟨g, t, 0, hg, ht, Nat.zero_le _, ⟨rfl, x2, x3, x4, lt_0⟩, ⟨rfl, y2, y3, y4, lt_0⟩⟩
theorem i_vc_size {k : Nat} {u : SX} {v : SY} (I : i_Rel k u v) (hk : k + 4 ≤ 2048) : wpX_size (fun r => wpY_size (fun r' => r' = r ∧ i_Rel (k + 4) u v) v) u := by
  have I0 := I
  obtain ⟨g, t, n, hg, ht, hn, hX, hY⟩ := I
  obtain ⟨x_count, x_nodes, x_operands, x_waiting, x_fine, x_top, x_kinds, x_levels, x_meanings, x_text, x_at, x_first, x_second, x_strong, x_values, x_pairs, x_from, x_to, x_operand, x_open⟩ := u
  obtain ⟨f_size, f_many, a_kinds, a_levels, a_meanings, a_text, a_read, a_strengths, a_values, a_operators, a_froms, a_tos, a_keptFroms, a_keptTos, a_open⟩ := v
  exact ⟨hY.1.trans hX.1.symm, I0⟩
end
section
/- reads, strength, value, root, endings -/
section
variable {g : mf_CF} {t : Nat → Nat}
/-- a node with its pairs taken off -/
def mf_Ko (g : mf_CF) (t : Nat → Nat) (nd : Nat → mf_ND) (lo n i j s : Nat) (v : Int32) : Prop :=
  (t i < 10 ∧ j = i + 1 ∧ lo = n ∧ mf_at (nd n) = i ∧ mf_fi (nd n) = 0 ∧ mf_se (nd n) = 0 ∧ s = 5) ∨
  (∃ m q s1 v1, n = m + 1 ∧ mf_op t i ∧ mf_kin g t i = 3 ∧ mf_at (nd n) = i ∧ mf_fi (nd n) = m + 1 ∧ mf_se (nd n) = 0 ∧ mf_R g t nd lo m q (i + 1) j s1 v1 ∧ mf_hd nd m q (i + 1) j s1 v1 ∧ mf_lev g t i ≤ s1 ∧ s = mf_lev g t i) ∨
  (∃ m q r s1 v1, n = m + 1 ∧ j = r + 1 ∧ mf_op t r ∧ mf_kin g t r = 4 ∧ mf_at (nd n) = r ∧ mf_fi (nd n) = m + 1 ∧ mf_se (nd n) = 0 ∧ mf_R g t nd lo m q i r s1 v1 ∧ mf_hd nd m q i r s1 v1 ∧ mf_lev g t r ≤ s1 ∧ s = mf_lev g t r) ∨
  (∃ a m q q' r s1 v1 s2 v2, n = m + 1 ∧ mf_op t r ∧ mf_kin g t r < 3 ∧ mf_at (nd n) = r ∧ mf_fi (nd n) = a + 1 ∧ mf_se (nd n) = m + 1 ∧ mf_R g t nd lo a q i r s1 v1 ∧ mf_hd nd a q i r s1 v1 ∧ mf_R g t nd (a + 1) m q' (r + 1) j s2 v2 ∧ mf_hd nd m q' (r + 1) j s2 v2 ∧ mf_nl g t r ≤ s1 ∧ mf_nr g t r ≤ s2 ∧ s = mf_lev g t r)
theorem mf_ko {nd : Nat → mf_ND} {lo n q i j s : Nat} {v : Int32} (d : mf_R g t nd lo n q i j s v) : q = 0 → mf_Ko g t nd lo n i j s v := by
  refine mf_rInd (Q := fun lo n q i j s v => q = 0 → mf_Ko g t nd lo n i j s v) ?_ ?_ ?_ ?_ ?_ d
  · intro n i h h1 h2 h3 _
    exact Or.inl ⟨h, rfl, rfl, h1, h2, h3, rfl⟩
  · intro lo n q i e s v _ _ _ _ z
    omega
  · intro lo n q i j s v h hk h1 h2 h3 d _ hh hs _
    exact Or.inr (Or.inl ⟨n, q, s, v, rfl, h, hk, h1, h2, h3, d, hh, hs, rfl⟩)
  · intro lo n q i r s v h hk h1 h2 h3 d _ hh hs _
    exact Or.inr (Or.inr (Or.inl ⟨n, q, r, s, v, rfl, rfl, h, hk, h1, h2, h3, d, hh, hs, rfl⟩))
  · intro lo a n q q' i r j s v s' v' h hk h1 h2 h3 d _ hh d' _ hh' hs hs' _
    exact Or.inr (Or.inr (Or.inr ⟨a, n, q, q', r, s, v, s', v', rfl, h, hk, h1, h2, h3, d, hh, d', hh', hs, hs', rfl⟩))
theorem mf_peel {nd : Nat → mf_ND} {lo n q i j s : Nat} {v : Int32} (d : mf_R g t nd lo n q i j s v) : (∀ e, e < q → mf_Der g t (i + e) (j - e) 5 1 v) ∧ i + 2 * q < j ∧ ∃ s0, mf_R g t nd lo n 0 (i + q) (j - q) s0 v ∧ (q = 0 → s = s0) ∧ (0 < q → s = 5) := by
  refine mf_rInd (Q := fun lo n q i j s v => (∀ e, e < q → mf_Der g t (i + e) (j - e) 5 1 v) ∧ i + 2 * q < j ∧ ∃ s0, mf_R g t nd lo n 0 (i + q) (j - q) s0 v ∧ (q = 0 → s = s0) ∧ (0 < q → s = 5)) ?_ ?_ ?_ ?_ ?_ d
  · intro n i h h1 h2 h3
    exact ⟨fun e he => absurd he (Nat.not_lt_zero e), by omega, 5, mf_rNum h h1 h2 h3, fun _ => rfl, fun _ => rfl⟩
  · intro lo n q i e s v h h' d ⟨h1, h2, s0, h3, h4, h5⟩
    refine ⟨fun x hx => ?_, by omega, s0, ?_, fun z => by omega, fun _ => rfl⟩
    · cases x with
      | zero =>
        obtain ⟨c, dd⟩ := mf_rDer d
        exact mf_dBr h h' dd
      | succ x =>
        have z := h1 x (by omega)
        rw [show i + 1 + x = i + (x + 1) from by omega, show e - x = e + 1 - (x + 1) from by omega] at z
        exact z
    · rw [show i + 1 + q = i + (q + 1) from by omega, show e - q = e + 1 - (q + 1) from by omega] at h3
      exact h3
  · intro lo n q i j s v h hk h1 h2 h3 d _ hh hs
    have := (mf_rCnt d).2
    exact ⟨fun e he => absurd he (Nat.not_lt_zero e), by omega, _, mf_rPre h hk h1 h2 h3 d hh hs, fun _ => rfl, fun z => absurd z (Nat.not_lt_zero 0)⟩
  · intro lo n q i r s v h hk h1 h2 h3 d _ hh hs
    have := (mf_rCnt d).2
    exact ⟨fun e he => absurd he (Nat.not_lt_zero e), by omega, _, mf_rPos h hk h1 h2 h3 d hh hs, fun _ => rfl, fun z => absurd z (Nat.not_lt_zero 0)⟩
  · intro lo a n q q' i r j s v s' v' h hk h1 h2 h3 d _ hh d' _ hh' hs hs'
    have := (mf_rCnt d).2
    have := (mf_rCnt d').2
    exact ⟨fun e he => absurd he (Nat.not_lt_zero e), by omega, _, mf_rBin h hk h1 h2 h3 d hh d' hh' hs hs', fun _ => rfl, fun z => absurd z (Nat.not_lt_zero 0)⟩
/-- the root's code of a node without pairs -/
theorem mf_ko_c {nd : Nat → mf_ND} {lo n i j s : Nat} {v : Int32} (d : mf_R g t nd lo n 0 i j s v) : (mf_fi (nd n) = 0 ∧ mf_Der g t i j s 0 v) ∨ (0 < mf_fi (nd n) ∧ mf_Der g t i j s (mf_at (nd n) + 2) v ∧ i ≤ mf_at (nd n) ∧ mf_at (nd n) < j) := by
  obtain ⟨c, dd⟩ := mf_rDer d
  rcases mf_ko d rfl with ⟨h, rfl, rfl, h1, h2, h3, rfl⟩ | ⟨m, q, s1, v1, rfl, ho, hk, h1, h2, h3, d1, hh, hs, rfl⟩ | ⟨m, q, r, s1, v1, rfl, rfl, ho, hk, h1, h2, h3, d1, hh, hs, rfl⟩ | ⟨a, m, q, q', r, s1, v1, s2, v2, rfl, ho, hk, h1, h2, h3, d1, hh, d2, hh2, hs, hs2, rfl⟩
  · refine Or.inl ⟨h2, ?_⟩
    have e := mf_uni dd (mf_dNum h)
    rw [e.2.1] at dd
    exact dd
  · refine Or.inr ⟨by omega, ?_, ?_, ?_⟩
    · obtain ⟨c1, d1'⟩ := mf_rDer d1
      have e := mf_uni dd (mf_dPre ho hk d1' hs)
      rw [h1]
      rw [e.2.1] at dd
      exact dd
    · omega
    · have := (mf_rCnt d1).2; omega
  · refine Or.inr ⟨by omega, ?_, ?_, ?_⟩
    · obtain ⟨c1, d1'⟩ := mf_rDer d1
      have e := mf_uni dd (mf_dPos ho hk d1' hs)
      rw [h1]
      rw [e.2.1] at dd
      exact dd
    · have := (mf_rCnt d1).2; omega
    · omega
  · refine Or.inr ⟨by omega, ?_, ?_, ?_⟩
    · obtain ⟨c1, d1'⟩ := mf_rDer d1
      obtain ⟨c2, d2'⟩ := mf_rDer d2
      have e := mf_uni dd (mf_dBin ho hk d1' d2' hs hs2)
      rw [h1]
      rw [e.2.1] at dd
      exact dd
    · have := (mf_rCnt d1).2; omega
    · have := (mf_rCnt d2).2; omega
/-- a cell of the table, where the stretch derives -/
theorem my_op_of {i j s c : Nat} {w a b e : Int32} (h : my_cell g t i j a b e) (d : mf_Der g t i j s c w) : a = nI s ∧ b = w ∧ e = my_enc c := by
  rcases h with ⟨s', r', w', d', h1, h2, h3⟩ | ⟨hno, _⟩
  · have z := mf_uni d' d
    rw [h1, h2, h3, z.1, z.2.1, z.2.2]
    exact ⟨rfl, rfl, rfl⟩
  · exact absurd d (hno s c w)
end
theorem i_vc_reads {k : Nat} {u : SX} {v : SY} (I : i_Rel k u v) (hk : k + 4 ≤ 2048) : wpX_reads (fun r u' => wpY_reads (fun r' v' => r' = r ∧ i_Rel (k + 4) u' v') v) u := by
  obtain ⟨g, t, n, hg, ht, hn, hX, hY⟩ := I
  obtain ⟨x_count, x_nodes, x_operands, x_waiting, x_fine, x_top, x_kinds, x_levels, x_meanings, x_text, x_at, x_first, x_second, x_strong, x_values, x_pairs, x_from, x_to, x_operand, x_open⟩ := u
  obtain ⟨f_size, f_many, a_kinds, a_levels, a_meanings, a_text, a_read, a_strengths, a_values, a_operators, a_froms, a_tos, a_keptFroms, a_keptTos, a_open⟩ := v
  unfold wpX_reads wpY_reads
  dsimp only
  refine mx_readAll hX hg (by omega) ht (fun hno u' hu => ?_) (fun s c w nd m q d hm hR hh u' hu => ?_)
  · obtain ⟨x_count, x_nodes, x_operands, x_waiting, x_fine, x_top, x_kinds, x_levels, x_meanings, x_text, x_at, x_first, x_second, x_strong, x_values, x_pairs, x_from, x_to, x_operand, x_open⟩ := u'
    refine ⟨narrow_b0, my_readText hY hg hn ht (fun x R a b c hR hx hT => my_sv_0 hg hx (fun _ => ⟨rfl, g, t, n, hg, ht, hn, hu, hY⟩) (fun s c w d => absurd d (hno s c w)))⟩
  · obtain ⟨x_count, x_nodes, x_operands, x_waiting, x_fine, x_top, x_kinds, x_levels, x_meanings, x_text, x_at, x_first, x_second, x_strong, x_values, x_pairs, x_from, x_to, x_operand, x_open⟩ := u'
    refine ⟨narrow_b1, my_readText hY hg hn ht (fun x R a b c' hR hx hT => my_sv_0 hg hx (fun z => absurd d (z s c w)) (fun _ _ _ _ => ⟨rfl, g, t, n, hg, ht, hn, hu.1, hY⟩))⟩
theorem i_vc_strength {k : Nat} {u : SX} {v : SY} (I : i_Rel k u v) (hk : k + 4 ≤ 2048) : wpX_strength (fun r u' => wpY_strength (fun r' v' => r' = r ∧ i_Rel (k + 4) u' v') v) u := by
  obtain ⟨g, t, n, hg, ht, hn, hX, hY⟩ := I
  obtain ⟨x_count, x_nodes, x_operands, x_waiting, x_fine, x_top, x_kinds, x_levels, x_meanings, x_text, x_at, x_first, x_second, x_strong, x_values, x_pairs, x_from, x_to, x_operand, x_open⟩ := u
  obtain ⟨f_size, f_many, a_kinds, a_levels, a_meanings, a_text, a_read, a_strengths, a_values, a_operators, a_froms, a_tos, a_keptFroms, a_keptTos, a_open⟩ := v
  unfold wpX_strength wpY_strength
  dsimp only
  refine mx_readAll hX hg (by omega) ht (fun hno u' hu => ?_) (fun s c w nd m q d hm hR hh u' hu => ?_)
  · obtain ⟨x_count, x_nodes, x_operands, x_waiting, x_fine, x_top, x_kinds, x_levels, x_meanings, x_text, x_at, x_first, x_second, x_strong, x_values, x_pairs, x_from, x_to, x_operand, x_open⟩ := u'
    refine br_t rfl (my_readText hY hg hn ht (fun x R a b c hR hx hT => my_sv_0' hg hx (fun _ => ⟨rfl, g, t, n, hg, ht, hn, hu, hY⟩) (fun s c w d => absurd d (hno s c w))))
  · obtain ⟨x_count, x_nodes, x_operands, x_waiting, x_fine, x_top, x_kinds, x_levels, x_meanings, x_text, x_at, x_first, x_second, x_strong, x_values, x_pairs, x_from, x_to, x_operand, x_open⟩ := u'
    obtain ⟨hu, e1, rfl, hN⟩ := hu
    obtain ⟨n1, n2, n3, n4, n5, n6, n7, n8, _⟩ := hN m (by omega)
    refine br_f (by decide) ⟨vp_in_nI hm (by omega), my_readText hY hg hn ht (fun x R a b c' hR hx hT => my_sv_0' hg hx (fun z => absurd d (z s c w)) (fun _ _ _ _ => ?_))⟩
    refine ⟨?_, g, t, n, hg, ht, hn, hu, hY⟩
    dsimp only
    rw [nI_clamp (by omega), n4, hh.2.2.2.1]
    rcases hx with ⟨s', r', w', d', rfl⟩ | ⟨hno, _⟩
    · rw [(mf_uni d' d).1]
    · exact absurd d (hno s c w)
theorem i_vc_value {k : Nat} {u : SX} {v : SY} (I : i_Rel k u v) (hk : k + 4 ≤ 2048) : wpX_value (fun r u' => wpY_value (fun r' v' => r' = r ∧ i_Rel (k + 4) u' v') v) u := by
  obtain ⟨g, t, n, hg, ht, hn, hX, hY⟩ := I
  obtain ⟨x_count, x_nodes, x_operands, x_waiting, x_fine, x_top, x_kinds, x_levels, x_meanings, x_text, x_at, x_first, x_second, x_strong, x_values, x_pairs, x_from, x_to, x_operand, x_open⟩ := u
  obtain ⟨f_size, f_many, a_kinds, a_levels, a_meanings, a_text, a_read, a_strengths, a_values, a_operators, a_froms, a_tos, a_keptFroms, a_keptTos, a_open⟩ := v
  unfold wpX_value wpY_value
  dsimp only
  refine mx_readAll hX hg (by omega) ht (fun hno u' hu => ?_) (fun s c w nd m q d hm hR hh u' hu => ?_)
  · obtain ⟨x_count, x_nodes, x_operands, x_waiting, x_fine, x_top, x_kinds, x_levels, x_meanings, x_text, x_at, x_first, x_second, x_strong, x_values, x_pairs, x_from, x_to, x_operand, x_open⟩ := u'
    refine br_t rfl (my_readText hY hg hn ht (fun x R a b c hR hx hT => my_sv_0' hg hx (fun _ => ⟨rfl, g, t, n, hg, ht, hn, hu, hY⟩) (fun s c w d => absurd d (hno s c w))))
  · obtain ⟨x_count, x_nodes, x_operands, x_waiting, x_fine, x_top, x_kinds, x_levels, x_meanings, x_text, x_at, x_first, x_second, x_strong, x_values, x_pairs, x_from, x_to, x_operand, x_open⟩ := u'
    obtain ⟨hu, e1, rfl, hN⟩ := hu
    obtain ⟨n1, n2, n3, n4, n5, n6, n7, n8, _⟩ := hN m (by omega)
    refine br_f (by decide) ⟨vp_in_nI hm (by omega), my_readText hY hg hn ht (fun x R a b c' hR hx hT => my_sv_0' hg hx (fun z => absurd d (z s c w)) (fun _ _ _ _ => ⟨vp_in_nI (by omega) (by omega), ?_⟩))⟩
    refine ⟨?_, g, t, n, hg, ht, hn, hu, hY⟩
    dsimp only
    rw [nI_clamp (by omega), nI_clamp (by omega), n5, hh.2.2.2.2]
    have z := (my_op_of (hT 0 n (mf_lt d) (Nat.le_refl _)) d).2.1
    rw [show 17 * 0 + n = n from by omega] at z
    exact z
section
variable {f_size f_many : Int32} {a_kinds a_levels a_meanings a_text a_read a_strengths a_values a_operators a_froms a_tos a_keptFroms a_keptTos a_open : Nat → Int32} {g : mf_CF} {t : Nat → Nat} {n : Nat}
theorem my_root {post : Int32 → SY → Prop} {x : Int32} {q : Nat} (hn : n ≤ 15) (hq : 2 * q < n) (hb : ∀ e, e < q → a_operators (17 * e + (n - e)) = -2) (hx : a_operators (17 * q + (n - q)) = x) (h2 : ¬ x = -2) (K : (0 ≤ x → post x (f_size, nI n, a_kinds, a_levels, a_meanings, a_text, a_read, a_strengths, a_values, a_operators, a_froms, a_tos, a_keptFroms, a_keptTos, a_open)) ∧ (¬ 0 ≤ x → post (-4) (f_size, nI n, a_kinds, a_levels, a_meanings, a_text, a_read, a_strengths, a_values, a_operators, a_froms, a_tos, a_keptFroms, a_keptTos, a_open))) :
    ∀ (m i : Nat), i + m = q → wY_root_12 post f_size (nI n) a_kinds a_levels a_meanings a_text a_read a_strengths a_values a_operators a_froms a_tos a_keptFroms a_keptTos a_open (m + 1) (nI i) := by
  have ei : ∀ i, i ≤ n → 17 * nI i + nI n - nI i = nI (17 * i + (n - i)) := by
    intro i hi
    rw [my_idx, pk_sub (by omega), show 17 * i + n - i = 17 * i + (n - i) from by omega]
  intro m
  induction m with
  | zero =>
    intro i h
    have e : i = q := by omega
    subst e
    rw [wY_root_12]
    dsimp only
    rw [ei i (by omega), nI_clamp (by omega), hx]
    have hv : vp_in (nI (17 * i + (n - i))) 289 := vp_in_nI (by omega) (by omega)
    exact ⟨hv, br_f h2 ⟨hv, nm_e K⟩⟩
  | succ m ih =>
    intro i h
    rw [wY_root_12]
    dsimp only
    rw [ei i (by omega), nI_clamp (by omega), hb i (by omega)]
    have hv : vp_in (nI (17 * i + (n - i))) 289 := vp_in_nI (by omega) (by omega)
    exact ⟨hv, br_t rfl (nm_r (nI_1 i) (ih (i + 1) (by omega)))⟩
end
theorem i_vc_root {k : Nat} {u : SX} {v : SY} (I : i_Rel k u v) (hk : k + 4 ≤ 2048) : wpX_root (fun r u' => wpY_root (fun r' v' => r' = r ∧ i_Rel (k + 4) u' v') v) u := by
  obtain ⟨g, t, n, hg, ht, hn, hX, hY⟩ := I
  obtain ⟨x_count, x_nodes, x_operands, x_waiting, x_fine, x_top, x_kinds, x_levels, x_meanings, x_text, x_at, x_first, x_second, x_strong, x_values, x_pairs, x_from, x_to, x_operand, x_open⟩ := u
  obtain ⟨f_size, f_many, a_kinds, a_levels, a_meanings, a_text, a_read, a_strengths, a_values, a_operators, a_froms, a_tos, a_keptFroms, a_keptTos, a_open⟩ := v
  unfold wpX_root wpY_root
  dsimp only
  refine mx_readAll hX hg (by omega) ht (fun hno u' hu => ?_) (fun s c w nd m q d hm hR hh u' hu => ?_)
  · obtain ⟨x_count, x_nodes, x_operands, x_waiting, x_fine, x_top, x_kinds, x_levels, x_meanings, x_text, x_at, x_first, x_second, x_strong, x_values, x_pairs, x_from, x_to, x_operand, x_open⟩ := u'
    refine br_t rfl (my_readText hY hg hn ht (fun x R a b c hR hx hT => my_sv_0' hg hx (fun _ => ⟨rfl, g, t, n, hg, ht, hn, hu, hY⟩) (fun s c w d => absurd d (hno s c w))))
  · obtain ⟨x_count, x_nodes, x_operands, x_waiting, x_fine, x_top, x_kinds, x_levels, x_meanings, x_text, x_at, x_first, x_second, x_strong, x_values, x_pairs, x_from, x_to, x_operand, x_open⟩ := u'
    obtain ⟨hu, e1, rfl, hN⟩ := hu
    obtain ⟨n1, n2, n3, n4, n5, n6, n7, n8, _⟩ := hN m (by omega)
    obtain ⟨p1, p2, s0, hR0, _⟩ := mf_peel hR
    rw [Nat.zero_add] at hR0
    have hc : (nI m).toNatClampNeg = m := nI_clamp (by omega)
    dsimp only
    rw [hc, n1, n2]
    have BR : ∀ {R a b c : Nat → Int32}, my_TT g t n a b c → ∀ e, e < q → c (17 * e + (n - e)) = -2 := by
      intro R a b c hT e he
      have z := p1 e he
      rw [Nat.zero_add] at z
      exact (my_op_of (hT e (n - e) (by omega) (by omega)) z).2.2
    refine br_f (by decide) ⟨vp_in_nI hm (by omega), ?_⟩
    rcases mf_ko_c hR0 with ⟨z1, z2⟩ | ⟨z1, z2, z3, z4⟩
    · rw [z1]
      refine br_t (by decide) (my_readText hY hg hn ht (fun x R a b c' hR hx hT => my_sv_0' hg hx (fun z => absurd d (z s c w)) (fun _ _ _ _ => ⟨q + 1, ?_⟩)))
      have hz := (my_op_of (hT q (n - q) (by omega) (by omega)) z2).2.2
      exact my_root hn (by omega) (BR (R := R) hT) hz (by decide) (br_f (by decide) ⟨rfl, g, t, n, hg, ht, hn, hu, hY⟩) q 0 (by omega)
    · obtain ⟨f, ef⟩ : ∃ f, mf_fi (nd m) = f + 1 := ⟨mf_fi (nd m) - 1, by omega⟩
      rw [ef]
      have hfb : f < 16 := by
        rcases mf_ko hR0 rfl with ⟨h, _, _, h1, h2, h3, _⟩ | ⟨m', q, s1, v1, rfl, ho, hk, h1, h2, h3, d1, hh, hs, _⟩ | ⟨m', q, r, s1, v1, rfl, _, ho, hk, h1, h2, h3, d1, hh, hs, _⟩ | ⟨a, m', q, q', r, s1, v1, s2, v2, rfl, ho, hk, h1, h2, h3, d1, hh, d2, hh2, hs, hs2, _⟩
        · omega
        · omega
        · omega
        · have := mf_rLo d2; omega
      refine br_f (nI_pos (by omega)) ⟨vp_in_nI hm (by omega), my_readText hY hg hn ht (fun x R a b c' hR hx hT => my_sv_0' hg hx (fun z => absurd d (z s c w)) (fun _ _ _ _ => ⟨q + 1, ?_⟩))⟩
      have hz := (my_op_of (hT q (n - q) (by omega) (by omega)) z2).2.2
      refine my_root hn (by omega) (BR (R := R) hT) hz ?_ (br_t (nI_pos' (by omega)) ⟨rfl, g, t, n, hg, ht, hn, hu, hY⟩) q 0 (by omega)
      intro z
      have := nI_pos' (n := mf_at (nd m)) (by omega)
      have z : nI (mf_at (nd m)) = -2 := z
      rw [z] at this
      exact absurd this (by decide)
end
section
/- endings -/
noncomputable def mr_i (p : Prop) : Nat := @ite Nat p (Classical.propDecidable p) 1 0
theorem mr_i1 {p : Prop} (h : p) : mr_i p = 1 := @if_pos p (Classical.propDecidable p) h Nat 1 0
theorem mr_i0 {p : Prop} (h : ¬ p) : mr_i p = 0 := @if_neg p (Classical.propDecidable p) h Nat 1 0
theorem mr_i_le (p : Prop) : mr_i p ≤ 1 := by
  by_cases h : p
  · rw [mr_i1 h]; exact Nat.le_refl _
  · rw [mr_i0 h]; exact Nat.zero_le _
noncomputable def mr_cnt (P : Nat → Prop) : Nat → Nat → Nat
  | 0, _ => 0
  | m + 1, e => mr_i (P e) + mr_cnt P m (e + 1)
def mx_enu (post : Int32 → SX → Prop) (m : Nat) (x1 x2 : Int32) (u : SX) : Prop := match u with
  | (f_count, f_nodes, f_operands, f_waiting, f_fine, f_top, a_kinds, a_levels, a_meanings, a_text, a_at, a_first, a_second, a_strong, a_values, a_pairs, a_from, a_to, a_operand, a_open) => wX_endings_4 post m x1 x2 f_count f_nodes f_operands f_waiting f_fine f_top a_kinds a_levels a_meanings a_text a_at a_first a_second a_strong a_values a_pairs a_from a_to a_operand a_open
def mr_P (g : mf_CF) (t : Nat → Nat) (n e : Nat) : Prop := ∃ s c v, mf_Der g (mr_put t n e) 0 (n + 1) s c v
section
variable {g : mf_CF} {t : Nat → Nat} {n : Nat}
theorem mr_put_s {f : Nat → Nat} {k x : Nat} : mr_put f k x k = x := if_pos rfl
theorem mr_put_n {f : Nat → Nat} {k x j : Nat} (h : j ≠ k) : mr_put f k x j = f j := if_neg h
theorem mx_endings {post : Int32 → SX → Prop} (hg : mf_ok g) (hn : n ≤ 15) (ht : ∀ x, t x ≤ 19) : ∀ (m e f : Nat) (u : SX), e + m = 20 → mx_U g t n u → (∀ u', mx_U g t n u' → post (nI (f + mr_cnt (mr_P g t n) m e)) u') → mx_enu post (m + 1) (nI f) (nI e) u := by
  intro m
  induction m with
  | zero =>
    intro e f u h hU K
    have z := K u hU
    obtain ⟨f_count, f_nodes, f_operands, f_waiting, f_fine, f_top, a_kinds, a_levels, a_meanings, a_text, a_at, a_first, a_second, a_strong, a_values, a_pairs, a_from, a_to, a_operand, a_open⟩ := u
    exact pk_lt 19 e (fun _ => z) (fun z => by omega)
  | succ m ih =>
    intro e f u h hU K
    obtain ⟨f_count, f_nodes, f_operands, f_waiting, f_fine, f_top, a_kinds, a_levels, a_meanings, a_text, a_at, a_first, a_second, a_strong, a_values, a_pairs, a_from, a_to, a_operand, a_open⟩ := u
    obtain ⟨rfl, x2, x3, x4, x5⟩ := hU
    have hc : (nI n).toNatClampNeg = n := nI_clamp (by omega)
    show wX_endings_4 post (m + 1 + 1) (nI f) (nI e) (nI n) f_nodes f_operands f_waiting f_fine f_top a_kinds a_levels a_meanings a_text a_at a_first a_second a_strong a_values a_pairs a_from a_to a_operand a_open
    rw [wX_endings_4]
    dsimp only
    rw [hc]
    refine pk_lt 19 e (fun z => by omega) (fun _ => ⟨vp_in_nI (by omega) (by omega), nm_e (nm_r (nI_1 n) ?_)⟩)
    have ht' : ∀ x, mr_put t n e x ≤ 19 := mr_put_le ht (by omega)
    have hU' : mx_U g (mr_put t n e) (n + 1) (nI (n + 1), f_nodes, f_operands, f_waiting, f_fine, f_top, a_kinds, a_levels, a_meanings, upd a_text n (nI e), a_at, a_first, a_second, a_strong, a_values, a_pairs, a_from, a_to, a_operand, a_open) := by
      refine ⟨rfl, x2, x3, x4, fun p hp => ?_⟩
      by_cases z : p = n
      · rw [z, pk_us, mr_put_s]
      · rw [pk_un z, mr_put_n z]
        exact x5 p (by omega)
    have DOWN : ∀ u', mx_U g (mr_put t n e) (n + 1) u' → mx_U g t n (match u' with | (f_count, f_nodes, f_operands, f_waiting, f_fine, f_top, a_kinds, a_levels, a_meanings, a_text, a_at, a_first, a_second, a_strong, a_values, a_pairs, a_from, a_to, a_operand, a_open) => (nI n, f_nodes, f_operands, f_waiting, f_fine, f_top, a_kinds, a_levels, a_meanings, a_text, a_at, a_first, a_second, a_strong, a_values, a_pairs, a_from, a_to, a_operand, a_open)) := by
      intro u' hu
      obtain ⟨f_count, f_nodes, f_operands, f_waiting, f_fine, f_top, a_kinds, a_levels, a_meanings, a_text, a_at, a_first, a_second, a_strong, a_values, a_pairs, a_from, a_to, a_operand, a_open⟩ := u'
      obtain ⟨_, x2, x3, x4, x5⟩ := hu
      refine ⟨rfl, x2, x3, x4, fun p hp => ?_⟩
      rw [x5 p (by omega), mr_put_n (by omega)]
    refine mx_readAll hU' hg (by omega) ht' (fun hno u' hu => ?_) (fun s c w nd m' q d hm hR hh u' hu => ?_)
    · have ih := ih (e + 1) f _ (by omega) (DOWN u' hu) (fun u'' hu'' => by
        have z := K u'' hu''
        rw [mr_cnt, mr_i0 (by rintro ⟨s, c, v, d⟩; exact hno s c v d), Nat.zero_add] at z
        exact z)
      obtain ⟨f_count, f_nodes, f_operands, f_waiting, f_fine, f_top, a_kinds, a_levels, a_meanings, a_text, a_at, a_first, a_second, a_strong, a_values, a_pairs, a_from, a_to, a_operand, a_open⟩ := u'
      refine nm_r (e' := nI n) ?_ (br_t rfl (nm_r (nI_1 e) ih))
      rw [show f_count = nI (n + 1) from hu.1]
      exact nI_pred n
    · have hu := hu.1
      have ih := ih (e + 1) (f + 1) _ (by omega) (DOWN u' hu) (fun u'' hu'' => by
        have z := K u'' hu''
        rw [mr_cnt, mr_i1 ⟨s, c, w, d⟩, show f + (1 + mr_cnt (mr_P g t n) m (e + 1)) = f + 1 + mr_cnt (mr_P g t n) m (e + 1) from by omega] at z
        exact z)
      obtain ⟨f_count, f_nodes, f_operands, f_waiting, f_fine, f_top, a_kinds, a_levels, a_meanings, a_text, a_at, a_first, a_second, a_strong, a_values, a_pairs, a_from, a_to, a_operand, a_open⟩ := u'
      refine nm_r (e' := nI n) ?_ (br_f (by decide) (nm_r (nI_1 f) (nm_r (nI_1 e) ih)))
      rw [show f_count = nI (n + 1) from hu.1]
      exact nI_pred n
end
section
variable {f_size f_many : Int32} {a_kinds a_levels a_meanings a_text a_read a_strengths a_values a_operators a_froms a_tos a_keptFroms a_keptTos a_open : Nat → Int32} {g : mf_CF} {t : Nat → Nat} {n : Nat}
theorem my_endings {post : Int32 → SY → Prop} (hU : my_U g t n (f_size, f_many, a_kinds, a_levels, a_meanings, a_text, a_read, a_strengths, a_values, a_operators, a_froms, a_tos, a_keptFroms, a_keptTos, a_open)) (hg : mf_ok g) (hn : n ≤ 15) (ht : ∀ x, t x ≤ 19) : ∀ (m e f : Nat) (fm : Int32) (R a b c : Nat → Int32), e + m = 20 → (∀ fm R a b c, post (nI (f + mr_cnt (mr_P g t n) m e)) (f_size, fm, a_kinds, a_levels, a_meanings, a_text, R, a, b, c, a_froms, a_tos, a_keptFroms, a_keptTos, a_open)) →
    wY_endings_4 post (m + 1) (nI f) (nI e) f_size fm a_kinds a_levels a_meanings a_text R a b c a_froms a_tos a_keptFroms a_keptTos a_open := by
  obtain ⟨rfl, x2, x3, x4, x5⟩ := hU
  intro m
  induction m with
  | zero =>
    intro e f fm R a b c h K
    exact pk_le 20 e (fun _ => K fm R a b c) (fun z => by omega)
  | succ m ih =>
    intro e f fm R a b c h K
    have hc : (nI n).toNatClampNeg = n := nI_clamp (by omega)
    have ht' : ∀ x, mr_put t n e x ≤ 19 := mr_put_le ht (by omega)
    refine pk_le 20 e (fun z => by omega) (fun _ => my_readText (g := g) (t := t) (n := n) ⟨rfl, x2, x3, x4, x5⟩ hg hn ht (fun x R a b c hR hx hT => ?_))
    dsimp only
    rw [hc]
    refine ⟨vp_in_nI (by omega) (by omega), nm_e (nm_r (nI_1 n) ?_)⟩
    refine my_readAll (g := g) (t := mr_put t n e) (n := n + 1) ⟨rfl, x2, x3, x4, fun p hp => ?_⟩ hg (by omega) ht' (fun x a b c hx hT => ?_)
    · by_cases z : p = n
      · rw [z, pk_us, mr_put_s]
      · rw [pk_un z, mr_put_n z]
        exact hR p (by omega)
    · refine my_sv_0 hg hx (fun hno => nm_r (nI_1 e) (ih (e + 1) f _ _ _ _ _ (by omega) (fun fm R a b c => ?_))) (fun s c' w d => nm_r (nI_1 f) (nm_r (nI_1 e) (ih (e + 1) (f + 1) _ _ _ _ _ (by omega) (fun fm R a b c => ?_))))
      · have z := K fm R a b c
        rw [mr_cnt, mr_i0 (by rintro ⟨s, c, v, d⟩; exact hno s c v d), Nat.zero_add] at z
        exact z
      · have z := K fm R a b c
        rw [mr_cnt, mr_i1 ⟨s, c', w, d⟩, show f + (1 + mr_cnt (mr_P g t n) m (e + 1)) = f + 1 + mr_cnt (mr_P g t n) m (e + 1) from by omega] at z
        exact z
end
theorem i_vc_endings {k : Nat} {u : SX} {v : SY} (I : i_Rel k u v) (hk : k + 4 ≤ 2048) : wpX_endings (fun r u' => wpY_endings (fun r' v' => r' = r ∧ i_Rel (k + 4) u' v') v) u := by
  obtain ⟨g, t, n, hg, ht, hn, hX, hY⟩ := I
  have z := mx_endings (post := fun r u' => wpY_endings (fun r' v' => r' = r ∧ i_Rel (k + 4) u' v') v) hg hn ht 20 0 0 u rfl hX (fun u' hu => by
    obtain ⟨f_size, f_many, a_kinds, a_levels, a_meanings, a_text, a_read, a_strengths, a_values, a_operators, a_froms, a_tos, a_keptFroms, a_keptTos, a_open⟩ := v
    exact ⟨21, my_endings hY hg hn ht 20 0 0 _ _ _ _ _ rfl (fun fm R a b c => ⟨rfl, g, t, n, hg, ht, hn, hu, hY⟩)⟩)
  obtain ⟨x_count, x_nodes, x_operands, x_waiting, x_fine, x_top, x_kinds, x_levels, x_meanings, x_text, x_at, x_first, x_second, x_strong, x_values, x_pairs, x_from, x_to, x_operand, x_open⟩ := u
  exact ⟨21, z⟩
end
section
/- depth -/
def mx_pw (nd : Nat → mf_ND) (m x : Nat) : Nat :=
  if mf_fi (nd m) ≠ 0 ∧ mf_fr (nd (mf_fi (nd m) - 1)) ≤ x ∧ x ≤ mf_to (nd (mf_fi (nd m) - 1)) then mf_fi (nd m)
  else if mf_se (nd m) ≠ 0 ∧ mf_fr (nd (mf_se (nd m) - 1)) ≤ x ∧ x ≤ mf_to (nd (mf_se (nd m) - 1)) then mf_se (nd m) else 0
def mx_pa (i j q x : Nat) : Nat := if x < i + q then x - i else if j ≤ x + q then j - 1 - x else q
section
variable {x_count x_nodes x_operands x_waiting x_fine x_top : Int32} {x_kinds x_levels x_meanings x_text x_at x_first x_second x_strong x_values x_pairs x_from x_to x_operand x_open : Nat → Int32} {nd : Nat → mf_ND} {N : Nat}
theorem mx_within {post : Int32 → Prop} {m x : Nat} (hN : mx_N nd N x_at x_first x_second x_strong x_values x_pairs x_from x_to) (hN16 : N ≤ 16) (hm : m < N) (hx : x < 16)
    (k1 : mf_fr (nd m) ≤ x ∧ x ≤ mf_to (nd m) → post 1) (k0 : ¬ (mf_fr (nd m) ≤ x ∧ x ≤ mf_to (nd m)) → post 0) : wpX_within post (x_count, x_nodes, x_operands, x_waiting, x_fine, x_top, x_kinds, x_levels, x_meanings, x_text, x_at, x_first, x_second, x_strong, x_values, x_pairs, x_from, x_to, x_operand, x_open) (nI m) (nI x) := by
  obtain ⟨n1, n2, n3, n4, n5, n6, n7, n8, b1, b2, b3⟩ := hN m hm
  have hc : (nI m).toNatClampNeg = m := nI_clamp (by omega)
  have hv : vp_in (nI m) 16 := vp_in_nI (by omega) (by omega)
  unfold wpX_within
  dsimp only
  rw [hc, n7, n8]
  refine ⟨hv, pk_lt x (mf_fr (nd m)) (fun h => k0 (fun z => by omega)) (fun h => ⟨hv, pk_lt (mf_to (nd m)) x (fun h' => k0 (fun z => by omega)) (fun h' => k1 ⟨h, h'⟩)⟩)⟩
theorem mx_partWith {post : Int32 → Prop} {m x : Nat} (hN : mx_N nd N x_at x_first x_second x_strong x_values x_pairs x_from x_to) (hN16 : N ≤ 16) (hm : m < N) (hx : x < 16) (hf : mf_fi (nd m) ≤ m) (hs : mf_se (nd m) ≤ m)
    (k : post (mx_fo (mx_pw nd m x))) : wpX_partWith post (x_count, x_nodes, x_operands, x_waiting, x_fine, x_top, x_kinds, x_levels, x_meanings, x_text, x_at, x_first, x_second, x_strong, x_values, x_pairs, x_from, x_to, x_operand, x_open) (nI m) (nI x) := by
  obtain ⟨n1, n2, n3, n4, n5, n6, n7, n8, b1, b2, b3⟩ := hN m hm
  have hc : (nI m).toNatClampNeg = m := nI_clamp (by omega)
  have hv : vp_in (nI m) 16 := vp_in_nI (by omega) (by omega)
  unfold wpX_partWith
  dsimp only
  rw [hc]
  refine ⟨hv, nm_r n2 ⟨hv, nm_r n3 ?_⟩⟩
  have P30 : ¬ (mf_fi (nd m) ≠ 0 ∧ mf_fr (nd (mf_fi (nd m) - 1)) ≤ x ∧ x ≤ mf_to (nd (mf_fi (nd m) - 1))) → wX_partWith_30 post (nI x) (mx_fo (mf_se (nd m))) x_count x_nodes x_operands x_waiting x_fine x_top x_kinds x_levels x_meanings x_text x_at x_first x_second x_strong x_values x_pairs x_from x_to x_operand x_open := by
    intro hno
    unfold mx_pw at k
    rw [if_neg hno] at k
    unfold wX_partWith_30
    cases hse : mf_se (nd m) with
    | zero =>
      rw [if_neg (by rw [hse]; simp)] at k
      exact br_t (by decide) k
    | succ b =>
      refine br_f (nI_pos (by omega)) (mx_within hN hN16 (by omega) hx (fun h => br_f (by decide) ?_) (fun h => br_t rfl ?_))
      · rw [if_pos (by rw [hse]; exact ⟨by omega, h⟩), hse] at k
        exact k
      · rw [if_neg (by rw [hse]; exact fun z => h z.2)] at k
        exact k
  cases hfi : mf_fi (nd m) with
  | zero => exact br_t (by decide) (P30 (fun z => z.1 hfi))
  | succ a =>
    refine br_f (nI_pos (by omega)) (mx_within hN hN16 (by omega) hx (fun h => br_f (by decide) ?_) (fun h => br_t rfl (P30 ?_)))
    · unfold mx_pw at k
      rw [if_pos (by rw [hfi]; exact ⟨by omega, h⟩), hfi] at k
      exact k
    · rw [hfi]
      exact fun z => h z.2
theorem mx_pairsAround {post : Int32 → Prop} {m x q i j s : Nat} {v : Int32} (hN : mx_N nd N x_at x_first x_second x_strong x_values x_pairs x_from x_to) (hN16 : N ≤ 16) (hm : m < N) (hx : x < 16) (hh : mf_hd nd m q i j s v) (hq : i + 2 * q < j) (hxi : i ≤ x) (hxj : x < j)
    (k : post (nI (mx_pa i j q x))) : wpX_pairsAround post (x_count, x_nodes, x_operands, x_waiting, x_fine, x_top, x_kinds, x_levels, x_meanings, x_text, x_at, x_first, x_second, x_strong, x_values, x_pairs, x_from, x_to, x_operand, x_open) (nI m) (nI x) := by
  obtain ⟨n1, n2, n3, n4, n5, n6, n7, n8, b1, b2, b3⟩ := hN m hm
  obtain ⟨h1, h2, h3, h4, h5⟩ := hh
  have hc : (nI m).toNatClampNeg = m := nI_clamp (by omega)
  have hv : vp_in (nI m) 16 := vp_in_nI (by omega) (by omega)
  unfold mx_pa at k
  unfold wpX_pairsAround
  dsimp only
  rw [hc, n6, n7, n8, h1, h2, nI_add, pk_sub (by omega)]
  refine ⟨hv, hv, pk_le (i + q) x (fun h => ⟨hv, hv, pk_le x (mf_to (nd m) - q) (fun h' => ⟨hv, ?_⟩) (fun h' => ⟨hv, ?_⟩)⟩) (fun h => ⟨hv, ?_⟩)⟩
  · rw [if_neg (by omega), if_neg (by omega)] at k
    exact k
  · rw [if_neg (by omega), if_pos (by omega)] at k
    rw [pk_sub (by omega), show mf_to (nd m) - x = j - 1 - x from by omega]
    exact k
  · rw [if_pos (by omega)] at k
    rw [pk_sub (by omega)]
    exact k
theorem mx_dend {post : Int32 → SX → Prop} {x f S rd : Nat} (hrd : rd < 15) (k : post (nI S) (x_count, x_nodes, x_operands, x_waiting, x_fine, x_top, x_kinds, x_levels, x_meanings, x_text, x_at, x_first, x_second, x_strong, x_values, x_pairs, x_from, x_to, x_operand, x_open)) : wX_depth_83 post (wX_depth_35 post (nI x) x_count x_nodes x_operands x_waiting x_fine x_top x_kinds x_levels x_meanings x_text x_at x_first x_second x_strong x_values x_pairs x_from x_to x_operand x_open (f + 1)) (nI x) (nI S) (nI rd) (-1) x_count x_nodes x_operands x_waiting x_fine x_top x_kinds x_levels x_meanings x_text x_at x_first x_second x_strong x_values x_pairs x_from x_to x_operand x_open :=
  br_t (by decide) (nm_r (nI_1 rd) (br_c (fun _ => k) (fun _ => br_t (by decide) k)))
theorem mx_dstep {post : Int32 → SX → Prop} {m x q i j s S rd f A : Nat} {v : Int32} (hN : mx_N nd N x_at x_first x_second x_strong x_values x_pairs x_from x_to) (hN16 : N ≤ 16) (hm : m < N) (hx : x < 16) (hh : mf_hd nd m q i j s v) (hq : i + 2 * q < j) (hxi : i ≤ x) (hxj : x < j) (hf : mf_fi (nd m) ≤ m) (hs : mf_se (nd m) ≤ m) (hrd : rd < 15) (hj : j ≤ 16)
    (eA : mx_pa i j q x = A) (k0 : (A ≠ q ∨ mx_pw nd m x = 0) → post (nI (S + A)) (x_count, x_nodes, x_operands, x_waiting, x_fine, x_top, x_kinds, x_levels, x_meanings, x_text, x_at, x_first, x_second, x_strong, x_values, x_pairs, x_from, x_to, x_operand, x_open)) (k1 : A = q → ∀ c, mx_pw nd m x = c + 1 → wX_depth_35 post (nI x) x_count x_nodes x_operands x_waiting x_fine x_top x_kinds x_levels x_meanings x_text x_at x_first x_second x_strong x_values x_pairs x_from x_to x_operand x_open (f + 1) (nI c) (nI (S + A + 1)) (nI (rd + 1))) :
    wX_depth_35 post (nI x) x_count x_nodes x_operands x_waiting x_fine x_top x_kinds x_levels x_meanings x_text x_at x_first x_second x_strong x_values x_pairs x_from x_to x_operand x_open (f + 1 + 1) (nI m) (nI S) (nI rd) := by
  have hc : (nI m).toNatClampNeg = m := nI_clamp (by omega)
  have hv : vp_in (nI m) 16 := vp_in_nI (by omega) (by omega)
  have hpa : x_pairs m = nI q := by
    rw [(hN m hm).2.2.2.2.2.1, hh.1]
  have hA : A < 16 := by
    rw [← eA]
    unfold mx_pa
    split
    · omega
    · split <;> omega
  rw [wX_depth_35]
  dsimp only
  refine pk_le 15 rd (fun z => by omega) (fun _ => br_f (nI_pos (by omega)) (mx_pairsAround hN hN16 hm hx hh hq hxi hxj ?_))
  rw [eA, hc, hpa]
  refine nm_r (nI_add S A) ⟨hv, pk_eq A q (fun e => mx_partWith hN hN16 hm hx hf hs ?_) (fun e => mx_dend hrd (k0 (Or.inl e)))⟩
  cases hp : mx_pw nd m x with
  | zero => exact mx_dend hrd (k0 (Or.inr hp))
  | succ c =>
    have hc16 : c < 16 := by
      have : mx_pw nd m x ≤ m := by
        unfold mx_pw
        split
        · exact hf
        · split
          · exact hs
          · omega
      omega
    exact br_f (nI_pos (n := c) (by omega)) (nm_r (nI_1 (S + A)) (nm_r (nI_1 rd) (k1 e c hp)))
end
section
variable {f_size f_many : Int32} {a_kinds a_levels a_meanings a_text a_read a_strengths a_values a_operators a_froms a_tos a_keptFroms a_keptTos a_open : Nat → Int32} {post : Int32 → SY → Prop} {x i j dep st f : Nat}
theorem my_dB (hst : st < 20) (hi : i ≤ 16) (hj0 : 0 < j) (hj : j ≤ 16) (hx : x < 16) (hO : a_operators (17 * i + j) = -2) (h1 : x ≠ i) (h2 : x ≠ j - 1) (k : wY_depth_35 post (nI x) f_size f_many a_kinds a_levels a_meanings a_text a_read a_strengths a_values a_operators a_froms a_tos a_keptFroms a_keptTos a_open f (nI (i + 1)) (nI (j - 1)) (nI (dep + 1)) (nI (st + 1))) :
    wY_depth_35 post (nI x) f_size f_many a_kinds a_levels a_meanings a_text a_read a_strengths a_values a_operators a_froms a_tos a_keptFroms a_keptTos a_open (f + 1) (nI i) (nI j) (nI dep) (nI st) := by
  have ej : nI j - 1 = nI (j - 1) := pk_sub (a := j) (b := 1) (by omega)
  have ej' : nI j + (-1) = nI (j - 1) := by
    have := pk_m1 (j - 1)
    rw [show j - 1 + 1 = j from by omega] at this
    exact this
  rw [wY_depth_35]
  dsimp only
  rw [my_idx, nI_clamp (by omega), hO, ej]
  refine pk_le 20 st (fun z => by omega) (fun _ => ⟨vp_in_nI (by omega) (by omega), nm_e (br_t rfl (pk_eq x i (fun z => absurd z h1) (fun _ => pk_eq x (j - 1) (fun z => absurd z h2) (fun _ => ?_))))⟩)
  refine br_f (by decide) (br_f ?_ (br_t rfl (nm_r (nI_1 dep) (br_t rfl (nm_r (nI_1 i) (nm_r ej' (nm_r (nI_1 st) k)))))))
  intro z
  have := nI_pos' (n := x) (by omega)
  rw [← z] at this
  exact absurd this (by decide)
theorem my_dE (hst : st < 20) (hi : i ≤ 16) (hj0 : 0 < j) (hj : j ≤ 16) (hx : x < 16) (hO : a_operators (17 * i + j) = -2) (h1 : x = i ∨ x = j - 1) (k : post (nI dep) (f_size, f_many, a_kinds, a_levels, a_meanings, a_text, a_read, a_strengths, a_values, a_operators, a_froms, a_tos, a_keptFroms, a_keptTos, a_open)) :
    wY_depth_35 post (nI x) f_size f_many a_kinds a_levels a_meanings a_text a_read a_strengths a_values a_operators a_froms a_tos a_keptFroms a_keptTos a_open (f + 1) (nI i) (nI j) (nI dep) (nI st) := by
  have ej : nI j - 1 = nI (j - 1) := pk_sub (a := j) (b := 1) (by omega)
  have E : wY_depth_79 post (wY_depth_35 post (nI x) f_size f_many a_kinds a_levels a_meanings a_text a_read a_strengths a_values a_operators a_froms a_tos a_keptFroms a_keptTos a_open f) (nI x) (nI i) (nI j) (nI dep) (nI st) (-2) 1 f_size f_many a_kinds a_levels a_meanings a_text a_read a_strengths a_values a_operators a_froms a_tos a_keptFroms a_keptTos a_open := by
    refine br_f (by decide) (br_f ?_ (br_f (by decide) k))
    intro z
    have := nI_pos' (n := x) (by omega)
    rw [← z] at this
    exact absurd this (by decide)
  rw [wY_depth_35]
  dsimp only
  rw [my_idx, nI_clamp (by omega), hO, ej]
  refine pk_le 20 st (fun z => by omega) (fun _ => ⟨vp_in_nI (by omega) (by omega), nm_e (br_t rfl (pk_eq x i (fun z => E) (fun z => pk_eq x (j - 1) (fun z => E) (fun z' => by omega))))⟩)
theorem my_dN (hst : st < 20) (hi : i ≤ 16) (hj : j ≤ 16) (hO : a_operators (17 * i + j) = -1) (k : post (nI dep) (f_size, f_many, a_kinds, a_levels, a_meanings, a_text, a_read, a_strengths, a_values, a_operators, a_froms, a_tos, a_keptFroms, a_keptTos, a_open)) :
    wY_depth_35 post (nI x) f_size f_many a_kinds a_levels a_meanings a_text a_read a_strengths a_values a_operators a_froms a_tos a_keptFroms a_keptTos a_open (f + 1) (nI i) (nI j) (nI dep) (nI st) := by
  rw [wY_depth_35]
  dsimp only
  rw [my_idx, nI_clamp (by omega), hO]
  exact pk_le 20 st (fun z => by omega) (fun _ => ⟨vp_in_nI (by omega) (by omega), nm_e (br_f (by decide) (br_t rfl k))⟩)
theorem my_dO {r : Nat} (hst : st < 20) (hi : i ≤ 16) (hj : j ≤ 16) (hx : x < 16) (hr : r < 16) (hO : a_operators (17 * i + j) = nI r) (k0 : r = x → post (nI dep) (f_size, f_many, a_kinds, a_levels, a_meanings, a_text, a_read, a_strengths, a_values, a_operators, a_froms, a_tos, a_keptFroms, a_keptTos, a_open)) (k1 : r < x → wY_depth_35 post (nI x) f_size f_many a_kinds a_levels a_meanings a_text a_read a_strengths a_values a_operators a_froms a_tos a_keptFroms a_keptTos a_open f (nI (r + 1)) (nI j) (nI (dep + 1)) (nI (st + 1))) (k2 : x < r → wY_depth_35 post (nI x) f_size f_many a_kinds a_levels a_meanings a_text a_read a_strengths a_values a_operators a_froms a_tos a_keptFroms a_keptTos a_open f (nI i) (nI r) (nI (dep + 1)) (nI (st + 1))) :
    wY_depth_35 post (nI x) f_size f_many a_kinds a_levels a_meanings a_text a_read a_strengths a_values a_operators a_froms a_tos a_keptFroms a_keptTos a_open (f + 1) (nI i) (nI j) (nI dep) (nI st) := by
  have h0 := nI_pos' (n := r) (by omega)
  have n1 : ¬ nI r = -1 := by
    intro z
    rw [z] at h0
    exact absurd h0 (by decide)
  have n2 : ¬ nI r = -2 := by
    intro z
    rw [z] at h0
    exact absurd h0 (by decide)
  rw [wY_depth_35]
  dsimp only
  rw [my_idx, nI_clamp (by omega), hO]
  refine pk_le 20 st (fun z => by omega) (fun _ => ⟨vp_in_nI (by omega) (by omega), nm_e (br_f n2 (br_f n1 (pk_eq r x (fun z => k0 z) (fun z => br_t rfl (nm_r (nI_1 dep) (br_f n2 (pk_le r x (fun h => nm_r (nI_1 r) (nm_r (nI_1 st) (k1 (by omega)))) (fun h => nm_r (nI_1 st) (k2 h)))))))))⟩)
/-- A pairs of brackets -/
theorem my_dBs (hi : i ≤ 16) (hj : j ≤ 16) (hx : x < 16) : ∀ (A i0 j0 d0 s0 : Nat), i0 + 2 * A < j0 → j0 ≤ j → s0 + A < 20 → (∀ e, e < A → a_operators (17 * (i0 + e) + (j0 - e)) = -2 ∧ x ≠ i0 + e ∧ x ≠ j0 - e - 1) →
    wY_depth_35 post (nI x) f_size f_many a_kinds a_levels a_meanings a_text a_read a_strengths a_values a_operators a_froms a_tos a_keptFroms a_keptTos a_open f (nI (i0 + A)) (nI (j0 - A)) (nI (d0 + A)) (nI (s0 + A)) → wY_depth_35 post (nI x) f_size f_many a_kinds a_levels a_meanings a_text a_read a_strengths a_values a_operators a_froms a_tos a_keptFroms a_keptTos a_open (f + A) (nI i0) (nI j0) (nI d0) (nI s0) := by
  intro A
  induction A with
  | zero =>
    intro i0 j0 d0 s0 h1 h2 h3 h4 k
    exact k
  | succ A ih =>
    intro i0 j0 d0 s0 h1 h2 h3 h4 k
    have z := h4 0 (by omega)
    rw [Nat.add_zero, Nat.sub_zero] at z
    refine my_dB (by omega) (by omega) (by omega) (by omega) hx z.1 z.2.1 z.2.2 ?_
    refine ih (i0 + 1) (j0 - 1) (d0 + 1) (s0 + 1) (by omega) (by omega) (by omega) (fun e he => ?_) ?_
    · have := h4 (e + 1) (by omega)
      rw [show i0 + (e + 1) = i0 + 1 + e from by omega, show j0 - (e + 1) = j0 - 1 - e from by omega] at this
      exact this
    · rw [show i0 + 1 + A = i0 + (A + 1) from by omega, show j0 - 1 - A = j0 - (A + 1) from by omega, show d0 + 1 + A = d0 + (A + 1) from by omega, show s0 + 1 + A = s0 + (A + 1) from by omega]
      exact k
end
end
section
def my_DY (g : mf_CF) (t : Nat → Nat) (n x i j D : Nat) : Prop := ∀ (post' : Int32 → SY → Prop) (f_size f_many : Int32) (a_kinds a_levels a_meanings a_text a_read a_strengths a_values a_operators a_froms a_tos a_keptFroms a_keptTos a_open : Nat → Int32), my_TT g t n a_strengths a_values a_operators →
  ∀ dep st f, st + (j - i) ≤ 20 → j - i < f → post' (nI (dep + D)) (f_size, f_many, a_kinds, a_levels, a_meanings, a_text, a_read, a_strengths, a_values, a_operators, a_froms, a_tos, a_keptFroms, a_keptTos, a_open) → wY_depth_35 post' (nI x) f_size f_many a_kinds a_levels a_meanings a_text a_read a_strengths a_values a_operators a_froms a_tos a_keptFroms a_keptTos a_open f (nI i) (nI j) (nI dep) (nI st)
section
variable {x_count x_nodes x_operands x_waiting x_fine x_top : Int32} {x_kinds x_levels x_meanings x_text x_at x_first x_second x_strong x_values x_pairs x_from x_to x_operand x_open : Nat → Int32} {g : mf_CF} {t : Nat → Nat} {n N x : Nat} {nd : Nat → mf_ND} {post : Int32 → SX → Prop}
theorem mr_dep (hN : mx_N nd N x_at x_first x_second x_strong x_values x_pairs x_from x_to) (hN16 : N ≤ 16) (hn : n ≤ 15) :
    ∀ (d lo m q i j s : Nat) (v : Int32), j - i ≤ d → mf_R g t nd lo m q i j s v → mf_hd nd m q i j s v → m < N → i ≤ x → x < j → j ≤ n → ∃ D,
      (∀ S rd f, rd + (j - i) ≤ 15 → j - i < f → post (nI (S + D)) (x_count, x_nodes, x_operands, x_waiting, x_fine, x_top, x_kinds, x_levels, x_meanings, x_text, x_at, x_first, x_second, x_strong, x_values, x_pairs, x_from, x_to, x_operand, x_open) → wX_depth_35 post (nI x) x_count x_nodes x_operands x_waiting x_fine x_top x_kinds x_levels x_meanings x_text x_at x_first x_second x_strong x_values x_pairs x_from x_to x_operand x_open f (nI m) (nI S) (nI rd)) ∧
      my_DY g t n x i j D := by
  intro d
  induction d with
  | zero =>
    intro lo m q i j s v h hR
    have := (mf_rCnt hR).2
    omega
  | succ d ih =>
    intro lo m q i j s v hd hR hh hm hxi hxj hj
    have hij := (mf_rCnt hR).2
    obtain ⟨p1, p2, s0, hR0, _⟩ := mf_peel hR
    have hK := mf_ko hR0 rfl
    have hfs : mf_fi (nd m) ≤ m ∧ mf_se (nd m) ≤ m := by
      rcases hK with ⟨h, _, _, h1, h2, h3, _⟩ | ⟨m', q, s1, v1, rfl, ho, hk, h1, h2, h3, d1, hh, hs, _⟩ | ⟨m', q, r, s1, v1, rfl, _, ho, hk, h1, h2, h3, d1, hh, hs, _⟩ | ⟨a, m', q, q', r, s1, v1, s2, v2, rfl, ho, hk, h1, h2, h3, d1, hh, d2, hh2, hs, hs2, _⟩
      · omega
      · omega
      · omega
      · have := mf_rLo d2; omega
    by_cases c1 : x < i + q
    · refine ⟨x - i, fun S rd f h1 h2 k => ?_, fun post' f_size f_many a_kinds a_levels a_meanings a_text a_read a_strengths a_values a_operators a_froms a_tos a_keptFroms a_keptTos a_open hT dep st f h1 h2 k => ?_⟩
      · obtain ⟨f, rfl⟩ : ∃ f', f = f' + 1 + 1 := ⟨f - 2, by omega⟩
        have ep : mx_pa i j q x = x - i := if_pos c1
        exact mx_dstep hN hN16 hm (by omega) hh p2 hxi hxj hfs.1 hfs.2 (by omega) (by omega) ep (fun _ => k) (fun z => by omega)
      · obtain ⟨f, rfl⟩ : ∃ f', f = f' + 1 + (x - i) := ⟨f - 1 - (x - i), by omega⟩
        have hb : ∀ e, e < q → a_operators (17 * (i + e) + (j - e)) = -2 := fun e he => (my_op_of (hT (i + e) (j - e) (by omega) (by omega)) (p1 e he)).2.2
        refine my_dBs (i := i) (j := j) (by omega) (by omega) (by omega) (x - i) i j dep st (by omega) (Nat.le_refl _) (by omega) (fun e he => ⟨hb e (by omega), by omega, by omega⟩) ?_
        exact my_dE (by omega) (by omega) (by omega) (by omega) (by omega) (hb (x - i) (by omega)) (Or.inl (by omega)) k
    by_cases c2 : j ≤ x + q
    · have ep : mx_pa i j q x = j - 1 - x := by unfold mx_pa; rw [if_neg c1, if_pos c2]
      refine ⟨j - 1 - x, fun S rd f h1 h2 k => ?_, fun post' f_size f_many a_kinds a_levels a_meanings a_text a_read a_strengths a_values a_operators a_froms a_tos a_keptFroms a_keptTos a_open hT dep st f h1 h2 k => ?_⟩
      · obtain ⟨f, rfl⟩ : ∃ f', f = f' + 1 + 1 := ⟨f - 2, by omega⟩
        exact mx_dstep hN hN16 hm (by omega) hh p2 hxi hxj hfs.1 hfs.2 (by omega) (by omega) ep (fun _ => k) (fun z => by omega)
      · obtain ⟨f, rfl⟩ : ∃ f', f = f' + 1 + (j - 1 - x) := ⟨f - 1 - (j - 1 - x), by omega⟩
        have hb : ∀ e, e < q → a_operators (17 * (i + e) + (j - e)) = -2 := fun e he => (my_op_of (hT (i + e) (j - e) (by omega) (by omega)) (p1 e he)).2.2
        refine my_dBs (i := i) (j := j) (by omega) (by omega) (by omega) (j - 1 - x) i j dep st (by omega) (Nat.le_refl _) (by omega) (fun e he => ⟨hb e (by omega), by omega, by omega⟩) ?_
        exact my_dE (by omega) (by omega) (by omega) (by omega) (by omega) (hb (j - 1 - x) (by omega)) (Or.inr (by omega)) k
    have ep : mx_pa i j q x = q := by unfold mx_pa; rw [if_neg c1, if_neg c2]
    -- the token is the node's own
    have OWN : mx_pw nd m x = 0 → (mf_Der g t (i + q) (j - q) s0 0 v ∨ mf_Der g t (i + q) (j - q) s0 (x + 2) v) → ∃ D,
      (∀ S rd f, rd + (j - i) ≤ 15 → j - i < f → post (nI (S + D)) (x_count, x_nodes, x_operands, x_waiting, x_fine, x_top, x_kinds, x_levels, x_meanings, x_text, x_at, x_first, x_second, x_strong, x_values, x_pairs, x_from, x_to, x_operand, x_open) → wX_depth_35 post (nI x) x_count x_nodes x_operands x_waiting x_fine x_top x_kinds x_levels x_meanings x_text x_at x_first x_second x_strong x_values x_pairs x_from x_to x_operand x_open f (nI m) (nI S) (nI rd)) ∧
      my_DY g t n x i j D := by
      intro hpw hO
      refine ⟨q, fun S rd f h1 h2 k => ?_, fun post' f_size f_many a_kinds a_levels a_meanings a_text a_read a_strengths a_values a_operators a_froms a_tos a_keptFroms a_keptTos a_open hT dep st f h1 h2 k => ?_⟩
      · obtain ⟨f, rfl⟩ : ∃ f', f = f' + 1 + 1 := ⟨f - 2, by omega⟩
        exact mx_dstep hN hN16 hm (by omega) hh p2 hxi hxj hfs.1 hfs.2 (by omega) (by omega) ep (fun _ => k) (fun _ c z => by omega)
      · obtain ⟨f, rfl⟩ : ∃ f', f = f' + 1 + q := ⟨f - 1 - q, by omega⟩
        have hb : ∀ e, e < q → a_operators (17 * (i + e) + (j - e)) = -2 := fun e he => (my_op_of (hT (i + e) (j - e) (by omega) (by omega)) (p1 e he)).2.2
        refine my_dBs (i := i) (j := j) (by omega) (by omega) (by omega) q i j dep st p2 (Nat.le_refl _) (by omega) (fun e he => ⟨hb e he, by omega, by omega⟩) ?_
        rcases hO with hO | hO
        · exact my_dN (by omega) (by omega) (by omega) (my_op_of (hT (i + q) (j - q) (by omega) (by omega)) hO).2.2 k
        · exact my_dO (by omega) (by omega) (by omega) (by omega) (by omega) (my_op_of (hT (i + q) (j - q) (by omega) (by omega)) hO).2.2 (fun _ => k) (fun z => absurd z (Nat.lt_irrefl x)) (fun z => absurd z (Nat.lt_irrefl x))
    -- the token is in the part c, which stands for [i', j')
    have SUB : ∀ c lo' q' i' j' s' v' r, mx_pw nd m x = c + 1 → mf_R g t nd lo' c q' i' j' s' v' → mf_hd nd c q' i' j' s' v' → c < N → i' ≤ x → x < j' → mf_Der g t (i + q) (j - q) s0 (r + 2) v → r < 16 → i + q ≤ i' → j' ≤ j - q → ((r < x ∧ i' = r + 1 ∧ j' = j - q ∧ i + q ≤ r) ∨ (x < r ∧ i' = i + q ∧ j' = r ∧ r < j - q)) → ∃ D,
      (∀ S rd f, rd + (j - i) ≤ 15 → j - i < f → post (nI (S + D)) (x_count, x_nodes, x_operands, x_waiting, x_fine, x_top, x_kinds, x_levels, x_meanings, x_text, x_at, x_first, x_second, x_strong, x_values, x_pairs, x_from, x_to, x_operand, x_open) → wX_depth_35 post (nI x) x_count x_nodes x_operands x_waiting x_fine x_top x_kinds x_levels x_meanings x_text x_at x_first x_second x_strong x_values x_pairs x_from x_to x_operand x_open f (nI m) (nI S) (nI rd)) ∧
      my_DY g t n x i j D := by
      intro c lo' q' i' j' s' v' r hpw hR' hh' hc hxi' hxj' hO hr16 hi' hj' hcase
      have hij' := (mf_rCnt hR').2
      have hless : j' - i' + 1 ≤ j - i := by omega
      obtain ⟨D, hDx, hDy⟩ := ih lo' c q' i' j' s' v' (by omega) hR' hh' hc hxi' hxj' (by omega)
      refine ⟨q + 1 + D, fun S rd f h1 h2 k => ?_, fun post' f_size f_many a_kinds a_levels a_meanings a_text a_read a_strengths a_values a_operators a_froms a_tos a_keptFroms a_keptTos a_open hT dep st f h1 h2 k => ?_⟩
      · obtain ⟨f, rfl⟩ : ∃ f', f = f' + 1 + 1 := ⟨f - 2, by omega⟩
        refine mx_dstep hN hN16 hm (by omega) hh p2 hxi hxj hfs.1 hfs.2 (by omega) (by omega) ep (fun z => by omega) (fun _ c' z => ?_)
        have ec : c' = c := by omega
        subst ec
        refine hDx (S + q + 1) (rd + 1) (f + 1) (by omega) (by omega) ?_
        rw [show S + q + 1 + D = S + (q + 1 + D) from by omega]
        exact k
      · obtain ⟨f, rfl⟩ : ∃ f', f = f' + 1 + q := ⟨f - 1 - q, by omega⟩
        have hb : ∀ e, e < q → a_operators (17 * (i + e) + (j - e)) = -2 := fun e he => (my_op_of (hT (i + e) (j - e) (by omega) (by omega)) (p1 e he)).2.2
        refine my_dBs (i := i) (j := j) (by omega) (by omega) (by omega) q i j dep st p2 (Nat.le_refl _) (by omega) (fun e he => ⟨hb e he, by omega, by omega⟩) ?_
        have hy := hDy post' f_size f_many a_kinds a_levels a_meanings a_text a_read a_strengths a_values a_operators a_froms a_tos a_keptFroms a_keptTos a_open hT (dep + q + 1) (st + q + 1) f (by omega) (by omega) (by rw [show dep + q + 1 + D = dep + (q + 1 + D) from by omega]; exact k)
        refine my_dO (r := r) (by omega) (by omega) (by omega) (by omega) hr16 (my_op_of (hT (i + q) (j - q) (by omega) (by omega)) hO).2.2 (fun z => by omega) (fun z => ?_) (fun z => ?_)
        · rcases hcase with ⟨_, rfl, rfl, _⟩ | ⟨z', _⟩
          · exact hy
          · omega
        · rcases hcase with ⟨z', _⟩ | ⟨_, rfl, rfl, _⟩
          · omega
          · exact hy
    rcases mf_ko_c hR0 with ⟨z1, z2⟩ | ⟨z1, z2, z3, z4⟩
    · refine OWN ?_ (Or.inl z2)
      have hse : mf_se (nd m) = 0 := by
        rcases hK with ⟨h, _, _, h1, h2, h3, _⟩ | ⟨m', q, s1, v1, rfl, ho, hk, h1, h2, h3, d1, hh, hs, _⟩ | ⟨m', q, r, s1, v1, rfl, _, ho, hk, h1, h2, h3, d1, hh, hs, _⟩ | ⟨a, m', q, q', r, s1, v1, s2, v2, rfl, ho, hk, h1, h2, h3, d1, hh, d2, hh2, hs, hs2, _⟩
        · exact h3
        · omega
        · omega
        · omega
      unfold mx_pw
      rw [if_neg (fun z => z.1 z1), if_neg (fun z => z.1 hse)]
    · have hO := z2
      rcases hK with ⟨h, _, _, h1, h2, h3, _⟩ | ⟨m', q', s1, v1, e0, ho, hk, h1, h2, h3, d1, hh1, hs, _⟩ | ⟨m', q', r, s1, v1, e0, ej, ho, hk, h1, h2, h3, d1, hh1, hs, _⟩ | ⟨a, m', q1, q2, r, s1, v1, s2, v2, e0, ho, hk, h1, h2, h3, d1, hh1, d2, hh2, hs, hs2, _⟩
      · omega
      · have f1 := hh1.2.1
        have f2 := hh1.2.2.1
        rw [h1] at hO
        by_cases hxr : x = i + q
        · refine OWN ?_ (Or.inr (by rw [hxr]; exact hO))
          unfold mx_pw
          rw [h2, h3, Nat.add_sub_cancel, if_neg (by omega), if_neg (by omega)]
        · refine SUB m' lo q' (i + q + 1) (j - q) s1 v1 (i + q) ?_ d1 hh1 (by omega) (by omega) (by omega) hO (by omega) (by omega) (by omega) (Or.inl ⟨by omega, rfl, rfl, by omega⟩)
          unfold mx_pw
          rw [h2, Nat.add_sub_cancel, if_pos (by omega)]
      · have f1 := hh1.2.1
        have f2 := hh1.2.2.1
        rw [h1] at hO
        by_cases hxr : x = r
        · refine OWN ?_ (Or.inr (by rw [hxr]; exact hO))
          unfold mx_pw
          rw [h2, h3, Nat.add_sub_cancel, if_neg (by omega), if_neg (by omega)]
        · refine SUB m' lo q' (i + q) r s1 v1 r ?_ d1 hh1 (by omega) (by omega) (by omega) hO (by omega) (by omega) (by omega) (Or.inr ⟨by omega, rfl, rfl, by omega⟩)
          unfold mx_pw
          rw [h2, Nat.add_sub_cancel, if_pos (by omega)]
      · have f1 := hh1.2.1
        have f2 := hh1.2.2.1
        have f3 := hh2.2.1
        have f4 := hh2.2.2.1
        have l1 := (mf_rCnt d1).2
        have l2 := (mf_rCnt d2).2
        have l3 := mf_rLo d2
        rw [h1] at hO
        rcases Nat.lt_trichotomy x r with hxr | hxr | hxr
        · refine SUB a lo q1 (i + q) r s1 v1 r ?_ d1 hh1 (by omega) (by omega) (by omega) hO (by omega) (by omega) (by omega) (Or.inr ⟨by omega, rfl, rfl, by omega⟩)
          unfold mx_pw
          rw [h2, Nat.add_sub_cancel, if_pos (by omega)]
        · refine OWN ?_ (Or.inr (by rw [hxr]; exact hO))
          unfold mx_pw
          rw [h2, h3, Nat.add_sub_cancel, Nat.add_sub_cancel, if_neg (by omega), if_neg (by omega)]
        · refine SUB m' (a + 1) q2 (r + 1) (j - q) s2 v2 r ?_ d2 hh2 (by omega) (by omega) (by omega) hO (by omega) (by omega) (by omega) (Or.inl ⟨by omega, rfl, rfl, by omega⟩)
          unfold mx_pw
          rw [h2, h3, Nat.add_sub_cancel, Nat.add_sub_cancel, if_neg (by omega), if_pos (by omega)]
end
theorem i_vc_depth {k : Nat} {u : SX} {v : SY} (I : i_Rel k u v) (hk : k + 4 ≤ 2048) (v1 : Int32) : wpX_depth (fun r u' => wpY_depth (fun r' v' => r' = r ∧ i_Rel (k + 4) u' v') v v1) u v1 := by
  obtain ⟨g, t, n, hg, ht, hn, hX, hY⟩ := I
  obtain ⟨x_count, x_nodes, x_operands, x_waiting, x_fine, x_top, x_kinds, x_levels, x_meanings, x_text, x_at, x_first, x_second, x_strong, x_values, x_pairs, x_from, x_to, x_operand, x_open⟩ := u
  obtain ⟨f_size, f_many, a_kinds, a_levels, a_meanings, a_text, a_read, a_strengths, a_values, a_operators, a_froms, a_tos, a_keptFroms, a_keptTos, a_open⟩ := v
  have es : f_size = nI n := hY.1
  subst es
  have YBAD : (v1 < 0 ∨ ¬ v1 < 0 ∧ nI n ≤ v1) → ∀ u', mx_U g t n u' → wpY_depth (fun r' v' => r' = -4 ∧ i_Rel (k + 4) u' v') (nI n, f_many, a_kinds, a_levels, a_meanings, a_text, a_read, a_strengths, a_values, a_operators, a_froms, a_tos, a_keptFroms, a_keptTos, a_open) v1 := by
    intro h u' hu
    unfold wpY_depth
    dsimp only
    rcases h with h | ⟨h, h'⟩
    · exact br_t h ⟨rfl, g, t, n, hg, ht, hn, hu, hY⟩
    · exact br_f h (br_t h' ⟨rfl, g, t, n, hg, ht, hn, hu, hY⟩)
  unfold wpX_depth
  dsimp only
  refine mx_readAll hX hg (by omega) ht (fun hno u' hu => ?_) (fun s c w nd m q d hm hR hh u' hu => ?_)
  · refine br_t rfl ?_
    by_cases h : v1 < 0
    · exact YBAD (Or.inl h) _ hu
    by_cases h' : nI n ≤ v1
    · exact YBAD (Or.inr ⟨h, h'⟩) _ hu
    refine br_f h (br_f h' (my_readText hY hg hn ht (fun x R a b c hR hx hT => my_sv_0' hg hx (fun _ => ⟨rfl, g, t, n, hg, ht, hn, hu, hY⟩) (fun s c w d => absurd d (hno s c w)))))
  · obtain ⟨x_count, x_nodes, x_operands, x_waiting, x_fine, x_top, x_kinds, x_levels, x_meanings, x_text, x_at, x_first, x_second, x_strong, x_values, x_pairs, x_from, x_to, x_operand, x_open⟩ := u'
    obtain ⟨hu, e1, rfl, hN⟩ := hu
    have ec : x_count = nI n := hu.1
    dsimp only
    refine br_f (by decide) ?_
    by_cases h : v1 < 0
    · exact br_t h (YBAD (Or.inl h) _ hu)
    refine br_f h ?_
    by_cases h' : nI n ≤ v1
    · exact br_f (by rw [ec]; exact Int32.not_lt.mpr h') (YBAD (Or.inr ⟨h, h'⟩) _ hu)
    refine br_t (by rw [ec]; exact Int32.not_le.mp h') ?_
    obtain ⟨x, hx, rfl⟩ := nI_of h
    have hxn : x < n := by
      have := mt (nI_leI (a := n) (b := x) (by omega) hx).mpr h'
      omega
    refine ⟨16, ?_⟩
    have hcnt := (mf_rCnt hR).1
    obtain ⟨D, hDx, hDy⟩ := mr_dep (post := fun r u' => wpY_depth (fun r' v' => r' = r ∧ i_Rel (k + 4) u' v') (nI n, f_many, a_kinds, a_levels, a_meanings, a_text, a_read, a_strengths, a_values, a_operators, a_froms, a_tos, a_keptFroms, a_keptTos, a_open) (nI x)) hN (by omega) hn n 0 m q 0 n s w (by omega) hR hh (by omega) (Nat.zero_le _) hxn (Nat.le_refl _)
    refine hDx 0 0 16 (by omega) (by omega) ?_
    unfold wpY_depth
    refine br_f h (br_f h' (my_readText hY hg hn ht (fun y R a b c' hR' hy hT => my_sv_0' hg hy (fun z => absurd d (z s c w)) (fun _ _ _ _ => ⟨17, ?_⟩))))
    exact hDy _ _ _ _ _ _ _ _ _ _ _ _ _ _ _ _ hT 0 0 17 (by omega) (by omega) ⟨rfl, g, t, n, hg, ht, hn, hu, hY⟩
end
section
/- the stretch of every operator in the tree of a stretch; brackets' partners; the text without a pair -/
def mf_SC (g : mf_CF) (t : Nat → Nat) (Q : Nat → Nat → Nat → Nat → Nat → Prop) : Prop :=
  (∀ i j r v, mf_O g t i j r v → Q i j r i j) ∧
  (∀ i e r f u, t i = 18 → t e = 19 → Q (i + 1) e r f u → Q i (e + 1) r f u) ∧
  (∀ i j r0 v r f u, mf_O g t i j r0 v → Q i r0 r f u → Q i j r f u) ∧
  (∀ i j r0 v r f u, mf_O g t i j r0 v → Q (r0 + 1) j r f u → Q i j r f u)
def mf_S (g : mf_CF) (t : Nat → Nat) (i j r f u : Nat) : Prop := ∀ Q, mf_SC g t Q → Q i j r f u
def mf_Pt (t : Nat → Nat) (p e : Nat) : Prop := p < e ∧ t p = 18 ∧ t e = 19 ∧ mf_B t (e + 1) = mf_B t p ∧ ∀ x, p < x → x ≤ e → mf_B t p < mf_B t x
def mw_w (p e x : Nat) : Nat := x - (if p < x then 1 else 0) - (if e < x then 1 else 0)
def mw_t (p e : Nat) (t : Nat → Nat) : Nat → Nat := fun x => if x < p then t x else if x + 1 < e then t (x + 1) else t (x + 2)
section
variable {g : mf_CF} {t : Nat → Nat}
theorem mf_s1 {i j r : Nat} {v : Int32} (h : mf_O g t i j r v) : mf_S g t i j r i j := fun _ hC => hC.1 i j r v h
theorem mf_s2 {i e r f u : Nat} (h : t i = 18) (h' : t e = 19) (d : mf_S g t (i + 1) e r f u) : mf_S g t i (e + 1) r f u := fun Q hC => hC.2.1 i e r f u h h' (d Q hC)
theorem mf_s3 {i j r0 r f u : Nat} {v : Int32} (h : mf_O g t i j r0 v) (d : mf_S g t i r0 r f u) : mf_S g t i j r f u := fun Q hC => hC.2.2.1 i j r0 v r f u h (d Q hC)
theorem mf_s4 {i j r0 r f u : Nat} {v : Int32} (h : mf_O g t i j r0 v) (d : mf_S g t (r0 + 1) j r f u) : mf_S g t i j r f u := fun Q hC => hC.2.2.2 i j r0 v r f u h (d Q hC)
theorem mf_sInd {Q : Nat → Nat → Nat → Nat → Nat → Prop}
    (s1 : ∀ i j r v, mf_O g t i j r v → Q i j r i j)
    (s2 : ∀ i e r f u, t i = 18 → t e = 19 → mf_S g t (i + 1) e r f u → Q (i + 1) e r f u → Q i (e + 1) r f u)
    (s3 : ∀ i j r0 v r f u, mf_O g t i j r0 v → mf_S g t i r0 r f u → Q i r0 r f u → Q i j r f u)
    (s4 : ∀ i j r0 v r f u, mf_O g t i j r0 v → mf_S g t (r0 + 1) j r f u → Q (r0 + 1) j r f u → Q i j r f u)
    {i j r f u : Nat} (d : mf_S g t i j r f u) : Q i j r f u := by
  have h := d (fun i j r f u => mf_S g t i j r f u ∧ Q i j r f u) ⟨?_, ?_, ?_, ?_⟩
  · exact h.2
  · exact fun i j r v h => ⟨mf_s1 h, s1 i j r v h⟩
  · exact fun i e r f u h h' z => ⟨mf_s2 h h' z.1, s2 i e r f u h h' z.1 z.2⟩
  · exact fun i j r0 v r f u h z => ⟨mf_s3 h z.1, s3 i j r0 v r f u h z.1 z.2⟩
  · exact fun i j r0 v r f u h z => ⟨mf_s4 h z.1, s4 i j r0 v r f u h z.1 z.2⟩
theorem mf_sInv {i j r f u : Nat} (d : mf_S g t i j r f u) : (∃ v, mf_O g t i j r v ∧ f = i ∧ u = j) ∨ (∃ e, j = e + 1 ∧ t i = 18 ∧ t e = 19 ∧ mf_S g t (i + 1) e r f u) ∨ (∃ r0 v, mf_O g t i j r0 v ∧ mf_S g t i r0 r f u) ∨ (∃ r0 v, mf_O g t i j r0 v ∧ mf_S g t (r0 + 1) j r f u) := by
  refine mf_sInd (Q := fun i j r f u => (∃ v, mf_O g t i j r v ∧ f = i ∧ u = j) ∨ (∃ e, j = e + 1 ∧ t i = 18 ∧ t e = 19 ∧ mf_S g t (i + 1) e r f u) ∨ (∃ r0 v, mf_O g t i j r0 v ∧ mf_S g t i r0 r f u) ∨ (∃ r0 v, mf_O g t i j r0 v ∧ mf_S g t (r0 + 1) j r f u)) ?_ ?_ ?_ ?_ d
  · exact fun i j r v h => Or.inl ⟨v, h, rfl, rfl⟩
  · exact fun i e r f u h h' z _ => Or.inr (Or.inl ⟨e, rfl, h, h', z⟩)
  · exact fun i j r0 v r f u h z _ => Or.inr (Or.inr (Or.inl ⟨r0, v, h, z⟩))
  · exact fun i j r0 v r f u h z _ => Or.inr (Or.inr (Or.inr ⟨r0, v, h, z⟩))
theorem mf_sFact {i j r f u : Nat} (d : mf_S g t i j r f u) : i ≤ f ∧ f ≤ r ∧ r < u ∧ u ≤ j ∧ mf_op t r ∧ (∃ v, mf_O g t f u r v) ∧ ∃ s c v, mf_Der g t i j s c v := by
  refine mf_sInd (Q := fun i j r f u => i ≤ f ∧ f ≤ r ∧ r < u ∧ u ≤ j ∧ mf_op t r ∧ (∃ v, mf_O g t f u r v) ∧ ∃ s c v, mf_Der g t i j s c v) ?_ ?_ ?_ ?_ d
  · intro i j r v h
    have := mf_O_rng h
    exact ⟨Nat.le_refl _, this.1, this.2, Nat.le_refl _, h.1, ⟨v, h⟩, _, _, _, mf_dO h⟩
  · intro i e r f u h h' _ ⟨z1, z2, z3, z4, z5, z6, s, c, v, z7⟩
    exact ⟨by omega, z2, z3, by omega, z5, z6, _, _, _, mf_dBr h h' z7⟩
  · intro i j r0 v r f u h _ ⟨z1, z2, z3, z4, z5, z6, _⟩
    have := mf_O_rng h
    exact ⟨z1, z2, z3, by omega, z5, z6, _, _, _, mf_dO h⟩
  · intro i j r0 v r f u h _ ⟨z1, z2, z3, z4, z5, z6, _⟩
    have := mf_O_rng h
    exact ⟨by omega, z2, z3, z4, z5, z6, _, _, _, mf_dO h⟩
theorem mf_O_uni {i j r r' : Nat} {v v' : Int32} (h : mf_O g t i j r v) (h' : mf_O g t i j r' v') : r = r' := by
  have := (mf_uni (mf_dO h) (mf_dO h')).2.1
  omega
/-- inversion where the root is known -/
theorem mf_sInvO {i j r0 r f u : Nat} {v : Int32} (hO : mf_O g t i j r0 v) (d : mf_S g t i j r f u) : (r = r0 ∧ f = i ∧ u = j) ∨ mf_S g t i r0 r f u ∨ mf_S g t (r0 + 1) j r f u := by
  rcases mf_sInv d with ⟨v', h, rfl, rfl⟩ | ⟨e, rfl, h1, h2, d'⟩ | ⟨r1, v', h, d'⟩ | ⟨r1, v', h, d'⟩
  · exact Or.inl ⟨mf_O_uni h hO, rfl, rfl⟩
  · obtain ⟨_, _, _, _, _, _, s, c, w, dd⟩ := mf_sFact d'
    have := (mf_uni (mf_dBr h1 h2 dd) (mf_dO hO)).2.1
    omega
  · rw [mf_O_uni h hO] at d'
    exact Or.inr (Or.inl d')
  · rw [mf_O_uni h hO] at d'
    exact Or.inr (Or.inr d')
theorem mf_sInvB {i e r f u s c : Nat} {v : Int32} (h18 : t i = 18) (h19 : t e = 19) (dd : mf_Der g t (i + 1) e s c v) (d : mf_S g t i (e + 1) r f u) : mf_S g t (i + 1) e r f u := by
  have db := mf_dBr h18 h19 dd
  rcases mf_sInv d with ⟨v', h, rfl, rfl⟩ | ⟨e', he, h1, h2, d'⟩ | ⟨r1, v', h, d'⟩ | ⟨r1, v', h, d'⟩
  · have := (mf_uni db (mf_dO h)).2.1
    omega
  · have : e' = e := by omega
    rw [this] at d'
    exact d'
  · have := (mf_uni db (mf_dO h)).2.1
    omega
  · have := (mf_uni db (mf_dO h)).2.1
    omega
theorem mf_sInvN {i r f u : Nat} (h : t i < 10) : ¬ mf_S g t i (i + 1) r f u := by
  intro d
  have dn := mf_dNum (g := g) h
  rcases mf_sInv d with ⟨v', h', rfl, rfl⟩ | ⟨e', he, h1, h2, d'⟩ | ⟨r1, v', h', d'⟩ | ⟨r1, v', h', d'⟩
  · have := (mf_uni dn (mf_dO h')).2.1
    omega
  · omega
  · have := (mf_uni dn (mf_dO h')).2.1
    omega
  · have := (mf_uni dn (mf_dO h')).2.1
    omega
theorem mf_sNo {i r f u : Nat} : ¬ mf_S g t i i r f u := by
  intro d
  have := mf_sFact d
  omega
theorem mf_oPre {i j s c : Nat} {v : Int32} (h : mf_op t i) (hk : mf_kin g t i = 3) (d : mf_Der g t (i + 1) j s c v) (hs : mf_lev g t i ≤ s) : mf_O g t i j i (mf_al (mf_mea g t i) v) := ⟨h, Or.inl ⟨hk, rfl, s, c, v, d, hs, rfl⟩⟩
theorem mf_oPos {i r s c : Nat} {v : Int32} (h : mf_op t r) (hk : mf_kin g t r = 4) (d : mf_Der g t i r s c v) (hs : mf_lev g t r ≤ s) : mf_O g t i (r + 1) r (mf_al (mf_mea g t r) v) := ⟨h, Or.inr (Or.inl ⟨hk, rfl, s, c, v, d, hs, rfl⟩)⟩
theorem mf_oBin {i r j s c s' c' : Nat} {v v' : Int32} (h : mf_op t r) (hk : mf_kin g t r < 3) (d : mf_Der g t i r s c v) (d' : mf_Der g t (r + 1) j s' c' v') (hs : mf_nl g t r ≤ s) (hs' : mf_nr g t r ≤ s') : mf_O g t i j r (mf_bt (mf_mea g t r) v v') := ⟨h, Or.inr (Or.inr ⟨hk, s, c, v, s', c', v', d, d', hs, hs', rfl⟩)⟩
theorem mf_cov {i j s c : Nat} {v : Int32} (d : mf_Der g t i j s c v) : ∀ r, i ≤ r → r < j → mf_op t r → ∃ f u, mf_S g t i j r f u := by
  refine mf_ind (Q := fun i j _ _ _ => ∀ r, i ≤ r → r < j → mf_op t r → ∃ f u, mf_S g t i j r f u) ?_ ?_ ?_ ?_ ?_ d
  · intro i h r h1 h2 h3
    have e : r = i := by omega
    subst e
    have := h3.1
    omega
  · intro i e s c v h h' d ih r h1 h2 h3
    have n1 : r ≠ i := by rintro rfl; have := h3.2; omega
    have n2 : r ≠ e := by rintro rfl; have := h3.2; omega
    obtain ⟨f, u, z⟩ := ih r (by omega) (by omega) h3
    exact ⟨f, u, mf_s2 h h' z⟩
  · intro i j s c v h hk d ih hs r h1 h2 h3
    rcases (by omega : r = i ∨ i + 1 ≤ r) with rfl | h5
    · exact ⟨r, j, mf_s1 (mf_oPre h hk d hs)⟩
    · obtain ⟨f, u, z⟩ := ih r h5 h2 h3
      exact ⟨f, u, mf_s4 (mf_oPre h hk d hs) z⟩
  · intro i r0 s c v h hk d ih hs r h1 h2 h3
    rcases (by omega : r = r0 ∨ r < r0) with rfl | h5
    · exact ⟨i, r + 1, mf_s1 (mf_oPos h hk d hs)⟩
    · obtain ⟨f, u, z⟩ := ih r h1 h5 h3
      exact ⟨f, u, mf_s3 (mf_oPos h hk d hs) z⟩
  · intro i r0 j s c v s' c' v' h hk d ih d' ih' hs hs' r h1 h2 h3
    rcases (by omega : r = r0 ∨ r < r0 ∨ r0 + 1 ≤ r) with rfl | h5 | h5
    · exact ⟨i, j, mf_s1 (mf_oBin h hk d d' hs hs')⟩
    · obtain ⟨f, u, z⟩ := ih r h1 h5 h3
      exact ⟨f, u, mf_s3 (mf_oBin h hk d d' hs hs') z⟩
    · obtain ⟨f, u, z⟩ := ih' r h5 h2 h3
      exact ⟨f, u, mf_s4 (mf_oBin h hk d d' hs hs') z⟩
theorem mf_ptBr {i e s c : Nat} {v : Int32} (h : t i = 18) (h' : t e = 19) (d : mf_Der g t (i + 1) e s c v) : mf_Pt t i e := by
  obtain ⟨b1, b2, b3⟩ := mf_bal d
  have h4 := mf_Bs (t := t) i
  have h5 := mf_w18 h
  have h6 := mf_Bs (t := t) e
  have h7 := mf_w19 h'
  refine ⟨by omega, h, h', by omega, fun x hx hx' => ?_⟩
  have := b3 x (by omega) hx'
  omega
theorem mf_covB {i j s c : Nat} {v : Int32} (d : mf_Der g t i j s c v) : ∀ p, i ≤ p → p < j → t p = 18 → ∃ e, e < j ∧ mf_Pt t p e := by
  refine mf_ind (Q := fun i j _ _ _ => ∀ p, i ≤ p → p < j → t p = 18 → ∃ e, e < j ∧ mf_Pt t p e) ?_ ?_ ?_ ?_ ?_ d
  · intro i h p h1 h2 h3
    have e : p = i := by omega
    subst e
    omega
  · intro i e s c v h h' d ih p h1 h2 h3
    by_cases z : p = i
    · subst z
      exact ⟨e, by omega, mf_ptBr h h' d⟩
    · have n2 : p ≠ e := by rintro rfl; omega
      obtain ⟨e', z1, z2⟩ := ih p (by omega) (by omega) h3
      exact ⟨e', by omega, z2⟩
  · intro i j s c v h hk d ih hs p h1 h2 h3
    have n1 : p ≠ i := by rintro rfl; have := h.2; omega
    exact ih p (by omega) h2 h3
  · intro i r0 s c v h hk d ih hs p h1 h2 h3
    have n1 : p ≠ r0 := by rintro rfl; have := h.2; omega
    obtain ⟨e', z1, z2⟩ := ih p h1 (by omega) h3
    exact ⟨e', by omega, z2⟩
  · intro i r0 j s c v s' c' v' h hk d ih d' ih' hs hs' p h1 h2 h3
    have n1 : p ≠ r0 := by rintro rfl; have := h.2; omega
    have := mf_lt d'
    rcases (by omega : p < r0 ∨ r0 + 1 ≤ p) with h5 | h5
    · obtain ⟨e', z1, z2⟩ := ih p h1 h5 h3
      exact ⟨e', by omega, z2⟩
    · exact ih' p h5 h2 h3
theorem mf_ptUni {p e e' : Nat} (h : mf_Pt t p e) (h' : mf_Pt t p e') : e = e' := by
  obtain ⟨a1, a2, a3, a4, a5⟩ := h
  obtain ⟨b1, b2, b3, b4, b5⟩ := h'
  rcases Nat.lt_trichotomy e e' with z | z | z
  · have := b5 (e + 1) (by omega) (by omega)
    omega
  · exact z
  · have := a5 (e' + 1) (by omega) (by omega)
    omega
/- a shift of the text -/
theorem mf_cgl {t' : Nat → Nat} {x x' : Nat} (h : t' x' = t x) : mf_lev g t' x' = mf_lev g t x := by unfold mf_lev; rw [h]
theorem mf_cgk {t' : Nat → Nat} {x x' : Nat} (h : t' x' = t x) : mf_kin g t' x' = mf_kin g t x := by unfold mf_kin; rw [mf_cgl h]
theorem mf_cgm {t' : Nat → Nat} {x x' : Nat} (h : t' x' = t x) : mf_mea g t' x' = mf_mea g t x := by unfold mf_mea; rw [h]
theorem mf_cgnl {t' : Nat → Nat} {x x' : Nat} (h : t' x' = t x) : mf_nl g t' x' = mf_nl g t x := by unfold mf_nl; rw [mf_cgl h, mf_cgk h]
theorem mf_cgnr {t' : Nat → Nat} {x x' : Nat} (h : t' x' = t x) : mf_nr g t' x' = mf_nr g t x := by unfold mf_nr; rw [mf_cgl h, mf_cgk h]
theorem mf_cgo {t' : Nat → Nat} {x x' : Nat} (h : t' x' = t x) (ho : mf_op t x) : mf_op t' x' := by unfold mf_op; rw [h]; exact ho
theorem mf_shift {t' : Nat → Nat} {i j s c : Nat} {v : Int32} (d : mf_Der g t i j s c v) : ∀ k, k ≤ i → (∀ x, i ≤ x → x < j → t' (x - k) = t x) → ∃ c', mf_Der g t' (i - k) (j - k) s c' v := by
  refine mf_ind (Q := fun i j s _ v => ∀ k, k ≤ i → (∀ x, i ≤ x → x < j → t' (x - k) = t x) → ∃ c', mf_Der g t' (i - k) (j - k) s c' v) ?_ ?_ ?_ ?_ ?_ d
  · intro i h k hk he
    have e := he i (Nat.le_refl _) (Nat.lt_succ_self i)
    rw [show i + 1 - k = i - k + 1 from by omega, ← e]
    exact ⟨0, mf_dNum (by omega)⟩
  · intro i e s c v h h' d ih k hk he
    have := mf_lt d
    obtain ⟨c', z⟩ := ih k (by omega) (fun x h1 h2 => he x (by omega) (by omega))
    rw [show i + 1 - k = i - k + 1 from by omega] at z
    rw [show e + 1 - k = e - k + 1 from by omega]
    exact ⟨1, mf_dBr ((he i (by omega) (by omega)).trans h) ((he e (by omega) (by omega)).trans h') z⟩
  · intro i j s c v h hk3 d ih hs k hk he
    have := mf_lt d
    obtain ⟨c', z⟩ := ih k (by omega) (fun x h1 h2 => he x (by omega) (by omega))
    rw [show i + 1 - k = i - k + 1 from by omega] at z
    have e := he i (Nat.le_refl _) (by omega)
    have w := mf_dPre (mf_cgo e h) (by rw [mf_cgk e]; exact hk3) z (by rw [mf_cgl e]; exact hs)
    rw [mf_cgl e, mf_cgm e] at w
    exact ⟨_, w⟩
  · intro i r s c v h hk4 d ih hs k hk he
    have := mf_lt d
    obtain ⟨c', z⟩ := ih k (by omega) (fun x h1 h2 => he x (by omega) (by omega))
    have e := he r (by omega) (by omega)
    have w := mf_dPos (mf_cgo e h) (by rw [mf_cgk e]; exact hk4) z (by rw [mf_cgl e]; exact hs)
    rw [mf_cgl e, mf_cgm e] at w
    rw [show r + 1 - k = r - k + 1 from by omega]
    exact ⟨_, w⟩
  · intro i r j s c v s' c1 v' h hk3 d ih d' ih' hs hs' k hk he
    have := mf_lt d
    have := mf_lt d'
    obtain ⟨c2, z⟩ := ih k (by omega) (fun x h1 h2 => he x (by omega) (by omega))
    obtain ⟨c3, z'⟩ := ih' k (by omega) (fun x h1 h2 => he x (by omega) (by omega))
    rw [show r + 1 - k = r - k + 1 from by omega] at z'
    have e := he r (by omega) (by omega)
    have w := mf_dBin (mf_cgo e h) (by rw [mf_cgk e]; exact hk3) z z' (by rw [mf_cgnl e]; exact hs) (by rw [mf_cgnr e]; exact hs')
    rw [mf_cgl e, mf_cgm e] at w
    exact ⟨_, w⟩
theorem mf_shiftO {t' : Nat → Nat} {i j r k : Nat} {v : Int32} (h : mf_O g t i j r v) (hk : k ≤ i) (he : ∀ x, i ≤ x → x < j → t' (x - k) = t x) : mf_O g t' (i - k) (j - k) (r - k) v := by
  have hr := mf_O_rng h
  have e := he r hr.1 hr.2
  obtain ⟨ho, ⟨h3, rfl, s, c, w, d, hs, rfl⟩ | ⟨h3, rfl, s, c, w, d, hs, rfl⟩ | ⟨h3, s, c, w, s', c', w', d, d', hs, hs', rfl⟩⟩ := h
  · have := mf_lt d
    obtain ⟨c', z⟩ := mf_shift d k (by omega) (fun x h1 h2 => he x (by omega) (by omega))
    rw [show r + 1 - k = r - k + 1 from by omega] at z
    have w' := mf_oPre (mf_cgo e ho) (by rw [mf_cgk e]; exact h3) z (by rw [mf_cgl e]; exact hs)
    rw [mf_cgm e] at w'
    exact w'
  · obtain ⟨c', z⟩ := mf_shift d k (by omega) (fun x h1 h2 => he x (by omega) (by omega))
    have w' := mf_oPos (mf_cgo e ho) (by rw [mf_cgk e]; exact h3) z (by rw [mf_cgl e]; exact hs)
    rw [mf_cgm e] at w'
    rw [show r + 1 - k = r - k + 1 from by omega]
    exact w'
  · have := mf_lt d
    have := mf_lt d'
    obtain ⟨c2, z⟩ := mf_shift d k (by omega) (fun x h1 h2 => he x (by omega) (by omega))
    obtain ⟨c3, z'⟩ := mf_shift d' k (by omega) (fun x h1 h2 => he x (by omega) (by omega))
    rw [show r + 1 - k = r - k + 1 from by omega] at z'
    have w' := mf_oBin (mf_cgo e ho) (by rw [mf_cgk e]; exact h3) z z' (by rw [mf_cgnl e]; exact hs) (by rw [mf_cgnr e]; exact hs')
    rw [mf_cgm e] at w'
    exact w'
theorem mf_shiftS {t' : Nat → Nat} {i j r f u : Nat} (d : mf_S g t i j r f u) : ∀ k, k ≤ i → (∀ x, i ≤ x → x < j → t' (x - k) = t x) → mf_S g t' (i - k) (j - k) (r - k) (f - k) (u - k) := by
  refine mf_sInd (Q := fun i j r f u => ∀ k, k ≤ i → (∀ x, i ≤ x → x < j → t' (x - k) = t x) → mf_S g t' (i - k) (j - k) (r - k) (f - k) (u - k)) ?_ ?_ ?_ ?_ d
  · exact fun i j r v h k hk he => mf_s1 (mf_shiftO h hk he)
  · intro i e r f u h h' d ih k hk he
    have hf := mf_sFact d
    have z := ih k (by omega) (fun x h1 h2 => he x (by omega) (by omega))
    rw [show i + 1 - k = i - k + 1 from by omega] at z
    rw [show e + 1 - k = e - k + 1 from by omega]
    exact mf_s2 ((he i (by omega) (by omega)).trans h) ((he e (by omega) (by omega)).trans h') z
  · intro i j r0 v r f u h d ih k hk he
    have hr := mf_O_rng h
    exact mf_s3 (mf_shiftO h hk he) (ih k hk (fun x h1 h2 => he x h1 (by omega)))
  · intro i j r0 v r f u h d ih k hk he
    have hr := mf_O_rng h
    have z := ih k (by omega) (fun x h1 h2 => he x (by omega) h2)
    rw [show r0 + 1 - k = r0 - k + 1 from by omega] at z
    exact mf_s4 (mf_shiftO h hk he) z
/- the text without the pair p, e -/
theorem mw_w0 {p e x : Nat} (h : x ≤ p) (hpe : p < e) : mw_w p e x = x := by
  unfold mw_w
  rw [if_neg (by omega), if_neg (by omega)]
  rfl
theorem mw_w1 {p e x : Nat} (h : p < x) (h' : x ≤ e) : mw_w p e x = x - 1 := by
  unfold mw_w
  rw [if_pos h, if_neg (by omega)]
  rfl
theorem mw_w2 {p e x : Nat} (h : e < x) (hpe : p < e) : mw_w p e x = x - 2 := by
  unfold mw_w
  rw [if_pos (by omega), if_pos h]
  omega
theorem mw_t0 {p e x : Nat} (h : x < p) : mw_t p e t x = t x := if_pos h
theorem mw_t1 {p e x : Nat} (h : p < x) (h' : x < e) : mw_t p e t (x - 1) = t x := by
  unfold mw_t
  rw [if_neg (by omega), if_pos (by omega), show x - 1 + 1 = x from by omega]
theorem mw_t2 {p e x : Nat} (h : e < x) (hpe : p < e) : mw_t p e t (x - 2) = t x := by
  unfold mw_t
  rw [if_neg (by omega), if_neg (by omega), show x - 2 + 2 = x from by omega]
theorem mw_tw {p e x : Nat} (hpe : p < e) (h1 : x ≠ p) (h2 : x ≠ e) : mw_t p e t (mw_w p e x) = t x := by
  rcases (by omega : x < p ∨ (p < x ∧ x < e) ∨ e < x) with h | ⟨h, h'⟩ | h
  · rw [mw_w0 (by omega) hpe]; exact mw_t0 h
  · rw [mw_w1 h (by omega)]; exact mw_t1 h h'
  · rw [mw_w2 h hpe]; exact mw_t2 h hpe
end
end
section
/- which pairs can go: the count -/
def mw_SP (g : mf_CF) (t : Nat → Nat) (n p e : Nat) : Prop := (∃ s c v, mf_Der g (mw_t p e t) 0 (n - 2) s c v) ∧ ∀ r f u, mf_S g t 0 n r f u → mf_S g (mw_t p e t) 0 (n - 2) (mw_w p e r) (mw_w p e f) (mw_w p e u)
def mw_P (g : mf_CF) (t : Nat → Nat) (n p : Nat) : Prop := t p = 18 ∧ ∃ e, e < n ∧ mf_Pt t p e ∧ mw_SP g t n p e
def mw_CL (g : mf_CF) (t : Nat → Nat) (i j p e : Nat) : Prop := ∀ r f u, mf_S g t i j r f u → mf_S g (mw_t p e t) i (j - 2) (mw_w p e r) (mw_w p e f) (mw_w p e u)
/-- what the place of the stretch [i,j) in the whole asks: its strength must be at least need -/
def mw_X (g : mf_CF) (t : Nat → Nat) (n i j need : Nat) : Prop :=
  (∀ p e, i ≤ p → e < j → mf_Pt t p e → (∃ s' c' v', mf_Der g (mw_t p e t) i (j - 2) s' c' v' ∧ need ≤ s') → mw_CL g t i j p e → mw_SP g t n p e) ∧
  (∀ p e, i ≤ p → e < j → mf_Pt t p e → mw_SP g t n p e → ∀ s' c' v', mf_Der g (mw_t p e t) i (j - 2) s' c' v' → need ≤ s') ∧
  (∀ r f u, mf_S g t i j r f u → mf_S g t 0 n r f u) ∧ j ≤ n
section
variable {g : mf_CF} {t : Nat → Nat} {n : Nat}
theorem mw_x0 : mw_X g t n 0 n 0 := by
  refine ⟨fun p e _ _ _ ⟨s, c, v, d, _⟩ hC => ⟨⟨s, c, v, d⟩, hC⟩, fun _ _ _ _ _ _ _ _ _ _ => Nat.zero_le _, fun r f u h => h, Nat.le_refl _⟩
theorem mw_xBr {i e s c need : Nat} {v : Int32} (h18 : t i = 18) (h19 : t e = 19) (d : mf_Der g t (i + 1) e s c v) (hX : mw_X g t n i (e + 1) need) (hn : need ≤ 5) : mw_X g t n (i + 1) e 0 := by
  obtain ⟨U, D, T, L⟩ := hX
  refine ⟨fun p e' hp he hP ⟨s', c', v', d', _⟩ hC => ?_, fun _ _ _ _ _ _ _ _ _ _ => Nat.zero_le _, fun r f u h => T r f u (mf_s2 h18 h19 h), by omega⟩
  have hpe := hP.1
  have t1 : mw_t p e' t i = 18 := (mw_t0 (by omega)).trans h18
  have t2 : mw_t p e' t (e - 2) = 19 := (mw_t2 he hpe).trans h19
  have ee : e + 1 - 2 = e - 2 + 1 := by omega
  refine U p e' (by omega) (by omega) hP ⟨5, 1, v', ?_, hn⟩ ?_
  · rw [ee]
    exact mf_dBr t1 t2 d'
  · intro r f u h
    rw [ee]
    exact mf_s2 t1 t2 (hC r f u (mf_sInvB h18 h19 d h))
theorem mw_xPre {i j s c need : Nat} {v : Int32} (ho : mf_op t i) (hk : mf_kin g t i = 3) (d : mf_Der g t (i + 1) j s c v) (hs : mf_lev g t i ≤ s) (hX : mw_X g t n i j need) (hn : need ≤ mf_lev g t i) : mw_X g t n (i + 1) j (mf_lev g t i) := by
  obtain ⟨U, D, T, L⟩ := hX
  have hO := mf_oPre ho hk d hs
  refine ⟨fun p e hp he hP ⟨s', c', v', d', hs'⟩ hC => ?_, fun p e hp he hP hS s' c' v' d' => ?_, fun r f u h => T r f u (mf_s4 hO h), L⟩
  · have hpe := hP.1
    have t1 : mw_t p e t i = t i := mw_t0 (by omega)
    have hO' := mf_oPre (g := g) (mf_cgo t1 ho) (by rw [mf_cgk t1]; exact hk) d' (by rw [mf_cgl t1]; exact hs')
    refine U p e (by omega) he hP ⟨_, _, _, mf_dO hO', by rw [mf_cgl t1]; exact hn⟩ ?_
    intro r f u h
    rcases mf_sInvO hO h with ⟨er, ef, eu⟩ | h | h
    · rw [er, ef, eu, mw_w0 (x := i) (by omega) hpe, mw_w2 (x := j) he hpe]
      exact mf_s1 hO'
    · exact absurd h mf_sNo
    · exact mf_s4 hO' (hC r f u h)
  · have hpe := hP.1
    have t1 : mw_t p e t i = t i := mw_t0 (by omega)
    have z := hS.2 i i j (T i i j (mf_s1 hO))
    rw [mw_w0 (x := i) (by omega) hpe, mw_w2 (x := j) he hpe] at z
    obtain ⟨_, _, _, _, _, ⟨w, _, ⟨_, _, s2, c2, w2, d2, hs2, _⟩ | ⟨k4, _⟩ | ⟨k4, _⟩⟩, _⟩ := mf_sFact z
    · rw [mf_cgl t1] at hs2
      rw [(mf_uni d' d2).1]
      exact hs2
    · rw [mf_cgk t1] at k4
      omega
    · rw [mf_cgk t1] at k4
      omega
theorem mw_xPos {i r0 s c need : Nat} {v : Int32} (ho : mf_op t r0) (hk : mf_kin g t r0 = 4) (d : mf_Der g t i r0 s c v) (hs : mf_lev g t r0 ≤ s) (hX : mw_X g t n i (r0 + 1) need) (hn : need ≤ mf_lev g t r0) : mw_X g t n i r0 (mf_lev g t r0) := by
  obtain ⟨U, D, T, L⟩ := hX
  have hO := mf_oPos ho hk d hs
  refine ⟨fun p e hp he hP ⟨s', c', v', d', hs'⟩ hC => ?_, fun p e hp he hP hS s' c' v' d' => ?_, fun r f u h => T r f u (mf_s3 hO h), by omega⟩
  · have hpe := hP.1
    have t1 : mw_t p e t (r0 - 2) = t r0 := mw_t2 he hpe
    have ee : r0 + 1 - 2 = r0 - 2 + 1 := by omega
    have hO' := mf_oPos (g := g) (mf_cgo t1 ho) (by rw [mf_cgk t1]; exact hk) d' (by rw [mf_cgl t1]; exact hs')
    refine U p e hp (by omega) hP ⟨_, _, _, by rw [ee]; exact mf_dO hO', by rw [mf_cgl t1]; exact hn⟩ ?_
    intro r f u h
    rw [ee]
    rcases mf_sInvO hO h with ⟨rfl, rfl, rfl⟩ | h | h
    · rw [mw_w2 (x := r) he hpe, mw_w0 (x := f) hp hpe, mw_w2 (x := r + 1) (by omega) hpe, ee]
      exact mf_s1 hO'
    · exact mf_s3 hO' (hC r f u h)
    · exact absurd h mf_sNo
  · have hpe := hP.1
    have t1 : mw_t p e t (r0 - 2) = t r0 := mw_t2 he hpe
    have z := hS.2 r0 i (r0 + 1) (T r0 i (r0 + 1) (mf_s1 hO))
    rw [mw_w2 (x := r0) he hpe, mw_w0 (x := i) hp hpe, mw_w2 (x := r0 + 1) (by omega) hpe] at z
    obtain ⟨_, _, _, _, _, ⟨w, _, ⟨k4, _⟩ | ⟨_, _, s2, c2, w2, d2, hs2, _⟩ | ⟨k4, _⟩⟩, _⟩ := mf_sFact z
    · rw [mf_cgk t1] at k4
      omega
    · rw [mf_cgl t1] at hs2
      rw [(mf_uni d' d2).1]
      exact hs2
    · rw [mf_cgk t1] at k4
      omega
theorem mw_xBinL {i r0 j s c s2 c2 need : Nat} {v v2 : Int32} (ho : mf_op t r0) (hk : mf_kin g t r0 < 3) (d : mf_Der g t i r0 s c v) (d2 : mf_Der g t (r0 + 1) j s2 c2 v2) (hs : mf_nl g t r0 ≤ s) (hs2 : mf_nr g t r0 ≤ s2) (hX : mw_X g t n i j need) (hn : need ≤ mf_lev g t r0) : mw_X g t n i r0 (mf_nl g t r0) := by
  obtain ⟨U, D, T, L⟩ := hX
  have hO := mf_oBin ho hk d d2 hs hs2
  have l2 := mf_lt d2
  refine ⟨fun p e hp he hP ⟨s', c', v', d', hs'⟩ hC => ?_, fun p e hp he hP hS s' c' v' d' => ?_, fun r f u h => T r f u (mf_s3 hO h), by omega⟩
  · have hpe := hP.1
    have t1 : mw_t p e t (r0 - 2) = t r0 := mw_t2 he hpe
    have ee : r0 + 1 - 2 = r0 - 2 + 1 := by omega
    have sh : ∀ x, r0 + 1 ≤ x → x < j → mw_t p e t (x - 2) = t x := fun x h1 h2 => mw_t2 (by omega) hpe
    obtain ⟨c3, d3⟩ := mf_shift d2 2 (by omega) sh
    rw [ee] at d3
    have hO' := mf_oBin (g := g) (mf_cgo t1 ho) (by rw [mf_cgk t1]; exact hk) d' d3 (by rw [mf_cgnl t1]; exact hs') (by rw [mf_cgnr t1]; exact hs2)
    refine U p e hp (by omega) hP ⟨_, _, _, mf_dO hO', by rw [mf_cgl t1]; exact hn⟩ ?_
    intro r f u h
    rcases mf_sInvO hO h with ⟨rfl, rfl, rfl⟩ | h | h
    · rw [mw_w2 (x := r) he hpe, mw_w0 (x := f) hp hpe, mw_w2 (x := u) (by omega) hpe]
      exact mf_s1 hO'
    · exact mf_s3 hO' (hC r f u h)
    · have hf := mf_sFact h
      have z := mf_shiftS h 2 (by omega) sh
      rw [mw_w2 (x := r) (by omega) hpe, mw_w2 (x := f) (by omega) hpe, mw_w2 (x := u) (by omega) hpe]
      rw [ee] at z
      exact mf_s4 hO' z
  · have hpe := hP.1
    have t1 : mw_t p e t (r0 - 2) = t r0 := mw_t2 he hpe
    have z := hS.2 r0 i j (T r0 i j (mf_s1 hO))
    rw [mw_w2 (x := r0) he hpe, mw_w0 (x := i) hp hpe, mw_w2 (x := j) (by omega) hpe] at z
    obtain ⟨_, _, _, _, _, ⟨w, _, ⟨k4, _⟩ | ⟨k4, _⟩ | ⟨_, s3, c3, w3, s4, c4, w4, d3, d4, hs3, hs4, _⟩⟩, _⟩ := mf_sFact z
    · rw [mf_cgk t1] at k4
      omega
    · rw [mf_cgk t1] at k4
      omega
    · rw [mf_cgnl t1] at hs3
      rw [(mf_uni d' d3).1]
      exact hs3
theorem mw_xBinR {i r0 j s c s2 c2 need : Nat} {v v2 : Int32} (ho : mf_op t r0) (hk : mf_kin g t r0 < 3) (d : mf_Der g t i r0 s c v) (d2 : mf_Der g t (r0 + 1) j s2 c2 v2) (hs : mf_nl g t r0 ≤ s) (hs2 : mf_nr g t r0 ≤ s2) (hX : mw_X g t n i j need) (hn : need ≤ mf_lev g t r0) : mw_X g t n (r0 + 1) j (mf_nr g t r0) := by
  obtain ⟨U, D, T, L⟩ := hX
  have hO := mf_oBin ho hk d d2 hs hs2
  have l1 := mf_lt d
  have l2 := mf_lt d2
  refine ⟨fun p e hp he hP ⟨s', c', v', d', hs'⟩ hC => ?_, fun p e hp he hP hS s' c' v' d' => ?_, fun r f u h => T r f u (mf_s4 hO h), L⟩
  · have hpe := hP.1
    have t1 : mw_t p e t r0 = t r0 := mw_t0 (by omega)
    have sh : ∀ x, i ≤ x → x < r0 → mw_t p e t (x - 0) = t x := fun x h1 h2 => mw_t0 (by omega)
    obtain ⟨c3, d3⟩ := mf_shift d 0 (Nat.zero_le _) sh
    have hO' := mf_oBin (g := g) (mf_cgo t1 ho) (by rw [mf_cgk t1]; exact hk) d3 d' (by rw [mf_cgnl t1]; exact hs) (by rw [mf_cgnr t1]; exact hs')
    refine U p e (by omega) he hP ⟨_, _, _, mf_dO hO', by rw [mf_cgl t1]; exact hn⟩ ?_
    intro r f u h
    rcases mf_sInvO hO h with ⟨rfl, rfl, rfl⟩ | h | h
    · rw [mw_w0 (x := r) (by omega) hpe, mw_w0 (x := f) (by omega) hpe, mw_w2 (x := u) he hpe]
      exact mf_s1 hO'
    · have hf := mf_sFact h
      have z := mf_shiftS h 0 (Nat.zero_le _) sh
      rw [mw_w0 (x := r) (by omega) hpe, mw_w0 (x := f) (by omega) hpe, mw_w0 (x := u) (by omega) hpe]
      exact mf_s3 hO' z
    · exact mf_s4 hO' (hC r f u h)
  · have hpe := hP.1
    have t1 : mw_t p e t r0 = t r0 := mw_t0 (by omega)
    have z := hS.2 r0 i j (T r0 i j (mf_s1 hO))
    rw [mw_w0 (x := r0) (by omega) hpe, mw_w0 (x := i) (by omega) hpe, mw_w2 (x := j) he hpe] at z
    obtain ⟨_, _, _, _, _, ⟨w, _, ⟨k4, _⟩ | ⟨k4, _⟩ | ⟨_, s3, c3, w3, s4, c4, w4, d3, d4, hs3, hs4, _⟩⟩, _⟩ := mf_sFact z
    · rw [mf_cgk t1] at k4
      omega
    · rw [mf_cgk t1] at k4
      omega
    · rw [mf_cgnr t1] at hs4
      rw [(mf_uni d' d4).1]
      exact hs4
/-- a pair can go if and only if what is in it is strong enough -/
theorem mw_pBr {i e s c need : Nat} {v : Int32} (h18 : t i = 18) (h19 : t e = 19) (d : mf_Der g t (i + 1) e s c v) (hX : mw_X g t n i (e + 1) need) : mw_P g t n i ↔ need ≤ s := by
  obtain ⟨U, D, T, L⟩ := hX
  have hP := mf_ptBr h18 h19 d
  have hpe := hP.1
  have l := mf_lt d
  have sh : ∀ x, i + 1 ≤ x → x < e → mw_t i e t (x - 1) = t x := fun x h1 h2 => mw_t1 (by omega) h2
  obtain ⟨c', d'⟩ := mf_shift d 1 (by omega) sh
  rw [Nat.add_sub_cancel] at d'
  have ee : e + 1 - 2 = e - 1 := by omega
  constructor
  · rintro ⟨_, e', he', hP', hS⟩
    have := mf_ptUni hP' hP
    subst this
    refine D i e' (Nat.le_refl _) (by omega) hP hS s c' v ?_
    rw [ee]
    exact d'
  · intro hn
    refine ⟨h18, e, by omega, hP, U i e (Nat.le_refl _) (by omega) hP ⟨s, c', v, by rw [ee]; exact d', hn⟩ ?_⟩
    intro r f u h
    have h := mf_sInvB h18 h19 d h
    have hf := mf_sFact h
    have z := mf_shiftS h 1 (by omega) sh
    rw [mw_w1 (x := r) (by omega) (by omega), mw_w1 (x := f) (by omega) (by omega), mw_w1 (x := u) (by omega) (by omega), ee]
    rw [Nat.add_sub_cancel] at z
    exact z
end
/- the component's sum -/
def mx_ba (g : mf_CF) (t : Nat → Nat) (nd : Nat → mf_ND) (m : Nat) : Nat := if mf_fi (nd m) = 0 then 5 else mf_lev g t (mf_at (nd m))
def mx_spq (q b need : Nat) : Nat := if q = 1 then (if need ≤ b then 1 else 0) else q
def mx_sa (g : mf_CF) (t : Nat → Nat) (nd : Nat → mf_ND) (m need : Nat) : Nat := mx_spq (mf_pa (nd m)) (mx_ba g t nd m) need
def mx_c1 (g : mf_CF) (t : Nat → Nat) (nd : Nat → mf_ND) (x : Nat) : Nat := if mf_fi (nd x) = 0 then 0 else mx_sa g t nd (mf_fi (nd x) - 1) (mf_nl g t (mf_at (nd x)))
def mx_c2 (g : mf_CF) (t : Nat → Nat) (nd : Nat → mf_ND) (x : Nat) : Nat := if mf_se (nd x) = 0 then 0 else mx_sa g t nd (mf_se (nd x) - 1) (mf_nr g t (mf_at (nd x)))
def mx_T (g : mf_CF) (t : Nat → Nat) (nd : Nat → mf_ND) : Nat → Nat
  | 0 => 0
  | x + 1 => mx_T g t nd x + (mx_c1 g t nd x + mx_c2 g t nd x)
noncomputable def mw_C (P : Nat → Prop) : Nat → Nat
  | 0 => 0
  | x + 1 => mw_C P x + mr_i (P x)
section
variable {g : mf_CF} {t : Nat → Nat} {n : Nat} {nd : Nat → mf_ND}
theorem mx_baEq {lo m i j s : Nat} {v : Int32} (d : mf_R g t nd lo m 0 i j s v) : s = mx_ba g t nd m := by
  unfold mx_ba
  rcases mf_ko d rfl with ⟨h, rfl, rfl, h1, h2, h3, rfl⟩ | ⟨m, q, s1, v1, rfl, ho, hk, h1, h2, h3, d1, hh, hs, rfl⟩ | ⟨m, q, r, s1, v1, rfl, rfl, ho, hk, h1, h2, h3, d1, hh, hs, rfl⟩ | ⟨a, m, q, q', r, s1, v1, s2, v2, rfl, ho, hk, h1, h2, h3, d1, hh, d2, hh2, hs, hs2, rfl⟩
  · rw [if_pos h2]
  · rw [if_neg (by omega), h1]
  · rw [if_neg (by omega), h1]
  · rw [if_neg (by omega), h1]
theorem mw_Cs {P : Nat → Prop} {x : Nat} (h : ¬ P x) : mw_C P (x + 1) = mw_C P x := by
  show mw_C P x + mr_i (P x) = _
  rw [mr_i0 h]
  rfl
theorem mw_count (hg : mf_ok g) {lo m q i j s : Nat} {v : Int32} (d : mf_R g t nd lo m q i j s v) : ∀ need, need ≤ s → mw_X g t n i j need →
    mw_C (mw_P g t n) j + mx_T g t nd lo = mw_C (mw_P g t n) i + mx_spq q (mx_ba g t nd m) need + mx_T g t nd (m + 1) := by
  refine mf_rInd (Q := fun lo m q i j s v => ∀ need, need ≤ s → mw_X g t n i j need →
    mw_C (mw_P g t n) j + mx_T g t nd lo = mw_C (mw_P g t n) i + mx_spq q (mx_ba g t nd m) need + mx_T g t nd (m + 1)) ?_ ?_ ?_ ?_ ?_ d
  · intro m i h h1 h2 h3 need _ _
    have e1 : mx_spq 0 (mx_ba g t nd m) need = 0 := if_neg (by omega)
    have e2 : mx_T g t nd (m + 1) = mx_T g t nd m + (mx_c1 g t nd m + mx_c2 g t nd m) := rfl
    have e3 : mx_c1 g t nd m = 0 := if_pos h2
    have e4 : mx_c2 g t nd m = 0 := if_pos h3
    have e5 := mw_Cs (P := mw_P g t n) (x := i) (fun z => by have := z.1; omega)
    omega
  · intro lo m q i e s v h h' d ih need hn hX
    obtain ⟨c, dd⟩ := mf_rDer d
    have z := ih 0 (Nat.zero_le _) (mw_xBr h h' dd hX hn)
    have hp := mw_pBr h h' dd hX
    have e5 := mw_Cs (P := mw_P g t n) (x := e) (fun z => by have := z.1; omega)
    have e6 : mw_C (mw_P g t n) (i + 1) = mw_C (mw_P g t n) i + mr_i (mw_P g t n i) := rfl
    obtain ⟨_, _, s0, hR0, hq0, hq1⟩ := mf_peel d
    have hb := mx_baEq hR0
    have key : mr_i (mw_P g t n i) + mx_spq q (mx_ba g t nd m) 0 = mx_spq (q + 1) (mx_ba g t nd m) need := by
      unfold mx_spq
      rcases (by omega : q = 0 ∨ q = 1 ∨ 2 ≤ q) with rfl | rfl | hq
      · have es := hq0 rfl
        rw [if_neg (by omega), if_pos rfl]
        by_cases hz : need ≤ mx_ba g t nd m
        · rw [mr_i1 (hp.mpr (by omega)), if_pos hz]
        · rw [mr_i0 (fun y => hz (by have := hp.mp y; omega)), if_neg hz]
      · have es := hq1 (by omega)
        rw [if_pos rfl, if_pos (Nat.zero_le _), if_neg (by omega), mr_i1 (hp.mpr (by omega))]
      · have es := hq1 (by omega)
        rw [if_neg (by omega), if_neg (by omega), mr_i1 (hp.mpr (by omega))]
        omega
    omega
  · intro lo m q i j s v h hk h1 h2 h3 d ih hh hs need hn hX
    obtain ⟨c, dd⟩ := mf_rDer d
    have z := ih _ hs (mw_xPre h hk dd hs hX hn)
    have e1 : mx_spq 0 (mx_ba g t nd (m + 1)) need = 0 := if_neg (by omega)
    have e2 : mx_T g t nd (m + 1 + 1) = mx_T g t nd (m + 1) + (mx_c1 g t nd (m + 1) + mx_c2 g t nd (m + 1)) := rfl
    have e3 : mx_c1 g t nd (m + 1) = mx_spq q (mx_ba g t nd m) (mf_lev g t i) := by
      unfold mx_c1 mx_sa
      rw [if_neg (by omega), h2, Nat.add_sub_cancel, hh.1, h1]
      unfold mf_nl
      rw [if_neg (by omega)]
    have e4 : mx_c2 g t nd (m + 1) = 0 := if_pos h3
    have e5 := mw_Cs (P := mw_P g t n) (x := i) (fun z => by have := z.1; have := h.2; omega)
    omega
  · intro lo m q i r s v h hk h1 h2 h3 d ih hh hs need hn hX
    obtain ⟨c, dd⟩ := mf_rDer d
    have z := ih _ hs (mw_xPos h hk dd hs hX hn)
    have e1 : mx_spq 0 (mx_ba g t nd (m + 1)) need = 0 := if_neg (by omega)
    have e2 : mx_T g t nd (m + 1 + 1) = mx_T g t nd (m + 1) + (mx_c1 g t nd (m + 1) + mx_c2 g t nd (m + 1)) := rfl
    have e3 : mx_c1 g t nd (m + 1) = mx_spq q (mx_ba g t nd m) (mf_lev g t r) := by
      unfold mx_c1 mx_sa
      rw [if_neg (by omega), h2, Nat.add_sub_cancel, hh.1, h1]
      unfold mf_nl
      rw [if_neg (by omega)]
    have e4 : mx_c2 g t nd (m + 1) = 0 := if_pos h3
    have e5 := mw_Cs (P := mw_P g t n) (x := r) (fun z => by have := z.1; have := h.2; omega)
    omega
  · intro lo a m q q' i r j s v s' v' h hk h1 h2 h3 d ih hh d' ih' hh' hs hs' need hn hX
    obtain ⟨c, dd⟩ := mf_rDer d
    obtain ⟨c', dd'⟩ := mf_rDer d'
    have z := ih _ hs (mw_xBinL h hk dd dd' hs hs' hX hn)
    have z' := ih' _ hs' (mw_xBinR h hk dd dd' hs hs' hX hn)
    have e1 : mx_spq 0 (mx_ba g t nd (m + 1)) need = 0 := if_neg (by omega)
    have e2 : mx_T g t nd (m + 1 + 1) = mx_T g t nd (m + 1) + (mx_c1 g t nd (m + 1) + mx_c2 g t nd (m + 1)) := rfl
    have e3 : mx_c1 g t nd (m + 1) = mx_spq q (mx_ba g t nd a) (mf_nl g t r) := by
      unfold mx_c1 mx_sa
      rw [if_neg (by omega), h2, Nat.add_sub_cancel, hh.1, h1]
    have e4 : mx_c2 g t nd (m + 1) = mx_spq q' (mx_ba g t nd m) (mf_nr g t r) := by
      unfold mx_c2 mx_sa
      rw [if_neg (by omega), h3, Nat.add_sub_cancel, hh'.1, h1]
    have e5 := mw_Cs (P := mw_P g t n) (x := r) (fun z => by have := z.1; have := h.2; omega)
    omega
end
end
section
/- the component's spare -/
def mx_LP (t : Nat → Nat) (nd : Nat → mf_ND) (n x : Nat) : Prop := mf_fi (nd x) ≤ x ∧ mf_se (nd x) ≤ x ∧ (mf_fi (nd x) ≠ 0 → mf_op t (mf_at (nd x)) ∧ mf_at (nd x) < n) ∧ (mf_fi (nd x) = 0 → mf_se (nd x) = 0)
theorem mf_rAll {g : mf_CF} {t : Nat → Nat} {nd : Nat → mf_ND} {lo m q i j s : Nat} {v : Int32} (d : mf_R g t nd lo m q i j s v) : ∀ x, lo ≤ x → x ≤ m → mx_LP t nd j x ∧ (x < m → mf_pa (nd x) < j) := by
  refine mf_rInd (Q := fun lo m q i j s v => ∀ x, lo ≤ x → x ≤ m → mx_LP t nd j x ∧ (x < m → mf_pa (nd x) < j)) ?_ ?_ ?_ ?_ ?_ d
  · intro m i h h1 h2 h3 x hx hx'
    have e : x = m := by omega
    subst e
    exact ⟨⟨by omega, by omega, fun z => absurd h2 z, fun _ => h3⟩, fun z => by omega⟩
  · intro lo m q i e s v h h' d ih x hx hx'
    obtain ⟨⟨a1, a2, a3, a4⟩, a5⟩ := ih x hx hx'
    exact ⟨⟨a1, a2, fun z => ⟨(a3 z).1, by have := (a3 z).2; omega⟩, a4⟩, fun z => by have := a5 z; omega⟩
  · intro lo m q i j s v h hk h1 h2 h3 d ih hh hs x hx hx'
    have l := (mf_rCnt d).2
    rcases (by omega : x = m + 1 ∨ x ≤ m) with rfl | hx'
    · exact ⟨⟨by omega, by omega, fun _ => by rw [h1]; exact ⟨h, by omega⟩, fun _ => h3⟩, fun z => by omega⟩
    · obtain ⟨a1, a5⟩ := ih x hx hx'
      refine ⟨a1, fun _ => ?_⟩
      rcases (by omega : x = m ∨ x < m) with rfl | z
      · have := hh.1
        have := (mf_peel d).2.1
        omega
      · exact a5 z
  · intro lo m q i r s v h hk h1 h2 h3 d ih hh hs x hx hx'
    have l := (mf_rCnt d).2
    rcases (by omega : x = m + 1 ∨ x ≤ m) with rfl | hx'
    · exact ⟨⟨by omega, by omega, fun _ => by rw [h1]; exact ⟨h, by omega⟩, fun _ => h3⟩, fun z => by omega⟩
    · obtain ⟨⟨a1, a2, a3, a4⟩, a5⟩ := ih x hx hx'
      refine ⟨⟨a1, a2, fun z => ⟨(a3 z).1, by have := (a3 z).2; omega⟩, a4⟩, fun _ => ?_⟩
      rcases (by omega : x = m ∨ x < m) with rfl | z
      · have := hh.1
        have := (mf_peel d).2.1
        omega
      · have := a5 z; omega
  · intro lo a m q q' i r j s v s' v' h hk h1 h2 h3 d ih hh d' ih' hh' hs hs' x hx hx'
    have l := (mf_rCnt d).2
    have l' := (mf_rCnt d').2
    have lo' := mf_rLo d'
    rcases (by omega : x = m + 1 ∨ (a + 1 ≤ x ∧ x ≤ m) ∨ x ≤ a) with rfl | ⟨hx1, hx2⟩ | hx1
    · exact ⟨⟨by omega, by omega, fun _ => by rw [h1]; exact ⟨h, by omega⟩, fun z => by omega⟩, fun z => by omega⟩
    · obtain ⟨a1, a5⟩ := ih' x hx1 hx2
      refine ⟨a1, fun _ => ?_⟩
      rcases (by omega : x = m ∨ x < m) with rfl | z
      · have := hh'.1
        have := (mf_peel d').2.1
        omega
      · exact a5 z
    · obtain ⟨⟨a1, a2, a3, a4⟩, a5⟩ := ih x hx hx1
      refine ⟨⟨a1, a2, fun z => ⟨(a3 z).1, by have := (a3 z).2; omega⟩, a4⟩, fun _ => ?_⟩
      rcases (by omega : x = a ∨ x < a) with rfl | z
      · have := hh.1
        have := (mf_peel d).2.1
        omega
      · have := a5 z; omega
section
variable {x_count x_nodes x_operands x_waiting x_fine x_top : Int32} {x_kinds x_levels x_meanings x_text x_at x_first x_second x_strong x_values x_pairs x_from x_to x_operand x_open : Nat → Int32} {g : mf_CF} {t : Nat → Nat} {n N : Nat} {nd : Nat → mf_ND}
theorem mx_spareAt {post : Int32 → Prop} {m need : Nat} (hU : mx_U g t n (x_count, x_nodes, x_operands, x_waiting, x_fine, x_top, x_kinds, x_levels, x_meanings, x_text, x_at, x_first, x_second, x_strong, x_values, x_pairs, x_from, x_to, x_operand, x_open)) (hg : mf_ok g) (hn : n ≤ 16) (hN : mx_N nd N x_at x_first x_second x_strong x_values x_pairs x_from x_to) (hN16 : N ≤ 16) (hm : m < N) (hL : mx_LP t nd n m) (hp : mf_pa (nd m) < 16) (hneed : need ≤ 5)
    (k : post (nI (mx_sa g t nd m need))) : wpX_spareAt post (x_count, x_nodes, x_operands, x_waiting, x_fine, x_top, x_kinds, x_levels, x_meanings, x_text, x_at, x_first, x_second, x_strong, x_values, x_pairs, x_from, x_to, x_operand, x_open) (nI m) (nI need) := by
  obtain ⟨n1, n2, n3, n4, n5, n6, n7, n8, b1, b2, b3⟩ := hN m hm
  obtain ⟨l1, l2, l3, l4⟩ := hL
  have hc : (nI m).toNatClampNeg = m := nI_clamp (by omega)
  have hv : vp_in (nI m) 16 := vp_in_nI (by omega) (by omega)
  unfold mx_sa mx_spq at k
  unfold wpX_spareAt
  dsimp only
  rw [hc, n6]
  refine ⟨hv, pk_eq (mf_pa (nd m)) 1 (fun h => ?_) (fun h => ⟨hv, ?_⟩)⟩
  · rw [if_pos h] at k
    unfold wpX_bare
    dsimp only
    rw [hc, n2, n1]
    cases hf : mf_fi (nd m) with
    | zero =>
      have eb : mx_ba g t nd m = 5 := if_pos hf
      rw [eb, if_pos hneed] at k
      exact ⟨hv, br_f (by decide) (pk_lt 5 need (fun z => by omega) (fun _ => k))⟩
    | succ f =>
      have eb : mx_ba g t nd m = mf_lev g t (mf_at (nd m)) := if_neg (by omega)
      rw [eb] at k
      have ho := l3 (by omega)
      have l4 := mx_lev4 (t := t) hg (mf_at (nd m))
      refine ⟨hv, br_t (nI_pos' (by omega)) ⟨hv, mx_levelAt hU hn ho.2 ho.1 (pk_lt (mf_lev g t (mf_at (nd m))) need (fun z => ?_) (fun z => ?_))⟩⟩
      · rw [if_neg (by omega)] at k
        exact k
      · rw [if_pos z] at k
        exact k
  · rw [if_neg h] at k
    exact k
theorem mx_spare24 {post : Int32 → SX → Prop} {m : Nat} (hU : mx_U g t n (x_count, x_nodes, x_operands, x_waiting, x_fine, x_top, x_kinds, x_levels, x_meanings, x_text, x_at, x_first, x_second, x_strong, x_values, x_pairs, x_from, x_to, x_operand, x_open)) (hg : mf_ok g) (hn : n ≤ 16) (hN : mx_N nd (m + 1) x_at x_first x_second x_strong x_values x_pairs x_from x_to) (hN16 : m < 16) (en : x_nodes = nI (m + 1)) (hL : ∀ x, x ≤ m → mx_LP t nd n x) (hp : ∀ x, x < m → mf_pa (nd x) < 16) :
    ∀ (k x S : Nat), x + k = m + 1 → (∀ Tt, Tt + mx_T g t nd x = S + mx_T g t nd (m + 1) → post (nI Tt) (x_count, x_nodes, x_operands, x_waiting, x_fine, x_top, x_kinds, x_levels, x_meanings, x_text, x_at, x_first, x_second, x_strong, x_values, x_pairs, x_from, x_to, x_operand, x_open)) → wX_spare_24 post x_count x_nodes x_operands x_waiting x_fine x_top x_kinds x_levels x_meanings x_text x_at x_first x_second x_strong x_values x_pairs x_from x_to x_operand x_open (k + 1) (nI S) (nI x) := by
  subst en
  intro k
  induction k with
  | zero =>
    intro x S h K
    have e : x = m + 1 := by omega
    subst e
    exact br_t (nI_le (by omega) (by omega)) (K S rfl)
  | succ k ih =>
    intro x S h K
    obtain ⟨n1, n2, n3, n4, n5, n6, n7, n8, b1, b2, b3⟩ := hN x (by omega)
    obtain ⟨l1, l2, l3, l4⟩ := hL x (by omega)
    have hc : (nI x).toNatClampNeg = x := nI_clamp (by omega)
    have hv : vp_in (nI x) 16 := vp_in_nI (by omega) (by omega)
    have eT : mx_T g t nd (x + 1) = mx_T g t nd x + (mx_c1 g t nd x + mx_c2 g t nd x) := rfl
    have S107 : wX_spare_107 post (wX_spare_24 post x_count (nI (m + 1)) x_operands x_waiting x_fine x_top x_kinds x_levels x_meanings x_text x_at x_first x_second x_strong x_values x_pairs x_from x_to x_operand x_open (k + 1)) (nI (S + mx_c1 g t nd x)) (nI x) x_count (nI (m + 1)) x_operands x_waiting x_fine x_top x_kinds x_levels x_meanings x_text x_at x_first x_second x_strong x_values x_pairs x_from x_to x_operand x_open := by
      have NEXT : wX_spare_24 post x_count (nI (m + 1)) x_operands x_waiting x_fine x_top x_kinds x_levels x_meanings x_text x_at x_first x_second x_strong x_values x_pairs x_from x_to x_operand x_open (k + 1) (nI (S + mx_c1 g t nd x + mx_c2 g t nd x)) (nI (x + 1)) :=
        ih (x + 1) _ (by omega) (fun Tt z => K Tt (by omega))
      unfold wX_spare_107
      rw [hc, n3, n1]
      refine ⟨hv, ?_⟩
      cases hse : mf_se (nd x) with
      | zero =>
        have e2 : mx_c2 g t nd x = 0 := if_pos hse
        rw [e2, Nat.add_zero] at NEXT
        exact br_t (by decide) (nm_r (nI_1 x) NEXT)
      | succ b =>
        have hf0 : mf_fi (nd x) ≠ 0 := fun z => by have := l4 z; omega
        have ho := l3 hf0
        have e2 : mx_c2 g t nd x = mx_sa g t nd b (mf_nr g t (mf_at (nd x))) := by
          unfold mx_c2
          rw [if_neg (by omega), hse, Nat.add_sub_cancel]
        rw [e2] at NEXT
        refine br_f (nI_pos (n := b) (by omega)) ⟨hv, mx_needRight hU hg hn ho.2 ho.1 ⟨hv, mx_spareAt hU hg hn hN (by omega) (by omega) (hL b (by omega)) (hp b (by omega)) (mx_nr5 hg _) (nm_r (nI_add _ _) (nm_r (nI_1 x) NEXT))⟩⟩
    rw [wX_spare_24]
    dsimp only
    rw [hc, n2, n1]
    refine br_f (nI_ge (by omega) (by omega)) ⟨hv, ?_⟩
    cases hf : mf_fi (nd x) with
    | zero =>
      have e1 : mx_c1 g t nd x = 0 := if_pos hf
      rw [e1, Nat.add_zero] at S107
      exact br_t (by decide) S107
    | succ a =>
      have ho := l3 (by omega)
      have e1 : mx_c1 g t nd x = mx_sa g t nd a (mf_nl g t (mf_at (nd x))) := by
        unfold mx_c1
        rw [if_neg (by omega), hf, Nat.add_sub_cancel]
      rw [e1] at S107
      have k4 := mx_kin4 (t := t) hg (mf_at (nd x))
      have S90 : wX_spare_90 post (wX_spare_24 post x_count (nI (m + 1)) x_operands x_waiting x_fine x_top x_kinds x_levels x_meanings x_text x_at x_first x_second x_strong x_values x_pairs x_from x_to x_operand x_open (k + 1)) (nI S) (nI x) (nI (mf_nl g t (mf_at (nd x)))) x_count (nI (m + 1)) x_operands x_waiting x_fine x_top x_kinds x_levels x_meanings x_text x_at x_first x_second x_strong x_values x_pairs x_from x_to x_operand x_open := by
        unfold wX_spare_90
        rw [hc, n2, hf]
        exact ⟨hv, mx_spareAt hU hg hn hN (by omega) (by omega) (hL a (by omega)) (hp a (by omega)) (mx_nl5 hg _) (nm_r (nI_add _ _) S107)⟩
      refine br_f (nI_pos (n := a) (by omega)) ⟨hv, mx_kindAt hU hg hn ho.2 ho.1 (pk_lt (mf_kin g t (mf_at (nd x))) 3 (fun z => ?_) (fun z => ?_))⟩
      · unfold wX_spare_60
        rw [hc, n1]
        exact br_t rfl ⟨hv, mx_needLeft hU hg hn ho.2 ho.1 S90⟩
      · unfold wX_spare_60
        rw [hc, n1]
        refine br_f (by decide) ⟨hv, mx_levelAt hU hn ho.2 ho.1 ?_⟩
        have e : mf_nl g t (mf_at (nd x)) = mf_lev g t (mf_at (nd x)) := by
          unfold mf_nl
          rw [if_neg (by omega)]
        rw [e] at S90
        exact S90
end
end
section
/- the reference's findStretches -/
def my_FS (g : mf_CF) (t : Nat → Nat) (i j : Nat) (F U : Nat → Int32) : Prop := ∀ r f u, mf_S g t i j r f u → F r = nI f ∧ U r = nI u
section
variable {f_size f_many : Int32} {a_kinds a_levels a_meanings a_text a_read a_strengths a_values a_operators a_froms a_tos a_keptFroms a_keptTos a_open : Nat → Int32} {g : mf_CF} {t : Nat → Nat} {n : Nat} {post : SY → Prop} {F U O : Nat → Int32} {i j m w : Nat}
theorem my_fdiv (hi : i ≤ 16) (hj : j ≤ 16) : nI (17 * i + j) / 17 = nI i := by
  have := pk_div (a := 17 * i + j) (d := 17) (by omega) (by omega) (by omega)
  rw [show (17 * i + j) / 17 = i from by omega] at this
  exact this
theorem my_frem (hi : i ≤ 16) (hj : j ≤ 16) : nI (17 * i + j) - nI i * 17 = nI j := by
  rw [show (17 : Int32) = nI 17 from rfl, pk_mul, pk_sub (by omega), show 17 * i + j - i * 17 = j from by omega]
theorem my_fN (hw : w < 40) (hi : i ≤ 16) (hj : j ≤ 16) (hO : O w = nI (17 * i + j)) (hx : a_operators (17 * i + j) = -1)
    (k : wY_findStretches_12 post f_size f_many m (nI w) a_kinds a_levels a_meanings a_text a_read a_strengths a_values a_operators F U a_keptFroms a_keptTos O) :
    wY_findStretches_12 post f_size f_many (m + 1) (nI (w + 1)) a_kinds a_levels a_meanings a_text a_read a_strengths a_values a_operators F U a_keptFroms a_keptTos O := by
  have hv : vp_in (nI w) 40 := vp_in_nI hw (by omega)
  have hc : (nI w).toNatClampNeg = w := nI_clamp (by omega)
  rw [wY_findStretches_12]
  dsimp only
  refine br_f (nI_nle (by omega) (by omega)) (nm_r (pk_m1 w) ?_)
  rw [hc, hO, my_fdiv hi hj]
  refine ⟨hv, by decide, nm_e ⟨hv, by decide, nm_r (my_frem hi hj) ?_⟩⟩
  rw [my_idx, nI_clamp (by omega), hx]
  exact ⟨vp_in_nI (by omega) (by omega), nm_e (br_f (by decide) (br_t (by decide) k))⟩
theorem my_fB (hw : w < 40) (hi : i < 16) (hj0 : 0 < j) (hj : j ≤ 16) (hO : O w = nI (17 * i + j)) (hx : a_operators (17 * i + j) = -2)
    (k : wY_findStretches_12 post f_size f_many m (nI (w + 1)) a_kinds a_levels a_meanings a_text a_read a_strengths a_values a_operators F U a_keptFroms a_keptTos (upd O w (nI (17 * (i + 1) + (j - 1))))) :
    wY_findStretches_12 post f_size f_many (m + 1) (nI (w + 1)) a_kinds a_levels a_meanings a_text a_read a_strengths a_values a_operators F U a_keptFroms a_keptTos O := by
  have hv : vp_in (nI w) 40 := vp_in_nI hw (by omega)
  have hc : (nI w).toNatClampNeg = w := nI_clamp (by omega)
  have e1 : 17 * nI i + 17 + nI j - 1 = nI (17 * (i + 1) + (j - 1)) := by
    rw [my_idx1, show (1 : Int32) = nI 1 from rfl, pk_sub (by omega), show 17 * (i + 1) + j - 1 = 17 * (i + 1) + (j - 1) from by omega]
  rw [wY_findStretches_12]
  dsimp only
  refine br_f (nI_nle (by omega) (by omega)) (nm_r (pk_m1 w) ?_)
  rw [hc, hO, my_fdiv (by omega) hj]
  refine ⟨hv, by decide, nm_e ⟨hv, by decide, nm_r (my_frem (by omega) hj) ?_⟩⟩
  rw [my_idx, nI_clamp (by omega), hx, e1]
  exact ⟨vp_in_nI (by omega) (by omega), nm_e (br_t rfl ⟨hv, nm_e (nm_r (nI_1 w) k)⟩)⟩
theorem my_fO {r : Nat} (hw : w < 39) (hir : i ≤ r) (hrj : r < j) (hj : j ≤ 16) (hO : O w = nI (17 * i + j)) (hx : a_operators (17 * i + j) = nI r)
    (k3 : r = i → r + 1 < j → wY_findStretches_12 post f_size f_many m (nI (w + 1)) a_kinds a_levels a_meanings a_text a_read a_strengths a_values a_operators (upd F r (nI i)) (upd U r (nI j)) a_keptFroms a_keptTos (upd O w (nI (17 * (r + 1) + j))))
    (k4 : i < r → j = r + 1 → wY_findStretches_12 post f_size f_many m (nI (w + 1)) a_kinds a_levels a_meanings a_text a_read a_strengths a_values a_operators (upd F r (nI i)) (upd U r (nI j)) a_keptFroms a_keptTos (upd O w (nI (17 * i + r))))
    (k2 : i < r → r + 1 < j → wY_findStretches_12 post f_size f_many m (nI (w + 1 + 1)) a_kinds a_levels a_meanings a_text a_read a_strengths a_values a_operators (upd F r (nI i)) (upd U r (nI j)) a_keptFroms a_keptTos (upd (upd O w (nI (17 * i + r))) (w + 1) (nI (17 * (r + 1) + j))))
    (k0 : ¬ (r = i ∧ j = r + 1)) :
    wY_findStretches_12 post f_size f_many (m + 1) (nI (w + 1)) a_kinds a_levels a_meanings a_text a_read a_strengths a_values a_operators F U a_keptFroms a_keptTos O := by
  have hv : vp_in (nI w) 40 := vp_in_nI (by omega) (by omega)
  have hv1 : vp_in (nI (w + 1)) 40 := vp_in_nI (by omega) (by omega)
  have hc : (nI w).toNatClampNeg = w := nI_clamp (by omega)
  have hc1 : (nI (w + 1)).toNatClampNeg = w + 1 := nI_clamp (by omega)
  have hcr : (nI r).toNatClampNeg = r := nI_clamp (by omega)
  have hvr : vp_in (nI r) 16 := vp_in_nI (by omega) (by omega)
  have n2 : ¬ nI r = -2 := by
    intro z
    have h0 := nI_pos' (n := r) (by omega)
    rw [z] at h0
    exact absurd h0 (by decide)
  rw [wY_findStretches_12]
  dsimp only
  refine br_f (nI_nle (by omega) (by omega)) (nm_r (pk_m1 w) ?_)
  rw [hc, hO, my_fdiv (by omega) hj]
  refine ⟨hv, by decide, nm_e ⟨hv, by decide, nm_r (my_frem (by omega) hj) ?_⟩⟩
  rw [my_idx, nI_clamp (by omega), hx]
  refine ⟨vp_in_nI (by omega) (by omega), nm_e (br_f n2 (br_f (nI_pos (by omega)) ?_))⟩
  rw [hcr]
  refine ⟨hvr, nm_e ⟨hvr, nm_e (pk_le r i (fun h => ?_) (fun h => ⟨hv, nm_e (nm_r (nI_1 w) ?_)⟩))⟩⟩
  · unfold wY_findStretches_125
    rw [hc, nI_1 r, my_idx1]
    exact pk_le j (r + 1) (fun z => by omega) (fun z => ⟨hv, nm_e (nm_r (nI_1 w) (k3 (by omega) z))⟩)
  · unfold wY_findStretches_125
    rw [hc1, nI_1 r, my_idx1, my_idx]
    exact pk_le j (r + 1) (fun z => k4 h (by omega)) (fun z => ⟨hv1, nm_e (nm_r (nI_1 (w + 1)) (k2 h z))⟩)
theorem my_find (hT : my_TT g t n a_strengths a_values a_operators) (hn : n ≤ 16) {i j s c : Nat} {v : Int32} (d : mf_Der g t i j s c v) : j ≤ n → ∀ (w N0 : Nat) (F U O : Nat → Int32), w + (j - i) ≤ 39 → O w = nI (17 * i + j) →
    (∀ (F' U' O' : Nat → Int32) (m' : Nat), N0 ≤ m' → (∀ x, x < w → O' x = O x) → (∀ x, (x < i ∨ j ≤ x) → F' x = F x ∧ U' x = U x) → my_FS g t i j F' U' → wY_findStretches_12 post f_size f_many m' (nI w) a_kinds a_levels a_meanings a_text a_read a_strengths a_values a_operators F' U' a_keptFroms a_keptTos O') →
    ∀ m, N0 + (j - i) ≤ m → wY_findStretches_12 post f_size f_many m (nI (w + 1)) a_kinds a_levels a_meanings a_text a_read a_strengths a_values a_operators F U a_keptFroms a_keptTos O := by
  refine mf_ind (Q := fun i j s c v => j ≤ n → ∀ (w N0 : Nat) (F U O : Nat → Int32), w + (j - i) ≤ 39 → O w = nI (17 * i + j) →
    (∀ (F' U' O' : Nat → Int32) (m' : Nat), N0 ≤ m' → (∀ x, x < w → O' x = O x) → (∀ x, (x < i ∨ j ≤ x) → F' x = F x ∧ U' x = U x) → my_FS g t i j F' U' → wY_findStretches_12 post f_size f_many m' (nI w) a_kinds a_levels a_meanings a_text a_read a_strengths a_values a_operators F' U' a_keptFroms a_keptTos O') →
    ∀ m, N0 + (j - i) ≤ m → wY_findStretches_12 post f_size f_many m (nI (w + 1)) a_kinds a_levels a_meanings a_text a_read a_strengths a_values a_operators F U a_keptFroms a_keptTos O) ?_ ?_ ?_ ?_ ?_ d
  · intro i h hj w N0 F U O hw hO K m hm
    obtain ⟨m, rfl⟩ : ∃ m', m = m' + 1 := ⟨m - 1, by omega⟩
    have hx := (my_op_of (hT i (i + 1) (by omega) hj) (mf_dNum h)).2.2
    exact my_fN (by omega) (by omega) (by omega) hO hx (K F U O m (by omega) (fun _ _ => rfl) (fun _ _ => ⟨rfl, rfl⟩) (fun r f u z => absurd z (mf_sInvN h)))
  · intro i e s c v h h' d ih hj w N0 F U O hw hO K m hm
    have l := mf_lt d
    obtain ⟨m, rfl⟩ : ∃ m', m = m' + 1 := ⟨m - 1, by omega⟩
    have hx := (my_op_of (hT i (e + 1) (by omega) hj) (mf_dBr h h' d)).2.2
    refine my_fB (by omega) (by omega) (by omega) (by omega) hO hx ?_
    refine ih (by omega) w N0 F U _ (by omega) (by rw [pk_us, Nat.add_sub_cancel]) (fun F' U' O' m' h1 h2 h3 h4 => K F' U' O' m' h1 (fun x hx' => ?_) (fun x hx' => h3 x (by omega)) (fun r f u z => h4 r f u (mf_sInvB h h' d z))) m (by omega)
    rw [h2 x hx', pk_un (by omega)]
  · intro i j s c v h hk d ih hs hj w N0 F U O hw hO K m hm
    have l := mf_lt d
    have hR := mf_oPre h hk d hs
    obtain ⟨m, rfl⟩ : ∃ m', m = m' + 1 := ⟨m - 1, by omega⟩
    have hx := (my_op_of (hT i j (by omega) hj) (mf_dO hR)).2.2
    refine my_fO (by omega) (Nat.le_refl _) (by omega) (by omega) hO hx (fun _ _ => ?_) (fun z => absurd z (Nat.lt_irrefl _)) (fun z => absurd z (Nat.lt_irrefl _)) (by omega)
    refine ih hj w N0 _ _ _ (by omega) pk_us (fun F' U' O' m' h1 h2 h3 h4 => K F' U' O' m' h1 (fun x hx' => ?_) (fun x hx' => ?_) (fun r f u z => ?_)) m (by omega)
    · rw [h2 x hx', pk_un (by omega)]
    · have := h3 x (by omega)
      rw [pk_un (by omega), pk_un (by omega)] at this
      exact this
    · rcases mf_sInvO hR z with ⟨e1, e2, e3⟩ | z | z
      · have := h3 i (by omega)
        rw [pk_us, pk_us] at this
        rw [e1, e2, e3]
        exact this
      · exact absurd z mf_sNo
      · exact h4 r f u z
  · intro i r0 s c v h hk d ih hs hj w N0 F U O hw hO K m hm
    have l := mf_lt d
    have hR := mf_oPos h hk d hs
    obtain ⟨m, rfl⟩ : ∃ m', m = m' + 1 := ⟨m - 1, by omega⟩
    have hx := (my_op_of (hT i (r0 + 1) (by omega) hj) (mf_dO hR)).2.2
    refine my_fO (r := r0) (by omega) (by omega) (by omega) (by omega) hO hx (fun z => by omega) (fun _ _ => ?_) (fun _ z => by omega) (by omega)
    refine ih (by omega) w N0 _ _ _ (by omega) pk_us (fun F' U' O' m' h1 h2 h3 h4 => K F' U' O' m' h1 (fun x hx' => ?_) (fun x hx' => ?_) (fun r f u z => ?_)) m (by omega)
    · rw [h2 x hx', pk_un (by omega)]
    · have := h3 x (by omega)
      rw [pk_un (by omega), pk_un (by omega)] at this
      exact this
    · rcases mf_sInvO hR z with ⟨e1, e2, e3⟩ | z | z
      · have := h3 r0 (by omega)
        rw [pk_us, pk_us] at this
        rw [e1, e2, e3]
        exact this
      · exact h4 r f u z
      · exact absurd z mf_sNo
  · intro i r0 j s c v s' c' v' h hk d ih d' ih' hs hs' hj w N0 F U O hw hO K m hm
    have l := mf_lt d
    have l' := mf_lt d'
    have hR := mf_oBin h hk d d' hs hs'
    obtain ⟨m, rfl⟩ : ∃ m', m = m' + 1 := ⟨m - 1, by omega⟩
    have hx := (my_op_of (hT i j (by omega) hj) (mf_dO hR)).2.2
    refine my_fO (r := r0) (by omega) (by omega) (by omega) (by omega) hO hx (fun z => by omega) (fun _ z => by omega) (fun _ _ => ?_) (by omega)
    refine ih' hj (w + 1) (N0 + (r0 - i)) _ _ _ (by omega) pk_us (fun F1 U1 O1 m1 h1 h2 h3 h4 => ?_) m (by omega)
    have hO1 : O1 w = nI (17 * i + r0) := by
      rw [h2 w (by omega), pk_un (by omega), pk_us]
    refine ih (by omega) w N0 F1 U1 O1 (by omega) hO1 (fun F' U' O' m' g1 g2 g3 g4 => K F' U' O' m' g1 (fun x hx' => ?_) (fun x hx' => ?_) (fun r f u z => ?_)) m1 (by omega)
    · rw [g2 x hx', h2 x (by omega), pk_un (by omega), pk_un (by omega)]
    · have a := h3 x (by omega)
      have b := g3 x (by omega)
      rw [pk_un (by omega), pk_un (by omega)] at a
      exact ⟨b.1.trans a.1, b.2.trans a.2⟩
    · rcases mf_sInvO hR z with ⟨e1, e2, e3⟩ | z | z
      · have a := h3 r0 (by omega)
        have b := g3 r0 (by omega)
        rw [pk_us, pk_us] at a
        rw [e1, e2, e3]
        exact ⟨b.1.trans a.1, b.2.trans a.2⟩
      · exact g4 r f u z
      · have hf := mf_sFact z
        have a := h4 r f u z
        have b := g3 r (by omega)
        exact ⟨b.1.trans a.1, b.2.trans a.2⟩
theorem my_findStretches (hT : my_TT g t n a_strengths a_values a_operators) (hn : n ≤ 16) {s c : Nat} {v : Int32} (d : mf_Der g t 0 n s c v) (em : f_many = nI n)
    (K : ∀ F' U' O', my_FS g t 0 n F' U' → post (f_size, f_many, a_kinds, a_levels, a_meanings, a_text, a_read, a_strengths, a_values, a_operators, F', U', a_keptFroms, a_keptTos, O')) : wpY_findStretches post (f_size, f_many, a_kinds, a_levels, a_meanings, a_text, a_read, a_strengths, a_values, a_operators, a_froms, a_tos, a_keptFroms, a_keptTos, a_open) := by
  unfold wpY_findStretches
  dsimp only
  refine nm_e ⟨1 + (n - 0), my_find hT hn d (Nat.le_refl _) 0 1 _ _ _ (by omega) ?_ (fun F' U' O' m' h1 h2 h3 h4 => ?_) _ (Nat.le_refl _)⟩
  · rw [pk_us, em, show 17 * 0 + n = n from by omega]
  · obtain ⟨m', rfl⟩ : ∃ m'', m' = m'' + 1 := ⟨m' - 1, by omega⟩
    exact br_t (by decide) (K F' U' O' h4)
end
end
section
/- the reference's spare -/
section
variable {f_size f_many : Int32} {a_kinds a_levels a_meanings a_text a_read a_strengths a_values a_operators a_froms a_tos a_keptFroms a_keptTos a_open : Nat → Int32} {g : mf_CF} {t : Nat → Nat} {n p e : Nat}
theorem my_partner4 {post : Int32 → Prop} (hU : my_U g t n (f_size, f_many, a_kinds, a_levels, a_meanings, a_text, a_read, a_strengths, a_values, a_operators, a_froms, a_tos, a_keptFroms, a_keptTos, a_open)) (hn : n ≤ 15) (ht : ∀ x, t x ≤ 19) (hP : mf_Pt t p e) (he : e < n) (k : post (nI e)) :
    ∀ (m x h : Nat), x + m = e → p ≤ x → (h : Int) = mf_B t x - mf_B t p → h ≤ x → wY_partner_4 post f_size f_many a_kinds a_levels a_meanings a_text a_read a_strengths a_values a_operators a_froms a_tos a_keptFroms a_keptTos a_open (m + 1) (nI h) (nI x) := by
  obtain ⟨hpe, h18, h19, hB, hlt⟩ := hP
  obtain ⟨rfl, y2, y3, y4, y5⟩ := hU
  intro m
  induction m with
  | zero =>
    intro x h hx hpx hh hhx
    have ex : x = e := by omega
    subst ex
    have b1 := mf_Bs (t := t) x
    have b2 := mf_w19 h19
    have h1 : h = 1 := by omega
    subst h1
    have hc : (nI x).toNatClampNeg = x := nI_clamp (by omega)
    have hv : vp_in (nI x) 15 := vp_in_nI (by omega) (by omega)
    rw [wY_partner_4]
    dsimp only
    rw [hc, y5 x he]
    refine br_f (nI_ge (by omega) (by omega)) ⟨hv, pk_eq (t x) 18 (fun z => by omega) (fun _ => ⟨hv, pk_eq (t x) 19 (fun _ => ?_) (fun z => absurd h19 z)⟩)⟩
    exact br_t (by decide) k
  | succ m ih =>
    intro x h hx hpx hh hhx
    have b1 := mf_Bs (t := t) x
    have b3 := hlt (x + 1) (by omega) (by omega)
    have tx := ht x
    have hc : (nI x).toNatClampNeg = x := nI_clamp (by omega)
    have hv : vp_in (nI x) 15 := vp_in_nI (by omega) (by omega)
    have NEXT : ∀ h' : Nat, (h' : Int) = mf_B t (x + 1) - mf_B t p → h' ≤ x + 1 → wY_partner_47 post (wY_partner_4 post (nI n) f_many a_kinds a_levels a_meanings a_text a_read a_strengths a_values a_operators a_froms a_tos a_keptFroms a_keptTos a_open (m + 1)) (nI x) (nI h') (nI n) f_many a_kinds a_levels a_meanings a_text a_read a_strengths a_values a_operators a_froms a_tos a_keptFroms a_keptTos a_open := by
      intro h' hh' hle
      exact br_f (nI_ne0 (by omega) (by omega)) (nm_r (nI_1 x) (ih (x + 1) h' (by omega) (by omega) hh' hle))
    rw [wY_partner_4]
    dsimp only
    rw [hc, y5 x (by omega)]
    refine br_f (nI_ge (by omega) (by omega)) ⟨hv, pk_eq (t x) 18 (fun z => ?_) (fun z18 => ⟨hv, pk_eq (t x) 19 (fun z => ?_) (fun z => ?_)⟩)⟩
    · have b2 := mf_w18 z
      rw [nI_1 h]
      exact NEXT (h + 1) (by omega) (by omega)
    · have b2 := mf_w19 z
      have eh : nI h - 1 = nI (h - 1) := pk_sub (a := h) (b := 1) (by omega)
      rw [eh]
      exact NEXT (h - 1) (by omega) (by omega)
    · have b2 := mf_w0 (x := t x) (by omega)
      exact NEXT h (by omega) (by omega)
theorem my_partner {post : Int32 → Prop} (hU : my_U g t n (f_size, f_many, a_kinds, a_levels, a_meanings, a_text, a_read, a_strengths, a_values, a_operators, a_froms, a_tos, a_keptFroms, a_keptTos, a_open)) (hn : n ≤ 15) (ht : ∀ x, t x ≤ 19) (hP : mf_Pt t p e) (he : e < n) (k : post (nI e)) : wpY_partner post (f_size, f_many, a_kinds, a_levels, a_meanings, a_text, a_read, a_strengths, a_values, a_operators, a_froms, a_tos, a_keptFroms, a_keptTos, a_open) (nI p) :=
  ⟨e - p + 1, my_partner4 hU hn ht hP he k (e - p) p 0 (by have := hP.1; omega) (Nat.le_refl _) (by omega) (Nat.zero_le _)⟩
theorem my_without {post : Int32 → Prop} {x : Nat} {v : SY} (hpe : p < e) (he : e < 16) (hx : x ≤ 16) (k : post (nI (mw_w p e x))) : wpY_without post v (nI x) (nI p) (nI e) := by
  obtain ⟨f_size, f_many, a_kinds, a_levels, a_meanings, a_text, a_read, a_strengths, a_values, a_operators, a_froms, a_tos, a_keptFroms, a_keptTos, a_open⟩ := v
  unfold wpY_without wY_without_11
  dsimp only
  refine pk_le x p (fun h => pk_le x e (fun h' => ?_) (fun h' => by omega)) (fun h => pk_le x e (fun h' => ?_) (fun h' => ?_))
  · rw [mw_w0 h hpe] at k
    rw [Int32.sub_zero, Int32.sub_zero]
    exact k
  · rw [mw_w1 h h'] at k
    rw [Int32.sub_zero, show (1 : Int32) = nI 1 from rfl, pk_sub (by omega)]
    exact k
  · rw [mw_w2 h' hpe] at k
    rw [show (1 : Int32) = nI 1 from rfl, pk_sub (by omega), pk_sub (by omega), show x - 1 - 1 = x - 2 from by omega]
    exact k
/-- the comparison of all stretches -/
theorem my_is77 {post : Int32 → SY → Prop} (hU : my_U g t n (f_size, f_many, a_kinds, a_levels, a_meanings, a_text, a_read, a_strengths, a_values, a_operators, a_froms, a_tos, a_keptFroms, a_keptTos, a_open)) (hn : n ≤ 15) (ht : ∀ x, t x ≤ 19) (hP : mf_Pt t p e) (he : e < n) {s c s' c' : Nat} {v v' : Int32} (d : mf_Der g t 0 n s c v) (d' : mf_Der g (mw_t p e t) 0 (n - 2) s' c' v')
    (hK : my_FS g t 0 n a_keptFroms a_keptTos) (hF : my_FS g (mw_t p e t) 0 (n - 2) a_froms a_tos) (K1 : mw_SP g t n p e → post 1 (f_size, f_many, a_kinds, a_levels, a_meanings, a_text, a_read, a_strengths, a_values, a_operators, a_froms, a_tos, a_keptFroms, a_keptTos, a_open)) (K0 : ¬ mw_SP g t n p e → post 0 (f_size, f_many, a_kinds, a_levels, a_meanings, a_text, a_read, a_strengths, a_values, a_operators, a_froms, a_tos, a_keptFroms, a_keptTos, a_open)) :
    ∀ (m r : Nat), r + m = n → (∀ r' f u, r' < r → mf_S g t 0 n r' f u → mf_S g (mw_t p e t) 0 (n - 2) (mw_w p e r') (mw_w p e f) (mw_w p e u)) → wY_isSpare_77 post (nI p) (nI e) f_size f_many a_kinds a_levels a_meanings a_text a_read a_strengths a_values a_operators a_froms a_tos a_keptFroms a_keptTos a_open (m + 1) (nI r) := by
  have hpe := hP.1
  obtain ⟨rfl, y2, y3, y4, y5⟩ := hU
  intro m
  induction m with
  | zero =>
    intro r hr hI
    refine br_t (nI_le (by omega) (by omega)) (K1 ⟨⟨s', c', v', d'⟩, fun r' f u h => hI r' f u ?_ h⟩)
    have := mf_sFact h
    omega
  | succ m ih =>
    intro r hr hI
    have tr := ht r
    have hc : (nI r).toNatClampNeg = r := nI_clamp (by omega)
    have hv : vp_in (nI r) 15 := vp_in_nI (by omega) (by omega)
    have hv6 : vp_in (nI r) 16 := vp_in_nI (by omega) (by omega)
    have NEXT : (∀ f u, mf_S g t 0 n r f u → mf_S g (mw_t p e t) 0 (n - 2) (mw_w p e r) (mw_w p e f) (mw_w p e u)) → wY_isSpare_77 post (nI p) (nI e) (nI n) f_many a_kinds a_levels a_meanings a_text a_read a_strengths a_values a_operators a_froms a_tos a_keptFroms a_keptTos a_open (m + 1) (nI (r + 1)) := by
      intro h
      refine ih (r + 1) (by omega) (fun r' f u hr' hS => ?_)
      rcases (by omega : r' < r ∨ r' = r) with z | rfl
      · exact hI r' f u z hS
      · exact h f u hS
    have NO : ¬ mf_op t r → wY_isSpare_120 post (wY_isSpare_77 post (nI p) (nI e) (nI n) f_many a_kinds a_levels a_meanings a_text a_read a_strengths a_values a_operators a_froms a_tos a_keptFroms a_keptTos a_open (m + 1)) (nI p) (nI e) (nI r) (nI (mw_w p e r)) (nI n) f_many a_kinds a_levels a_meanings a_text a_read a_strengths a_values a_operators a_froms a_tos a_keptFroms a_keptTos a_open := by
      intro h
      exact br_t rfl (nm_r (nI_1 r) (NEXT (fun f u hS => absurd (mf_sFact hS).2.2.2.2.1 h)))
    rw [wY_isSpare_77]
    dsimp only
    rw [hc, y5 r (by omega)]
    refine br_f (nI_ge (by omega) (by omega)) (my_without hpe (by omega) (by omega) ⟨hv, pk_le (t r) 9 (fun z => NO (fun y => by have := y.1; omega)) (fun z => ⟨hv, pk_le 18 (t r) (fun z' => NO (fun y => by have := y.2; omega)) (fun z' => ?_)⟩)⟩)
    have ho : mf_op t r := ⟨by omega, z'⟩
    have np : r ≠ p := by rintro rfl; have := hP.2.1; omega
    have ne : r ≠ e := by rintro rfl; have := hP.2.2.1; omega
    obtain ⟨f, u, hS⟩ := mf_cov d r (Nat.zero_le _) (by omega) ho
    have hf := mf_sFact hS
    have ko := hK r f u hS
    have hw : mw_w p e r < n - 2 := by
      rcases (by omega : r < p ∨ (p < r ∧ r < e) ∨ e < r) with h | ⟨h, h'⟩ | h
      · rw [mw_w0 (by omega) hpe]; omega
      · rw [mw_w1 h (by omega)]; omega
      · rw [mw_w2 h hpe]; omega
    obtain ⟨f', u', hS'⟩ := mf_cov d' (mw_w p e r) (Nat.zero_le _) hw (mf_cgo (mw_tw hpe np ne) ho)
    have hf' := mf_sFact hS'
    have fo := hF _ f' u' hS'
    have hcw : (nI (mw_w p e r)).toNatClampNeg = mw_w p e r := nI_clamp (by omega)
    have hvw : vp_in (nI (mw_w p e r)) 16 := vp_in_nI (by omega) (by omega)
    have wf : mw_w p e f ≤ f := by unfold mw_w; omega
    have wu : mw_w p e u ≤ u := by unfold mw_w; omega
    have BADF : f' ≠ mw_w p e f → ¬ mw_SP g t n p e := by
      intro h hSP
      have z := (hF _ _ _ (hSP.2 r f u hS)).1
      rw [fo.1] at z
      exact h ((nI_eq (by omega) (by omega)).mp z)
    have BADU : u' ≠ mw_w p e u → ¬ mw_SP g t n p e := by
      intro h hSP
      have z := (hF _ _ _ (hSP.2 r f u hS)).2
      rw [fo.2] at z
      exact h ((nI_eq (by omega) (by omega)).mp z)
    unfold wY_isSpare_121
    rw [hcw, hc, ko.1, ko.2, fo.1, fo.2]
    refine br_f (by decide) ⟨hvw, hv6, my_without hpe (by omega) (by omega) (pk_eq f' (mw_w p e f) (fun e1 => ⟨hvw, hv6, my_without hpe (by omega) (by omega) (pk_eq u' (mw_w p e u) (fun e2 => nm_r (nI_1 r) (NEXT (fun f2 u2 hS2 => ?_))) (fun e2 => K0 (BADU e2)))⟩) (fun e1 => K0 (BADF e1)))⟩
    have k2 := hK r f2 u2 hS2
    have hf2 := mf_sFact hS2
    rw [ko.1, ko.2] at k2
    have q1 := (nI_eq (by omega) (by omega)).mp k2.1
    have q2 := (nI_eq (by omega) (by omega)).mp k2.2
    rw [← q1, ← q2, ← e1, ← e2]
    exact hS'
theorem my_is13 {post : Int32 → SY → Prop} (hU : my_U g t n (f_size, f_many, a_kinds, a_levels, a_meanings, a_text, a_read, a_strengths, a_values, a_operators, a_froms, a_tos, a_keptFroms, a_keptTos, a_open)) (hg : mf_ok g) (hn : n ≤ 15) (ht : ∀ x, t x ≤ 19) (hP : mf_Pt t p e) (he : e < n) {s c : Nat} {v : Int32} (d : mf_Der g t 0 n s c v) (hK : my_FS g t 0 n a_keptFroms a_keptTos)
    (K1 : mw_SP g t n p e → ∀ fm R a b c F U O, post 1 (f_size, fm, a_kinds, a_levels, a_meanings, a_text, R, a, b, c, F, U, a_keptFroms, a_keptTos, O))
    (K0 : ¬ mw_SP g t n p e → ∀ fm R a b c F U O, post 0 (f_size, fm, a_kinds, a_levels, a_meanings, a_text, R, a, b, c, F, U, a_keptFroms, a_keptTos, O)) :
    ∀ (m i : Nat) (R : Nat → Int32), i + m = n → (∀ x, x < mw_w p e i → R x = nI (mw_t p e t x)) → wY_isSpare_13 post (nI p) (nI e) f_size (m + 1) (nI i) (nI (mw_w p e i)) a_kinds a_levels a_meanings a_text R a_strengths a_values a_operators a_froms a_tos a_keptFroms a_keptTos a_open := by
  have hpe := hP.1
  have hU0 := hU
  obtain ⟨rfl, y2, y3, y4, y5⟩ := hU
  have ht' : ∀ x, mw_t p e t x ≤ 19 := by
    intro x
    unfold mw_t
    split
    · exact ht _
    · split <;> exact ht _
  intro m
  induction m with
  | zero =>
    intro i R h hR
    have ei : i = n := by omega
    subst ei
    rw [mw_w2 he hpe] at hR ⊢
    refine br_t (nI_le (by omega) (by omega)) (my_readAll (g := g) (t := mw_t p e t) (n := i - 2) ⟨rfl, y2, y3, y4, hR⟩ hg (by omega) ht' (fun x a b c' hx hT => my_sv_0' hg hx (fun hno => K0 (fun hSP => ?_) _ _ _ _ _ _ _ _) (fun s' c' v' d' => ?_)))
    · obtain ⟨⟨s', c', v', d'⟩, _⟩ := hSP
      exact hno s' c' v' d'
    · refine my_findStretches hT (by omega) d' rfl (fun F U O hF => ⟨i + 1, ?_⟩)
      exact my_is77 (g := g) (t := t) (n := i) ⟨rfl, y2, y3, y4, y5⟩ hn ht hP he d d' hK hF (fun h => K1 h _ _ _ _ _ _ _ _) (fun h => K0 h _ _ _ _ _ _ _ _) i 0 (by omega) (fun r' f u h => absurd h (Nat.not_lt_zero r'))
  | succ m ih =>
    intro i R h hR
    have hc : (nI i).toNatClampNeg = i := nI_clamp (by omega)
    have wi : mw_w p e i ≤ i := by unfold mw_w; omega
    have hcw : (nI (mw_w p e i)).toNatClampNeg = mw_w p e i := nI_clamp (by omega)
    rw [wY_isSpare_13]
    dsimp only
    rw [hc, hcw, y5 i (by omega)]
    refine br_f (nI_ge (by omega) (by omega)) (pk_eq i p (fun z => nm_r (nI_1 i) ?_) (fun z => pk_eq i e (fun z' => nm_r (nI_1 i) ?_) (fun z' => ⟨vp_in_nI (by omega) (by omega), vp_in_nI (by omega) (by omega), nm_e (nm_r (nI_1 _) (nm_r (nI_1 i) ?_))⟩)))
    · have ew : mw_w p e (i + 1) = mw_w p e i := by
        rw [mw_w0 (x := i) (by omega) hpe, mw_w1 (x := i + 1) (by omega) (by omega)]
        omega
      have q := ih (i + 1) R (by omega) (by rw [ew]; exact hR)
      rw [ew] at q
      exact q
    · have ew : mw_w p e (i + 1) = mw_w p e i := by
        rw [mw_w1 (x := i) (by omega) (by omega), mw_w2 (x := i + 1) (by omega) hpe]
        omega
      have q := ih (i + 1) R (by omega) (by rw [ew]; exact hR)
      rw [ew] at q
      exact q
    · have ew : mw_w p e (i + 1) = mw_w p e i + 1 := by
        rcases (by omega : i < p ∨ (p < i ∧ i < e) ∨ e < i) with h | ⟨h, h'⟩ | h
        · rw [mw_w0 (x := i) (by omega) hpe, mw_w0 (x := i + 1) (by omega) hpe]
        · rw [mw_w1 (x := i) h (by omega), mw_w1 (x := i + 1) (by omega) (by omega)]; omega
        · rw [mw_w2 (x := i) h hpe, mw_w2 (x := i + 1) (by omega) hpe]; omega
      have q := ih (i + 1) (upd R (mw_w p e i) (nI (t i))) (by omega) (by
        rw [ew]
        intro x hx
        by_cases ex : x = mw_w p e i
        · rw [ex, pk_us, mw_tw hpe z z']
        · rw [pk_un ex]
          exact hR x (by omega))
      rw [ew] at q
      exact q
theorem my_isSpare {post : Int32 → SY → Prop} (hU : my_U g t n (f_size, f_many, a_kinds, a_levels, a_meanings, a_text, a_read, a_strengths, a_values, a_operators, a_froms, a_tos, a_keptFroms, a_keptTos, a_open)) (hg : mf_ok g) (hn : n ≤ 15) (ht : ∀ x, t x ≤ 19) (hP : mf_Pt t p e) (he : e < n) {s c : Nat} {v : Int32} (d : mf_Der g t 0 n s c v) (hK : my_FS g t 0 n a_keptFroms a_keptTos)
    (K1 : mw_SP g t n p e → ∀ fm R a b c F U O, post 1 (f_size, fm, a_kinds, a_levels, a_meanings, a_text, R, a, b, c, F, U, a_keptFroms, a_keptTos, O))
    (K0 : ¬ mw_SP g t n p e → ∀ fm R a b c F U O, post 0 (f_size, fm, a_kinds, a_levels, a_meanings, a_text, R, a, b, c, F, U, a_keptFroms, a_keptTos, O)) : wpY_isSpare post (f_size, f_many, a_kinds, a_levels, a_meanings, a_text, a_read, a_strengths, a_values, a_operators, a_froms, a_tos, a_keptFroms, a_keptTos, a_open) (nI p) := by
  have hpe := hP.1
  unfold wpY_isSpare
  dsimp only
  refine my_partner hU hn ht hP he ⟨n + 1, ?_⟩
  have z := my_is13 hU hg hn ht hP he d hK K1 K0 n 0 a_read (by omega) (fun x hx => by rw [mw_w0 (Nat.zero_le _) hpe] at hx; exact absurd hx (Nat.not_lt_zero x))
  rw [mw_w0 (Nat.zero_le _) hpe] at z
  exact z
theorem my_spare58 {post : Int32 → SY → Prop} (hU : my_U g t n (f_size, f_many, a_kinds, a_levels, a_meanings, a_text, a_read, a_strengths, a_values, a_operators, a_froms, a_tos, a_keptFroms, a_keptTos, a_open)) (hg : mf_ok g) (hn : n ≤ 15) (ht : ∀ x, t x ≤ 19) {s c : Nat} {v : Int32} (d : mf_Der g t 0 n s c v) (hK : my_FS g t 0 n a_keptFroms a_keptTos)
    (K : ∀ fm R a b c F U O, post (nI (mw_C (mw_P g t n) n)) (f_size, fm, a_kinds, a_levels, a_meanings, a_text, R, a, b, c, F, U, a_keptFroms, a_keptTos, O)) :
    ∀ (m p : Nat) (fm : Int32) (R a b c F U O : Nat → Int32), p + m = n → wY_spare_58 post (m + 1) (nI (mw_C (mw_P g t n) p)) (nI p) f_size fm a_kinds a_levels a_meanings a_text R a b c F U a_keptFroms a_keptTos O := by
  have hU0 := hU
  obtain ⟨rfl, y2, y3, y4, y5⟩ := hU
  intro m
  induction m with
  | zero =>
    intro p fm R a b c F U O h
    have ep : p = n := by omega
    subst ep
    exact br_t (nI_le (by omega) (by omega)) (K fm R a b c F U O)
  | succ m ih =>
    intro p fm R a b c' F U O h
    have tp := ht p
    have hc : (nI p).toNatClampNeg = p := nI_clamp (by omega)
    rw [wY_spare_58]
    dsimp only
    rw [hc, y5 p (by omega)]
    refine br_f (nI_ge (by omega) (by omega)) ⟨vp_in_nI (by omega) (by omega), pk_eq (t p) 18 (fun z => ?_) (fun z => nm_r (nI_1 p) ?_)⟩
    · obtain ⟨e, he, hP⟩ := mf_covB d p (Nat.zero_le _) (by omega) z
      refine my_isSpare (g := g) (t := t) (n := n) hU0 hg hn ht hP he d hK (fun hSP fm R a b c F U O => br_f (by decide) (nm_r (nI_1 _) (nm_r (nI_1 p) ?_))) (fun hSP fm R a b c F U O => br_t rfl (nm_r (nI_1 p) ?_))
      · have q := ih (p + 1) fm R a b c F U O (by omega)
        have ec : mw_C (mw_P g t n) (p + 1) = mw_C (mw_P g t n) p + 1 := by
          show mw_C (mw_P g t n) p + mr_i (mw_P g t n p) = _
          rw [mr_i1 ⟨z, e, he, hP, hSP⟩]
        rw [ec] at q
        exact q
      · have q := ih (p + 1) fm R a b c F U O (by omega)
        rw [mw_Cs (x := p) (by rintro ⟨_, e', he', hP', hSP'⟩; rw [mf_ptUni hP' hP] at hSP'; exact hSP hSP')] at q
        exact q
    · have q := ih (p + 1) fm R a b c' F U O (by omega)
      rw [mw_Cs (x := p) (fun y => z y.1)] at q
      exact q
theorem my_spare16 {post : Int32 → SY → Prop} (hU : my_U g t n (f_size, f_many, a_kinds, a_levels, a_meanings, a_text, a_read, a_strengths, a_values, a_operators, a_froms, a_tos, a_keptFroms, a_keptTos, a_open)) (hg : mf_ok g) (hn : n ≤ 15) (ht : ∀ x, t x ≤ 19) {s c : Nat} {v : Int32} (d : mf_Der g t 0 n s c v) (hF : my_FS g t 0 n a_froms a_tos)
    (K : ∀ fm R a b c F U kf kt O, post (nI (mw_C (mw_P g t n) n)) (f_size, fm, a_kinds, a_levels, a_meanings, a_text, R, a, b, c, F, U, kf, kt, O)) :
    ∀ (m i : Nat) (kf kt : Nat → Int32), i + m = n → (∀ x, x < i → kf x = a_froms x ∧ kt x = a_tos x) → wY_spare_16 post f_size f_many (m + 1) (nI i) a_kinds a_levels a_meanings a_text a_read a_strengths a_values a_operators a_froms a_tos kf kt a_open := by
  obtain ⟨rfl, y2, y3, y4, y5⟩ := hU
  intro m
  induction m with
  | zero =>
    intro i kf kt h hk
    have ei : i = n := by omega
    subst ei
    refine br_t (nI_le (by omega) (by omega)) ⟨i + 1, ?_⟩
    refine my_spare58 (g := g) (t := t) (n := i) (f_many := f_many) (a_read := a_read) (a_strengths := a_strengths) (a_values := a_values) (a_operators := a_operators) (a_froms := a_froms) (a_tos := a_tos) (a_open := a_open) (a_keptFroms := kf) (a_keptTos := kt) ⟨rfl, y2, y3, y4, y5⟩ hg hn ht d ?_ (fun fm R a b c F U O => K fm R a b c F U kf kt O) i 0 _ _ _ _ _ _ _ _ (by omega)
    intro r f u hS
    have hf := mf_sFact hS
    have a := hk r (by omega)
    have b := hF r f u hS
    exact ⟨a.1.trans b.1, a.2.trans b.2⟩
  | succ m ih =>
    intro i kf kt h hk
    have hc : (nI i).toNatClampNeg = i := nI_clamp (by omega)
    have hv : vp_in (nI i) 16 := vp_in_nI (by omega) (by omega)
    rw [wY_spare_16]
    dsimp only
    rw [hc]
    refine br_f (nI_ge (by omega) (by omega)) ⟨hv, hv, nm_e ⟨hv, hv, nm_e (nm_r (nI_1 i) (ih (i + 1) _ _ (by omega) (fun x hx => ?_)))⟩⟩
    by_cases ex : x = i
    · rw [ex, pk_us, pk_us]
      exact ⟨rfl, rfl⟩
    · rw [pk_un ex, pk_un ex]
      exact hk x (by omega)
end
end
section
theorem i_vc_spare {k : Nat} {u : SX} {v : SY} (I : i_Rel k u v) (hk : k + 4 ≤ 2048) : wpX_spare (fun r u' => wpY_spare (fun r' v' => r' = r ∧ i_Rel (k + 4) u' v') v) u := by
  obtain ⟨g, t, n, hg, ht, hn, hX, hY⟩ := I
  obtain ⟨x_count, x_nodes, x_operands, x_waiting, x_fine, x_top, x_kinds, x_levels, x_meanings, x_text, x_at, x_first, x_second, x_strong, x_values, x_pairs, x_from, x_to, x_operand, x_open⟩ := u
  obtain ⟨f_size, f_many, a_kinds, a_levels, a_meanings, a_text, a_read, a_strengths, a_values, a_operators, a_froms, a_tos, a_keptFroms, a_keptTos, a_open⟩ := v
  unfold wpX_spare wpY_spare
  dsimp only
  refine mx_readAll hX hg (by omega) ht (fun hno u' hu => ?_) (fun s c w nd m q d hm hR hh u' hu => ?_)
  · refine br_t rfl (my_readText hY hg hn ht (fun x R a b c hR hx hT => my_sv_0' hg hx (fun _ => ⟨rfl, g, t, n, hg, ht, hn, hu, hY⟩) (fun s c w d => absurd d (hno s c w))))
  · obtain ⟨x_count, x_nodes, x_operands, x_waiting, x_fine, x_top, x_kinds, x_levels, x_meanings, x_text, x_at, x_first, x_second, x_strong, x_values, x_pairs, x_from, x_to, x_operand, x_open⟩ := u'
    obtain ⟨hu, e1, rfl, hN⟩ := hu
    have hA := mf_rAll hR
    have hpq : mf_pa (nd m) < 16 := by
      have := hh.1
      have := (mf_peel hR).2.1
      omega
    have hcount := mw_count (n := n) hg hR 0 (Nat.zero_le _) mw_x0
    refine br_f (by decide) (mx_spareAt hu hg (by omega) hN (by omega) (by omega) (hA m (Nat.zero_le _) (Nat.le_refl _)).1 hpq (Nat.zero_le _) ⟨m + 2, ?_⟩)
    refine mx_spare24 hu hg (by omega) hN hm e1 (fun x hx => (hA x (Nat.zero_le _) hx).1) (fun x hx => by have := (hA x (Nat.zero_le _) (by omega)).2 hx; omega) (m + 1) 0 (mx_sa g t nd m 0) (by omega) (fun Tt hTt => ?_)
    have hsa : mx_sa g t nd m 0 = mx_spq q (mx_ba g t nd m) 0 := by
      unfold mx_sa
      rw [hh.1]
    have e0 : mx_T g t nd 0 = 0 := rfl
    have c0 : mw_C (mw_P g t n) 0 = 0 := rfl
    rw [e0, hsa] at hTt
    rw [e0, c0] at hcount
    have eT : Tt = mw_C (mw_P g t n) n := by omega
    refine my_readText hY hg hn ht (fun y R a b c' hR' hy hT => my_sv_0' hg hy (fun z => absurd d (z s c w)) (fun _ _ _ _ => ?_))
    refine my_findStretches hT (by omega) d rfl (fun F U O hF => ⟨n + 1, ?_⟩)
    refine my_spare16 (g := g) (t := t) (n := n) (f_many := nI n) (a_read := R) (a_strengths := a) (a_values := b) (a_operators := c') (a_froms := F) (a_tos := U) (a_open := O) (a_keptFroms := a_keptFroms) (a_keptTos := a_keptTos) hY hg hn ht d hF (fun fm R a b c F U kf kt O => ⟨by rw [eT], g, t, n, hg, ht, hn, hu, hY⟩) n 0 _ _ (by omega) (fun x hx => absurd hx (Nat.not_lt_zero x))
end

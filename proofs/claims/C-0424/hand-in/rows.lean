section
/-! pure rows to paste: stores, nI and lN arithmetic, masks, shifts, narrowing, branches by naturals (pk_le, pk_lt, pk_eq), loops (lp1 .. lp16: the measure of the state; rp1 ..: recursion), negatives. Take what you need -/
theorem pk_us {f : Nat → Int32} {k : Nat} {x : Int32} : upd f k x k = x := if_pos rfl
theorem pk_un {f : Nat → Int32} {k j : Nat} {x : Int32} (h : j ≠ k) : upd f k x j = f j := if_neg h
theorem pk_uLs {f : Nat → Int64} {k : Nat} {x : Int64} : vp_updL f k x k = x := if_pos rfl
theorem pk_uLn {f : Nat → Int64} {k j : Nat} {x : Int64} (h : j ≠ k) : vp_updL f k x j = f j := if_neg h
theorem pk_sub {a b : Nat} (h : b ≤ a) : nI a - nI b = nI (a - b) := by
  obtain ⟨c, rfl⟩ : ∃ c, a = c + b := ⟨a - b, by omega⟩
  rw [← nI_add, Int32.add_sub_cancel, Nat.add_sub_cancel]
theorem pk_m1 (n : Nat) : nI (n + 1) + (-1) = nI n := by
  rw [← nI_1, Int32.add_assoc, show (1 : Int32) + (-1) = 0 from rfl, Int32.add_zero]
theorem pk_mul (a b : Nat) : nI a * nI b = nI (a * b) := (Int32.ofNat_mul a b).symm
theorem pk_div {a d : Nat} (ha : a < 2 ^ 31) (h0 : 0 < d) (hd : d < 2 ^ 31) : nI a / nI d = nI (a / d) := by
  apply Int32.toInt_inj.mp
  rw [lg_idiv_nonneg (by rw [nI_toInt ha]; omega) (by rw [nI_toInt hd]; omega), nI_toInt ha, nI_toInt hd, nI_toInt (Nat.lt_of_le_of_lt (Nat.div_le_self a d) ha)]
  first | rfl | exact (Int.natCast_ediv _ _).symm
theorem pk_rem {a d : Nat} (ha : a < 2 ^ 31) (h0 : 0 < d) (hd : d < 2 ^ 31) : nI a - nI a / nI d * nI d = nI (a % d) := by
  rw [pk_div ha h0 hd, pk_mul, pk_sub (Nat.div_mul_le_self a d)]
  exact congrArg nI (by have := Nat.div_add_mod' a d; omega)
theorem pk_sub_toInt {a b : Nat} (ha : a < 2 ^ 30) (hb : b < 2 ^ 30) : (nI a - nI b).toInt = (a : Int) - b := by
  rw [Int32.toInt_sub, nI_toInt (by omega), nI_toInt (by omega)]
  exact Int.bmod_eq_of_le (by omega) (by omega)
theorem pk_sneg {a b : Nat} (hb : b < 2 ^ 30) (h : a < b) : nI a - nI b < 0 := by
  rw [Int32.lt_iff_toInt_lt, pk_sub_toInt (by omega) hb, show (0 : Int32).toInt = 0 from by decide]
  omega
theorem pk_ix (x : Int32) {n : Nat} (hn : n < 2 ^ 31) : x < 0 ∨ nI n ≤ x ∨ ∃ j : Nat, j < n ∧ x = nI j := by
  by_cases h : x < 0
  · exact Or.inl h
  · obtain ⟨j, hj, rfl⟩ := nI_of h
    by_cases h2 : j < n
    · exact Or.inr (Or.inr ⟨j, h2, rfl⟩)
    · exact Or.inr (Or.inl (nI_le (by omega) hj))
theorem pk_le {x y : Int32} {A B : Prop} (a b : Nat) (f : a ≤ b → A) (g : b < a → B) (hx : x = nI a := by rfl) (hy : y = nI b := by rfl) (ha : a < 2 ^ 31 := by omega) (hb : b < 2 ^ 31 := by omega) : (x ≤ y → A) ∧ (¬ x ≤ y → B) := by
  subst hx hy
  rw [nI_leI ha hb]
  exact ⟨f, fun z => g (by omega)⟩
theorem pk_lt {x y : Int32} {A B : Prop} (a b : Nat) (f : a < b → A) (g : b ≤ a → B) (hx : x = nI a := by rfl) (hy : y = nI b := by rfl) (ha : a < 2 ^ 31 := by omega) (hb : b < 2 ^ 31 := by omega) : (x < y → A) ∧ (¬ x < y → B) := by
  subst hx hy
  rw [nI_ltI ha hb]
  exact ⟨f, fun z => g (by omega)⟩
theorem pk_eq {x y : Int32} {A B : Prop} (a b : Nat) (f : a = b → A) (g : a ≠ b → B) (hx : x = nI a := by rfl) (hy : y = nI b := by rfl) (ha : a < 2 ^ 31 := by omega) (hb : b < 2 ^ 31 := by omega) : (x = y → A) ∧ (¬ x = y → B) := by
  subst hx hy
  rw [nI_eq ha hb]
  exact ⟨f, g⟩
theorem pk_in {x : Int32} (n N : Nat) (h : n < N) (hx : x = nI n := by rfl) (hN : N < 2 ^ 31 := by omega) : vp_in x N := by
  subst hx
  exact vp_in_nI h hN
theorem pk_cl {x : Int32} (n : Nat) (hx : x = nI n := by rfl) (h : n < 2 ^ 31 := by omega) : x.toNatClampNeg = n := by
  subst hx
  exact nI_clamp h
theorem pk_tn {n : Nat} (h : n < 2 ^ 32) : (nI n).toBitVec.toNat = n := Nat.mod_eq_of_lt h
theorem pk_and (x : Int32) {m : Int32} (k : Nat) (hm : m.toBitVec.toNat = 2 ^ k - 1) : x &&& m = nI (x.toBitVec.toNat % 2 ^ k) := by
  apply Int32.toBitVec_inj.mp
  apply BitVec.eq_of_toNat_eq
  rw [Int32.toBitVec_and, BitVec.toNat_and, hm, Nat.and_two_pow_sub_one_eq_mod]
  show _ = (BitVec.ofNat 32 _).toNat
  rw [BitVec.toNat_ofNat]
  exact (Nat.mod_eq_of_lt (Nat.lt_of_le_of_lt (Nat.mod_le _ _) x.toBitVec.isLt)).symm
theorem pk_andN {n : Nat} (h : n < 2 ^ 32) {m : Int32} (k : Nat) (hm : m.toBitVec.toNat = 2 ^ k - 1) : nI n &&& m = nI (n % 2 ^ k) := by
  rw [pk_and _ k hm, pk_tn h]
theorem pk_andE (x : Int32) {m : Int32} (k : Nat) (hm : m.toBitVec.toNat = 2 ^ k - 1) : ∃ j : Nat, j < 2 ^ k ∧ x &&& m = nI j := ⟨_, Nat.mod_lt _ (Nat.two_pow_pos k), pk_and x k hm⟩
theorem pk_andIn (x : Int32) {m : Int32} (k : Nat) (hm : m.toBitVec.toNat = 2 ^ k - 1) (hk : k ≤ 30) : vp_in (x &&& m) (2 ^ k) := by
  obtain ⟨j, hj, e⟩ := pk_andE x k hm
  rw [e]
  exact vp_in_nI hj (Nat.lt_of_le_of_lt (Nat.pow_le_pow_right (by decide) hk) (by decide))
theorem pk_shl (a s : Int32) (k : Nat) (hs : (s.toBitVec.smod 32).toNat = k) : (a <<< s).toBitVec.toNat = a.toBitVec.toNat * 2 ^ k % 2 ^ 32 := by
  show (a.toBitVec <<< (s.toBitVec.smod 32).toNat).toNat = _
  rw [hs, BitVec.toNat_shiftLeft, Nat.shiftLeft_eq]
theorem pk_shlN {n : Nat} (s : Int32) (k : Nat) (hs : (s.toBitVec.smod 32).toNat = k) (h : n * 2 ^ k < 2 ^ 32) : nI n <<< s = nI (n * 2 ^ k) := by
  apply Int32.toBitVec_inj.mp
  apply BitVec.eq_of_toNat_eq
  have hn : n < 2 ^ 32 := Nat.lt_of_le_of_lt (Nat.le_mul_of_pos_right n (Nat.two_pow_pos k)) h
  rw [pk_shl _ _ k hs, pk_tn hn, pk_tn h, Nat.mod_eq_of_lt h]
theorem pk_shr (a s : Int32) (k : Nat) (hs : (s.toBitVec.smod 32).toNat = k) : (a >>> s).toInt = a.toInt >>> k := by
  show (a.toBitVec.sshiftRight (s.toBitVec.smod 32).toNat).toInt = _
  rw [hs, BitVec.toInt_sshiftRight]
  rfl
theorem pk_shrN {n : Nat} (h : n < 2 ^ 31) (s : Int32) (k : Nat) (hs : (s.toBitVec.smod 32).toNat = k) : nI n >>> s = nI (n / 2 ^ k) := by
  apply Int32.toInt_inj.mp
  have h2 : n / 2 ^ k ≤ n := Nat.div_le_self _ _
  rw [pk_shr _ _ k hs, nI_toInt h, nI_toInt (by omega), Int.shiftRight_eq_div_pow]
  rfl
theorem pk_ushr (x s : Int32) (k : Nat) (hs : ((s.toUInt32 &&& Int32.toUInt32 31).toBitVec % 32).toNat = k) : (x.toUInt32 >>> (s.toUInt32 &&& Int32.toUInt32 31)).toInt32.toBitVec.toNat = x.toBitVec.toNat / 2 ^ k := by
  have e : (x.toUInt32 >>> (s.toUInt32 &&& Int32.toUInt32 31)).toInt32.toBitVec = x.toBitVec >>> k := by
    rw [← hs]
    exact UInt32.toBitVec_shiftRight _ _
  rw [e, BitVec.toNat_ushiftRight, Nat.shiftRight_eq_div_pow]
theorem pk_ushrN {n : Nat} (hn : n < 2 ^ 32) (s : Int32) (k : Nat) (hs : ((s.toUInt32 &&& Int32.toUInt32 31).toBitVec % 32).toNat = k) : ((nI n).toUInt32 >>> (s.toUInt32 &&& Int32.toUInt32 31)).toInt32 = nI (n / 2 ^ k) := by
  apply Int32.toBitVec_inj.mp
  apply BitVec.eq_of_toNat_eq
  rw [pk_ushr _ s k hs, pk_tn hn, pk_tn (Nat.lt_of_le_of_lt (Nat.div_le_self _ _) hn)]
theorem pk_nb (z : Int32) : narrow .byte (.int z.toInt8.toInt32) = .int z.toInt8.toInt32 := congrArg Value.int (by simp)
theorem pk_ns (z : Int32) : narrow .short (.int z.toInt16.toInt32) = .int z.toInt16.toInt32 := congrArg Value.int (by simp)
theorem pk_fb (r : Int32) : fits .byte (.int r.toInt8.toInt32) = true := by
  have ⟨a, b⟩ := lg_i2b_range r
  have h1 : (-128 : Int32).toInt = -128 := by decide
  have h2 : (127 : Int32).toInt = 127 := by decide
  simp only [fits, Bool.and_eq_true, decide_eq_true_eq, Int32.le_iff_toInt_le, h1, h2]
  omega
theorem pk_fs (r : Int32) : fits .short (.int r.toInt16.toInt32) = true := by
  have ⟨a, b⟩ := lg_i2s_range r
  have h1 : (-32768 : Int32).toInt = -32768 := by decide
  have h2 : (32767 : Int32).toInt = 32767 := by decide
  simp only [fits, Bool.and_eq_true, decide_eq_true_eq, Int32.le_iff_toInt_le, h1, h2]
  omega
theorem pk_charN {q : Nat} (hq : q < 65536) : narrow .char (.int (nI q)) = .int (nI q) ∧ fits .char (.int (nI q)) = true := by
  constructor
  · have e : (nI q).toUInt32.toUInt16.toUInt32.toInt32 = nI q := by
      apply Int32.toBitVec_inj.mp
      apply BitVec.eq_of_toNat_eq
      show (nI q).toUInt32.toUInt16.toUInt32.toNat = q % 2 ^ 32
      rw [UInt16.toNat_toUInt32, UInt32.toNat_toUInt16, show (nI q).toUInt32.toNat = q % 2 ^ 32 from rfl]
      omega
    exact congrArg Value.int e
  · have a : (0 : Int32) ≤ nI q := nI_pos' (by omega)
    have b : nI q ≤ 65535 := nI_le (b := 65535) (by omega) (by decide)
    show (decide ((0 : Int32) ≤ nI q) && decide (nI q ≤ 65535)) = true
    rw [decide_eq_true a, decide_eq_true b]
    rfl
theorem pk_char (x : Int32) : (x.toUInt32 % 65536).toInt32 = nI (x.toBitVec.toNat % 65536) := by
  apply Int32.toBitVec_inj.mp
  apply BitVec.eq_of_toNat_eq
  rw [pk_tn (by omega)]
  show (x.toUInt32 % 65536).toNat = _
  rw [UInt32.toNat_mod]
  rfl
theorem pk_nc (x : Int32) : narrow .char (.int (x.toUInt32 % 65536).toInt32) = .int (x.toUInt32 % 65536).toInt32 := by
  rw [pk_char]
  exact (pk_charN (Nat.mod_lt _ (by decide))).1
theorem pk_fc (x : Int32) : fits .char (.int (x.toUInt32 % 65536).toInt32) = true := by
  rw [pk_char]
  exact (pk_charN (Nat.mod_lt _ (by decide))).2
theorem pk_vb (z : Int32) : vp_nar .byte z.toInt8.toInt32 = z.toInt8.toInt32 := by rw [vp_nar_byte]; simp
theorem pk_vs (z : Int32) : vp_nar .short z.toInt16.toInt32 = z.toInt16.toInt32 := by rw [vp_nar_short]; simp
theorem pk_vc (z : Int32) : vp_nar .char (z.toUInt32 % 65536).toInt32 = (z.toUInt32 % 65536).toInt32 := Value.int.inj (pk_nc z)
theorem pk_lT {n : Nat} (h : n < 2 ^ 63) : (lN n).toInt = (n : Int) := lg_ofNat_toInt h
theorem pk_lLT {a b : Nat} (ha : a < 2 ^ 63) (hb : b < 2 ^ 63) : lN a < lN b ↔ a < b := by
  rw [Int64.lt_iff_toInt_lt, pk_lT ha, pk_lT hb]; omega
theorem pk_lLE {a b : Nat} (ha : a < 2 ^ 63) (hb : b < 2 ^ 63) : lN a ≤ lN b ↔ a ≤ b := by
  rw [Int64.le_iff_toInt_le, pk_lT ha, pk_lT hb]; omega
theorem pk_lEQ {a b : Nat} (ha : a < 2 ^ 63) (hb : b < 2 ^ 63) : lN a = lN b ↔ a = b := by
  rw [← Int64.toInt_inj, pk_lT ha, pk_lT hb]; omega
theorem pk_lOf {x : Int64} (h : ¬ x < 0) : ∃ k : Nat, k < 2 ^ 63 ∧ x = lN k := by
  rw [Int64.lt_iff_toInt_lt] at h
  have h0 : (0 : Int64).toInt = 0 := by decide
  have hx := Int64.toInt_lt x
  refine ⟨x.toInt.toNat, by omega, Int64.toInt_inj.mp ?_⟩
  rw [pk_lT (by omega)]
  omega
theorem pk_lDiv {a b : Nat} (ha : a < 2 ^ 63) (h0 : 0 < b) (hb : b < 2 ^ 63) : lN a / lN b = lN (a / b) := by
  apply Int64.toInt_inj.mp
  rw [lg_ldiv_nonneg (by rw [pk_lT ha]; omega) (by rw [pk_lT hb]; omega), pk_lT ha, pk_lT hb, pk_lT (Nat.lt_of_le_of_lt (Nat.div_le_self a b) ha)]
  rfl
theorem pk_lRem {a b : Nat} (ha : a < 2 ^ 63) (h0 : 0 < b) (hb : b < 2 ^ 63) : lN a - lN a / lN b * lN b = lN (a % b) := by
  rw [pk_lDiv ha h0 hb, lN_mul, lN_sub (Nat.div_mul_le_self a b)]
  exact congrArg lN (by have := Nat.div_add_mod' a b; omega)
theorem pk_loop {σ : Type} (W : Nat → Nat → σ → Prop) (I : Nat → σ → Prop) (e i0 : Nat) (s : σ) (hi : i0 ≤ e) (h0 : I i0 s) (hx : ∀ n s, I e s → W (n + 1) e s)
    (hs : ∀ n i s, i < e → I i s → (∀ s', I (i + 1) s' → W n (i + 1) s') → W (n + 1) i s) : ∃ n, W n i0 s :=
  ⟨e + 1, loop_i W I e hx hs (e + 1) i0 s hi (by omega) h0⟩
theorem pk_loopD {σ : Type} (W : Nat → Nat → σ → Prop) (I : Nat → σ → Prop) (hx : ∀ n s, I 0 s → W (n + 1) 0 s)
    (hs : ∀ n i s, I (i + 1) s → (∀ s', I i s' → W n i s') → W (n + 1) (i + 1) s) : ∀ (e : Nat) (s : σ), I e s → W (e + 1) e s := by
  intro e
  induction e with
  | zero => exact fun s h => hx 0 s h
  | succ e ih => exact fun s h => hs (e + 1) e s h (fun s' h' => ih s' h')
theorem lp1 {A1 : Type} (W : Nat → A1 → Prop) (I : A1 → Prop) (μ : A1 → Nat) (hs : ∀ (n : Nat) (a1 : A1), I a1 → (∀ (b1 : A1), I b1 → μ b1 < μ a1 → W n b1) → W (n + 1) a1) (a1 : A1) (h : I a1) : ∃ n, W n a1 :=
  loop_m (σ := A1) (fun n s => W n s) (fun s => I s) (fun s => μ s) (fun n s hI hk => hs n s hI (fun b1 h9 hm => hk b1 h9 hm)) a1 h
theorem lp2 {A1 A2 : Type} (W : Nat → A1 → A2 → Prop) (I : A1 → A2 → Prop) (μ : A1 → A2 → Nat) (hs : ∀ (n : Nat) (a1 : A1) (a2 : A2), I a1 a2 → (∀ (b1 : A1) (b2 : A2), I b1 b2 → μ b1 b2 < μ a1 a2 → W n b1 b2) → W (n + 1) a1 a2) (a1 : A1) (a2 : A2) (h : I a1 a2) : ∃ n, W n a1 a2 :=
  loop_m (σ := A1 × A2) (fun n s => W n s.1 s.2) (fun s => I s.1 s.2) (fun s => μ s.1 s.2) (fun n s hI hk => hs n s.1 s.2 hI (fun b1 b2 h9 hm => hk (b1, b2) h9 hm)) (a1, a2) h
theorem lp3 {A1 A2 A3 : Type} (W : Nat → A1 → A2 → A3 → Prop) (I : A1 → A2 → A3 → Prop) (μ : A1 → A2 → A3 → Nat) (hs : ∀ (n : Nat) (a1 : A1) (a2 : A2) (a3 : A3), I a1 a2 a3 → (∀ (b1 : A1) (b2 : A2) (b3 : A3), I b1 b2 b3 → μ b1 b2 b3 < μ a1 a2 a3 → W n b1 b2 b3) → W (n + 1) a1 a2 a3) (a1 : A1) (a2 : A2) (a3 : A3) (h : I a1 a2 a3) : ∃ n, W n a1 a2 a3 :=
  loop_m (σ := A1 × A2 × A3) (fun n s => W n s.1 s.2.1 s.2.2) (fun s => I s.1 s.2.1 s.2.2) (fun s => μ s.1 s.2.1 s.2.2) (fun n s hI hk => hs n s.1 s.2.1 s.2.2 hI (fun b1 b2 b3 h9 hm => hk (b1, b2, b3) h9 hm)) (a1, a2, a3) h
theorem lp4 {A1 A2 A3 A4 : Type} (W : Nat → A1 → A2 → A3 → A4 → Prop) (I : A1 → A2 → A3 → A4 → Prop) (μ : A1 → A2 → A3 → A4 → Nat) (hs : ∀ (n : Nat) (a1 : A1) (a2 : A2) (a3 : A3) (a4 : A4), I a1 a2 a3 a4 → (∀ (b1 : A1) (b2 : A2) (b3 : A3) (b4 : A4), I b1 b2 b3 b4 → μ b1 b2 b3 b4 < μ a1 a2 a3 a4 → W n b1 b2 b3 b4) → W (n + 1) a1 a2 a3 a4) (a1 : A1) (a2 : A2) (a3 : A3) (a4 : A4) (h : I a1 a2 a3 a4) : ∃ n, W n a1 a2 a3 a4 :=
  loop_m (σ := A1 × A2 × A3 × A4) (fun n s => W n s.1 s.2.1 s.2.2.1 s.2.2.2) (fun s => I s.1 s.2.1 s.2.2.1 s.2.2.2) (fun s => μ s.1 s.2.1 s.2.2.1 s.2.2.2) (fun n s hI hk => hs n s.1 s.2.1 s.2.2.1 s.2.2.2 hI (fun b1 b2 b3 b4 h9 hm => hk (b1, b2, b3, b4) h9 hm)) (a1, a2, a3, a4) h
theorem lp5 {A1 A2 A3 A4 A5 : Type} (W : Nat → A1 → A2 → A3 → A4 → A5 → Prop) (I : A1 → A2 → A3 → A4 → A5 → Prop) (μ : A1 → A2 → A3 → A4 → A5 → Nat) (hs : ∀ (n : Nat) (a1 : A1) (a2 : A2) (a3 : A3) (a4 : A4) (a5 : A5), I a1 a2 a3 a4 a5 → (∀ (b1 : A1) (b2 : A2) (b3 : A3) (b4 : A4) (b5 : A5), I b1 b2 b3 b4 b5 → μ b1 b2 b3 b4 b5 < μ a1 a2 a3 a4 a5 → W n b1 b2 b3 b4 b5) → W (n + 1) a1 a2 a3 a4 a5) (a1 : A1) (a2 : A2) (a3 : A3) (a4 : A4) (a5 : A5) (h : I a1 a2 a3 a4 a5) : ∃ n, W n a1 a2 a3 a4 a5 :=
  loop_m (σ := A1 × A2 × A3 × A4 × A5) (fun n s => W n s.1 s.2.1 s.2.2.1 s.2.2.2.1 s.2.2.2.2) (fun s => I s.1 s.2.1 s.2.2.1 s.2.2.2.1 s.2.2.2.2) (fun s => μ s.1 s.2.1 s.2.2.1 s.2.2.2.1 s.2.2.2.2) (fun n s hI hk => hs n s.1 s.2.1 s.2.2.1 s.2.2.2.1 s.2.2.2.2 hI (fun b1 b2 b3 b4 b5 h9 hm => hk (b1, b2, b3, b4, b5) h9 hm)) (a1, a2, a3, a4, a5) h
theorem lp6 {A1 A2 A3 A4 A5 A6 : Type} (W : Nat → A1 → A2 → A3 → A4 → A5 → A6 → Prop) (I : A1 → A2 → A3 → A4 → A5 → A6 → Prop) (μ : A1 → A2 → A3 → A4 → A5 → A6 → Nat) (hs : ∀ (n : Nat) (a1 : A1) (a2 : A2) (a3 : A3) (a4 : A4) (a5 : A5) (a6 : A6), I a1 a2 a3 a4 a5 a6 → (∀ (b1 : A1) (b2 : A2) (b3 : A3) (b4 : A4) (b5 : A5) (b6 : A6), I b1 b2 b3 b4 b5 b6 → μ b1 b2 b3 b4 b5 b6 < μ a1 a2 a3 a4 a5 a6 → W n b1 b2 b3 b4 b5 b6) → W (n + 1) a1 a2 a3 a4 a5 a6) (a1 : A1) (a2 : A2) (a3 : A3) (a4 : A4) (a5 : A5) (a6 : A6) (h : I a1 a2 a3 a4 a5 a6) : ∃ n, W n a1 a2 a3 a4 a5 a6 :=
  loop_m (σ := A1 × A2 × A3 × A4 × A5 × A6) (fun n s => W n s.1 s.2.1 s.2.2.1 s.2.2.2.1 s.2.2.2.2.1 s.2.2.2.2.2) (fun s => I s.1 s.2.1 s.2.2.1 s.2.2.2.1 s.2.2.2.2.1 s.2.2.2.2.2) (fun s => μ s.1 s.2.1 s.2.2.1 s.2.2.2.1 s.2.2.2.2.1 s.2.2.2.2.2) (fun n s hI hk => hs n s.1 s.2.1 s.2.2.1 s.2.2.2.1 s.2.2.2.2.1 s.2.2.2.2.2 hI (fun b1 b2 b3 b4 b5 b6 h9 hm => hk (b1, b2, b3, b4, b5, b6) h9 hm)) (a1, a2, a3, a4, a5, a6) h
theorem lp7 {A1 A2 A3 A4 A5 A6 A7 : Type} (W : Nat → A1 → A2 → A3 → A4 → A5 → A6 → A7 → Prop) (I : A1 → A2 → A3 → A4 → A5 → A6 → A7 → Prop) (μ : A1 → A2 → A3 → A4 → A5 → A6 → A7 → Nat) (hs : ∀ (n : Nat) (a1 : A1) (a2 : A2) (a3 : A3) (a4 : A4) (a5 : A5) (a6 : A6) (a7 : A7), I a1 a2 a3 a4 a5 a6 a7 → (∀ (b1 : A1) (b2 : A2) (b3 : A3) (b4 : A4) (b5 : A5) (b6 : A6) (b7 : A7), I b1 b2 b3 b4 b5 b6 b7 → μ b1 b2 b3 b4 b5 b6 b7 < μ a1 a2 a3 a4 a5 a6 a7 → W n b1 b2 b3 b4 b5 b6 b7) → W (n + 1) a1 a2 a3 a4 a5 a6 a7) (a1 : A1) (a2 : A2) (a3 : A3) (a4 : A4) (a5 : A5) (a6 : A6) (a7 : A7) (h : I a1 a2 a3 a4 a5 a6 a7) : ∃ n, W n a1 a2 a3 a4 a5 a6 a7 :=
  loop_m (σ := A1 × A2 × A3 × A4 × A5 × A6 × A7) (fun n s => W n s.1 s.2.1 s.2.2.1 s.2.2.2.1 s.2.2.2.2.1 s.2.2.2.2.2.1 s.2.2.2.2.2.2) (fun s => I s.1 s.2.1 s.2.2.1 s.2.2.2.1 s.2.2.2.2.1 s.2.2.2.2.2.1 s.2.2.2.2.2.2) (fun s => μ s.1 s.2.1 s.2.2.1 s.2.2.2.1 s.2.2.2.2.1 s.2.2.2.2.2.1 s.2.2.2.2.2.2) (fun n s hI hk => hs n s.1 s.2.1 s.2.2.1 s.2.2.2.1 s.2.2.2.2.1 s.2.2.2.2.2.1 s.2.2.2.2.2.2 hI (fun b1 b2 b3 b4 b5 b6 b7 h9 hm => hk (b1, b2, b3, b4, b5, b6, b7) h9 hm)) (a1, a2, a3, a4, a5, a6, a7) h
theorem lp8 {A1 A2 A3 A4 A5 A6 A7 A8 : Type} (W : Nat → A1 → A2 → A3 → A4 → A5 → A6 → A7 → A8 → Prop) (I : A1 → A2 → A3 → A4 → A5 → A6 → A7 → A8 → Prop) (μ : A1 → A2 → A3 → A4 → A5 → A6 → A7 → A8 → Nat) (hs : ∀ (n : Nat) (a1 : A1) (a2 : A2) (a3 : A3) (a4 : A4) (a5 : A5) (a6 : A6) (a7 : A7) (a8 : A8), I a1 a2 a3 a4 a5 a6 a7 a8 → (∀ (b1 : A1) (b2 : A2) (b3 : A3) (b4 : A4) (b5 : A5) (b6 : A6) (b7 : A7) (b8 : A8), I b1 b2 b3 b4 b5 b6 b7 b8 → μ b1 b2 b3 b4 b5 b6 b7 b8 < μ a1 a2 a3 a4 a5 a6 a7 a8 → W n b1 b2 b3 b4 b5 b6 b7 b8) → W (n + 1) a1 a2 a3 a4 a5 a6 a7 a8) (a1 : A1) (a2 : A2) (a3 : A3) (a4 : A4) (a5 : A5) (a6 : A6) (a7 : A7) (a8 : A8) (h : I a1 a2 a3 a4 a5 a6 a7 a8) : ∃ n, W n a1 a2 a3 a4 a5 a6 a7 a8 :=
  loop_m (σ := A1 × A2 × A3 × A4 × A5 × A6 × A7 × A8) (fun n s => W n s.1 s.2.1 s.2.2.1 s.2.2.2.1 s.2.2.2.2.1 s.2.2.2.2.2.1 s.2.2.2.2.2.2.1 s.2.2.2.2.2.2.2) (fun s => I s.1 s.2.1 s.2.2.1 s.2.2.2.1 s.2.2.2.2.1 s.2.2.2.2.2.1 s.2.2.2.2.2.2.1 s.2.2.2.2.2.2.2) (fun s => μ s.1 s.2.1 s.2.2.1 s.2.2.2.1 s.2.2.2.2.1 s.2.2.2.2.2.1 s.2.2.2.2.2.2.1 s.2.2.2.2.2.2.2) (fun n s hI hk => hs n s.1 s.2.1 s.2.2.1 s.2.2.2.1 s.2.2.2.2.1 s.2.2.2.2.2.1 s.2.2.2.2.2.2.1 s.2.2.2.2.2.2.2 hI (fun b1 b2 b3 b4 b5 b6 b7 b8 h9 hm => hk (b1, b2, b3, b4, b5, b6, b7, b8) h9 hm)) (a1, a2, a3, a4, a5, a6, a7, a8) h
theorem lp9 {A1 A2 A3 A4 A5 A6 A7 A8 A9 : Type} (W : Nat → A1 → A2 → A3 → A4 → A5 → A6 → A7 → A8 → A9 → Prop) (I : A1 → A2 → A3 → A4 → A5 → A6 → A7 → A8 → A9 → Prop) (μ : A1 → A2 → A3 → A4 → A5 → A6 → A7 → A8 → A9 → Nat) (hs : ∀ (n : Nat) (a1 : A1) (a2 : A2) (a3 : A3) (a4 : A4) (a5 : A5) (a6 : A6) (a7 : A7) (a8 : A8) (a9 : A9), I a1 a2 a3 a4 a5 a6 a7 a8 a9 → (∀ (b1 : A1) (b2 : A2) (b3 : A3) (b4 : A4) (b5 : A5) (b6 : A6) (b7 : A7) (b8 : A8) (b9 : A9), I b1 b2 b3 b4 b5 b6 b7 b8 b9 → μ b1 b2 b3 b4 b5 b6 b7 b8 b9 < μ a1 a2 a3 a4 a5 a6 a7 a8 a9 → W n b1 b2 b3 b4 b5 b6 b7 b8 b9) → W (n + 1) a1 a2 a3 a4 a5 a6 a7 a8 a9) (a1 : A1) (a2 : A2) (a3 : A3) (a4 : A4) (a5 : A5) (a6 : A6) (a7 : A7) (a8 : A8) (a9 : A9) (h : I a1 a2 a3 a4 a5 a6 a7 a8 a9) : ∃ n, W n a1 a2 a3 a4 a5 a6 a7 a8 a9 :=
  loop_m (σ := A1 × A2 × A3 × A4 × A5 × A6 × A7 × A8 × A9) (fun n s => W n s.1 s.2.1 s.2.2.1 s.2.2.2.1 s.2.2.2.2.1 s.2.2.2.2.2.1 s.2.2.2.2.2.2.1 s.2.2.2.2.2.2.2.1 s.2.2.2.2.2.2.2.2) (fun s => I s.1 s.2.1 s.2.2.1 s.2.2.2.1 s.2.2.2.2.1 s.2.2.2.2.2.1 s.2.2.2.2.2.2.1 s.2.2.2.2.2.2.2.1 s.2.2.2.2.2.2.2.2) (fun s => μ s.1 s.2.1 s.2.2.1 s.2.2.2.1 s.2.2.2.2.1 s.2.2.2.2.2.1 s.2.2.2.2.2.2.1 s.2.2.2.2.2.2.2.1 s.2.2.2.2.2.2.2.2) (fun n s hI hk => hs n s.1 s.2.1 s.2.2.1 s.2.2.2.1 s.2.2.2.2.1 s.2.2.2.2.2.1 s.2.2.2.2.2.2.1 s.2.2.2.2.2.2.2.1 s.2.2.2.2.2.2.2.2 hI (fun b1 b2 b3 b4 b5 b6 b7 b8 b9 h9 hm => hk (b1, b2, b3, b4, b5, b6, b7, b8, b9) h9 hm)) (a1, a2, a3, a4, a5, a6, a7, a8, a9) h
theorem lp10 {A1 A2 A3 A4 A5 A6 A7 A8 A9 A10 : Type} (W : Nat → A1 → A2 → A3 → A4 → A5 → A6 → A7 → A8 → A9 → A10 → Prop) (I : A1 → A2 → A3 → A4 → A5 → A6 → A7 → A8 → A9 → A10 → Prop) (μ : A1 → A2 → A3 → A4 → A5 → A6 → A7 → A8 → A9 → A10 → Nat) (hs : ∀ (n : Nat) (a1 : A1) (a2 : A2) (a3 : A3) (a4 : A4) (a5 : A5) (a6 : A6) (a7 : A7) (a8 : A8) (a9 : A9) (a10 : A10), I a1 a2 a3 a4 a5 a6 a7 a8 a9 a10 → (∀ (b1 : A1) (b2 : A2) (b3 : A3) (b4 : A4) (b5 : A5) (b6 : A6) (b7 : A7) (b8 : A8) (b9 : A9) (b10 : A10), I b1 b2 b3 b4 b5 b6 b7 b8 b9 b10 → μ b1 b2 b3 b4 b5 b6 b7 b8 b9 b10 < μ a1 a2 a3 a4 a5 a6 a7 a8 a9 a10 → W n b1 b2 b3 b4 b5 b6 b7 b8 b9 b10) → W (n + 1) a1 a2 a3 a4 a5 a6 a7 a8 a9 a10) (a1 : A1) (a2 : A2) (a3 : A3) (a4 : A4) (a5 : A5) (a6 : A6) (a7 : A7) (a8 : A8) (a9 : A9) (a10 : A10) (h : I a1 a2 a3 a4 a5 a6 a7 a8 a9 a10) : ∃ n, W n a1 a2 a3 a4 a5 a6 a7 a8 a9 a10 :=
  loop_m (σ := A1 × A2 × A3 × A4 × A5 × A6 × A7 × A8 × A9 × A10) (fun n s => W n s.1 s.2.1 s.2.2.1 s.2.2.2.1 s.2.2.2.2.1 s.2.2.2.2.2.1 s.2.2.2.2.2.2.1 s.2.2.2.2.2.2.2.1 s.2.2.2.2.2.2.2.2.1 s.2.2.2.2.2.2.2.2.2) (fun s => I s.1 s.2.1 s.2.2.1 s.2.2.2.1 s.2.2.2.2.1 s.2.2.2.2.2.1 s.2.2.2.2.2.2.1 s.2.2.2.2.2.2.2.1 s.2.2.2.2.2.2.2.2.1 s.2.2.2.2.2.2.2.2.2) (fun s => μ s.1 s.2.1 s.2.2.1 s.2.2.2.1 s.2.2.2.2.1 s.2.2.2.2.2.1 s.2.2.2.2.2.2.1 s.2.2.2.2.2.2.2.1 s.2.2.2.2.2.2.2.2.1 s.2.2.2.2.2.2.2.2.2) (fun n s hI hk => hs n s.1 s.2.1 s.2.2.1 s.2.2.2.1 s.2.2.2.2.1 s.2.2.2.2.2.1 s.2.2.2.2.2.2.1 s.2.2.2.2.2.2.2.1 s.2.2.2.2.2.2.2.2.1 s.2.2.2.2.2.2.2.2.2 hI (fun b1 b2 b3 b4 b5 b6 b7 b8 b9 b10 h9 hm => hk (b1, b2, b3, b4, b5, b6, b7, b8, b9, b10) h9 hm)) (a1, a2, a3, a4, a5, a6, a7, a8, a9, a10) h
theorem lp11 {A1 A2 A3 A4 A5 A6 A7 A8 A9 A10 A11 : Type} (W : Nat → A1 → A2 → A3 → A4 → A5 → A6 → A7 → A8 → A9 → A10 → A11 → Prop) (I : A1 → A2 → A3 → A4 → A5 → A6 → A7 → A8 → A9 → A10 → A11 → Prop) (μ : A1 → A2 → A3 → A4 → A5 → A6 → A7 → A8 → A9 → A10 → A11 → Nat) (hs : ∀ (n : Nat) (a1 : A1) (a2 : A2) (a3 : A3) (a4 : A4) (a5 : A5) (a6 : A6) (a7 : A7) (a8 : A8) (a9 : A9) (a10 : A10) (a11 : A11), I a1 a2 a3 a4 a5 a6 a7 a8 a9 a10 a11 → (∀ (b1 : A1) (b2 : A2) (b3 : A3) (b4 : A4) (b5 : A5) (b6 : A6) (b7 : A7) (b8 : A8) (b9 : A9) (b10 : A10) (b11 : A11), I b1 b2 b3 b4 b5 b6 b7 b8 b9 b10 b11 → μ b1 b2 b3 b4 b5 b6 b7 b8 b9 b10 b11 < μ a1 a2 a3 a4 a5 a6 a7 a8 a9 a10 a11 → W n b1 b2 b3 b4 b5 b6 b7 b8 b9 b10 b11) → W (n + 1) a1 a2 a3 a4 a5 a6 a7 a8 a9 a10 a11) (a1 : A1) (a2 : A2) (a3 : A3) (a4 : A4) (a5 : A5) (a6 : A6) (a7 : A7) (a8 : A8) (a9 : A9) (a10 : A10) (a11 : A11) (h : I a1 a2 a3 a4 a5 a6 a7 a8 a9 a10 a11) : ∃ n, W n a1 a2 a3 a4 a5 a6 a7 a8 a9 a10 a11 :=
  loop_m (σ := A1 × A2 × A3 × A4 × A5 × A6 × A7 × A8 × A9 × A10 × A11) (fun n s => W n s.1 s.2.1 s.2.2.1 s.2.2.2.1 s.2.2.2.2.1 s.2.2.2.2.2.1 s.2.2.2.2.2.2.1 s.2.2.2.2.2.2.2.1 s.2.2.2.2.2.2.2.2.1 s.2.2.2.2.2.2.2.2.2.1 s.2.2.2.2.2.2.2.2.2.2) (fun s => I s.1 s.2.1 s.2.2.1 s.2.2.2.1 s.2.2.2.2.1 s.2.2.2.2.2.1 s.2.2.2.2.2.2.1 s.2.2.2.2.2.2.2.1 s.2.2.2.2.2.2.2.2.1 s.2.2.2.2.2.2.2.2.2.1 s.2.2.2.2.2.2.2.2.2.2) (fun s => μ s.1 s.2.1 s.2.2.1 s.2.2.2.1 s.2.2.2.2.1 s.2.2.2.2.2.1 s.2.2.2.2.2.2.1 s.2.2.2.2.2.2.2.1 s.2.2.2.2.2.2.2.2.1 s.2.2.2.2.2.2.2.2.2.1 s.2.2.2.2.2.2.2.2.2.2) (fun n s hI hk => hs n s.1 s.2.1 s.2.2.1 s.2.2.2.1 s.2.2.2.2.1 s.2.2.2.2.2.1 s.2.2.2.2.2.2.1 s.2.2.2.2.2.2.2.1 s.2.2.2.2.2.2.2.2.1 s.2.2.2.2.2.2.2.2.2.1 s.2.2.2.2.2.2.2.2.2.2 hI (fun b1 b2 b3 b4 b5 b6 b7 b8 b9 b10 b11 h9 hm => hk (b1, b2, b3, b4, b5, b6, b7, b8, b9, b10, b11) h9 hm)) (a1, a2, a3, a4, a5, a6, a7, a8, a9, a10, a11) h
theorem lp12 {A1 A2 A3 A4 A5 A6 A7 A8 A9 A10 A11 A12 : Type} (W : Nat → A1 → A2 → A3 → A4 → A5 → A6 → A7 → A8 → A9 → A10 → A11 → A12 → Prop) (I : A1 → A2 → A3 → A4 → A5 → A6 → A7 → A8 → A9 → A10 → A11 → A12 → Prop) (μ : A1 → A2 → A3 → A4 → A5 → A6 → A7 → A8 → A9 → A10 → A11 → A12 → Nat) (hs : ∀ (n : Nat) (a1 : A1) (a2 : A2) (a3 : A3) (a4 : A4) (a5 : A5) (a6 : A6) (a7 : A7) (a8 : A8) (a9 : A9) (a10 : A10) (a11 : A11) (a12 : A12), I a1 a2 a3 a4 a5 a6 a7 a8 a9 a10 a11 a12 → (∀ (b1 : A1) (b2 : A2) (b3 : A3) (b4 : A4) (b5 : A5) (b6 : A6) (b7 : A7) (b8 : A8) (b9 : A9) (b10 : A10) (b11 : A11) (b12 : A12), I b1 b2 b3 b4 b5 b6 b7 b8 b9 b10 b11 b12 → μ b1 b2 b3 b4 b5 b6 b7 b8 b9 b10 b11 b12 < μ a1 a2 a3 a4 a5 a6 a7 a8 a9 a10 a11 a12 → W n b1 b2 b3 b4 b5 b6 b7 b8 b9 b10 b11 b12) → W (n + 1) a1 a2 a3 a4 a5 a6 a7 a8 a9 a10 a11 a12) (a1 : A1) (a2 : A2) (a3 : A3) (a4 : A4) (a5 : A5) (a6 : A6) (a7 : A7) (a8 : A8) (a9 : A9) (a10 : A10) (a11 : A11) (a12 : A12) (h : I a1 a2 a3 a4 a5 a6 a7 a8 a9 a10 a11 a12) : ∃ n, W n a1 a2 a3 a4 a5 a6 a7 a8 a9 a10 a11 a12 :=
  loop_m (σ := A1 × A2 × A3 × A4 × A5 × A6 × A7 × A8 × A9 × A10 × A11 × A12) (fun n s => W n s.1 s.2.1 s.2.2.1 s.2.2.2.1 s.2.2.2.2.1 s.2.2.2.2.2.1 s.2.2.2.2.2.2.1 s.2.2.2.2.2.2.2.1 s.2.2.2.2.2.2.2.2.1 s.2.2.2.2.2.2.2.2.2.1 s.2.2.2.2.2.2.2.2.2.2.1 s.2.2.2.2.2.2.2.2.2.2.2) (fun s => I s.1 s.2.1 s.2.2.1 s.2.2.2.1 s.2.2.2.2.1 s.2.2.2.2.2.1 s.2.2.2.2.2.2.1 s.2.2.2.2.2.2.2.1 s.2.2.2.2.2.2.2.2.1 s.2.2.2.2.2.2.2.2.2.1 s.2.2.2.2.2.2.2.2.2.2.1 s.2.2.2.2.2.2.2.2.2.2.2) (fun s => μ s.1 s.2.1 s.2.2.1 s.2.2.2.1 s.2.2.2.2.1 s.2.2.2.2.2.1 s.2.2.2.2.2.2.1 s.2.2.2.2.2.2.2.1 s.2.2.2.2.2.2.2.2.1 s.2.2.2.2.2.2.2.2.2.1 s.2.2.2.2.2.2.2.2.2.2.1 s.2.2.2.2.2.2.2.2.2.2.2) (fun n s hI hk => hs n s.1 s.2.1 s.2.2.1 s.2.2.2.1 s.2.2.2.2.1 s.2.2.2.2.2.1 s.2.2.2.2.2.2.1 s.2.2.2.2.2.2.2.1 s.2.2.2.2.2.2.2.2.1 s.2.2.2.2.2.2.2.2.2.1 s.2.2.2.2.2.2.2.2.2.2.1 s.2.2.2.2.2.2.2.2.2.2.2 hI (fun b1 b2 b3 b4 b5 b6 b7 b8 b9 b10 b11 b12 h9 hm => hk (b1, b2, b3, b4, b5, b6, b7, b8, b9, b10, b11, b12) h9 hm)) (a1, a2, a3, a4, a5, a6, a7, a8, a9, a10, a11, a12) h
theorem lp13 {A1 A2 A3 A4 A5 A6 A7 A8 A9 A10 A11 A12 A13 : Type} (W : Nat → A1 → A2 → A3 → A4 → A5 → A6 → A7 → A8 → A9 → A10 → A11 → A12 → A13 → Prop) (I : A1 → A2 → A3 → A4 → A5 → A6 → A7 → A8 → A9 → A10 → A11 → A12 → A13 → Prop) (μ : A1 → A2 → A3 → A4 → A5 → A6 → A7 → A8 → A9 → A10 → A11 → A12 → A13 → Nat) (hs : ∀ (n : Nat) (a1 : A1) (a2 : A2) (a3 : A3) (a4 : A4) (a5 : A5) (a6 : A6) (a7 : A7) (a8 : A8) (a9 : A9) (a10 : A10) (a11 : A11) (a12 : A12) (a13 : A13), I a1 a2 a3 a4 a5 a6 a7 a8 a9 a10 a11 a12 a13 → (∀ (b1 : A1) (b2 : A2) (b3 : A3) (b4 : A4) (b5 : A5) (b6 : A6) (b7 : A7) (b8 : A8) (b9 : A9) (b10 : A10) (b11 : A11) (b12 : A12) (b13 : A13), I b1 b2 b3 b4 b5 b6 b7 b8 b9 b10 b11 b12 b13 → μ b1 b2 b3 b4 b5 b6 b7 b8 b9 b10 b11 b12 b13 < μ a1 a2 a3 a4 a5 a6 a7 a8 a9 a10 a11 a12 a13 → W n b1 b2 b3 b4 b5 b6 b7 b8 b9 b10 b11 b12 b13) → W (n + 1) a1 a2 a3 a4 a5 a6 a7 a8 a9 a10 a11 a12 a13) (a1 : A1) (a2 : A2) (a3 : A3) (a4 : A4) (a5 : A5) (a6 : A6) (a7 : A7) (a8 : A8) (a9 : A9) (a10 : A10) (a11 : A11) (a12 : A12) (a13 : A13) (h : I a1 a2 a3 a4 a5 a6 a7 a8 a9 a10 a11 a12 a13) : ∃ n, W n a1 a2 a3 a4 a5 a6 a7 a8 a9 a10 a11 a12 a13 :=
  loop_m (σ := A1 × A2 × A3 × A4 × A5 × A6 × A7 × A8 × A9 × A10 × A11 × A12 × A13) (fun n s => W n s.1 s.2.1 s.2.2.1 s.2.2.2.1 s.2.2.2.2.1 s.2.2.2.2.2.1 s.2.2.2.2.2.2.1 s.2.2.2.2.2.2.2.1 s.2.2.2.2.2.2.2.2.1 s.2.2.2.2.2.2.2.2.2.1 s.2.2.2.2.2.2.2.2.2.2.1 s.2.2.2.2.2.2.2.2.2.2.2.1 s.2.2.2.2.2.2.2.2.2.2.2.2) (fun s => I s.1 s.2.1 s.2.2.1 s.2.2.2.1 s.2.2.2.2.1 s.2.2.2.2.2.1 s.2.2.2.2.2.2.1 s.2.2.2.2.2.2.2.1 s.2.2.2.2.2.2.2.2.1 s.2.2.2.2.2.2.2.2.2.1 s.2.2.2.2.2.2.2.2.2.2.1 s.2.2.2.2.2.2.2.2.2.2.2.1 s.2.2.2.2.2.2.2.2.2.2.2.2) (fun s => μ s.1 s.2.1 s.2.2.1 s.2.2.2.1 s.2.2.2.2.1 s.2.2.2.2.2.1 s.2.2.2.2.2.2.1 s.2.2.2.2.2.2.2.1 s.2.2.2.2.2.2.2.2.1 s.2.2.2.2.2.2.2.2.2.1 s.2.2.2.2.2.2.2.2.2.2.1 s.2.2.2.2.2.2.2.2.2.2.2.1 s.2.2.2.2.2.2.2.2.2.2.2.2) (fun n s hI hk => hs n s.1 s.2.1 s.2.2.1 s.2.2.2.1 s.2.2.2.2.1 s.2.2.2.2.2.1 s.2.2.2.2.2.2.1 s.2.2.2.2.2.2.2.1 s.2.2.2.2.2.2.2.2.1 s.2.2.2.2.2.2.2.2.2.1 s.2.2.2.2.2.2.2.2.2.2.1 s.2.2.2.2.2.2.2.2.2.2.2.1 s.2.2.2.2.2.2.2.2.2.2.2.2 hI (fun b1 b2 b3 b4 b5 b6 b7 b8 b9 b10 b11 b12 b13 h9 hm => hk (b1, b2, b3, b4, b5, b6, b7, b8, b9, b10, b11, b12, b13) h9 hm)) (a1, a2, a3, a4, a5, a6, a7, a8, a9, a10, a11, a12, a13) h
theorem lp14 {A1 A2 A3 A4 A5 A6 A7 A8 A9 A10 A11 A12 A13 A14 : Type} (W : Nat → A1 → A2 → A3 → A4 → A5 → A6 → A7 → A8 → A9 → A10 → A11 → A12 → A13 → A14 → Prop) (I : A1 → A2 → A3 → A4 → A5 → A6 → A7 → A8 → A9 → A10 → A11 → A12 → A13 → A14 → Prop) (μ : A1 → A2 → A3 → A4 → A5 → A6 → A7 → A8 → A9 → A10 → A11 → A12 → A13 → A14 → Nat) (hs : ∀ (n : Nat) (a1 : A1) (a2 : A2) (a3 : A3) (a4 : A4) (a5 : A5) (a6 : A6) (a7 : A7) (a8 : A8) (a9 : A9) (a10 : A10) (a11 : A11) (a12 : A12) (a13 : A13) (a14 : A14), I a1 a2 a3 a4 a5 a6 a7 a8 a9 a10 a11 a12 a13 a14 → (∀ (b1 : A1) (b2 : A2) (b3 : A3) (b4 : A4) (b5 : A5) (b6 : A6) (b7 : A7) (b8 : A8) (b9 : A9) (b10 : A10) (b11 : A11) (b12 : A12) (b13 : A13) (b14 : A14), I b1 b2 b3 b4 b5 b6 b7 b8 b9 b10 b11 b12 b13 b14 → μ b1 b2 b3 b4 b5 b6 b7 b8 b9 b10 b11 b12 b13 b14 < μ a1 a2 a3 a4 a5 a6 a7 a8 a9 a10 a11 a12 a13 a14 → W n b1 b2 b3 b4 b5 b6 b7 b8 b9 b10 b11 b12 b13 b14) → W (n + 1) a1 a2 a3 a4 a5 a6 a7 a8 a9 a10 a11 a12 a13 a14) (a1 : A1) (a2 : A2) (a3 : A3) (a4 : A4) (a5 : A5) (a6 : A6) (a7 : A7) (a8 : A8) (a9 : A9) (a10 : A10) (a11 : A11) (a12 : A12) (a13 : A13) (a14 : A14) (h : I a1 a2 a3 a4 a5 a6 a7 a8 a9 a10 a11 a12 a13 a14) : ∃ n, W n a1 a2 a3 a4 a5 a6 a7 a8 a9 a10 a11 a12 a13 a14 :=
  loop_m (σ := A1 × A2 × A3 × A4 × A5 × A6 × A7 × A8 × A9 × A10 × A11 × A12 × A13 × A14) (fun n s => W n s.1 s.2.1 s.2.2.1 s.2.2.2.1 s.2.2.2.2.1 s.2.2.2.2.2.1 s.2.2.2.2.2.2.1 s.2.2.2.2.2.2.2.1 s.2.2.2.2.2.2.2.2.1 s.2.2.2.2.2.2.2.2.2.1 s.2.2.2.2.2.2.2.2.2.2.1 s.2.2.2.2.2.2.2.2.2.2.2.1 s.2.2.2.2.2.2.2.2.2.2.2.2.1 s.2.2.2.2.2.2.2.2.2.2.2.2.2) (fun s => I s.1 s.2.1 s.2.2.1 s.2.2.2.1 s.2.2.2.2.1 s.2.2.2.2.2.1 s.2.2.2.2.2.2.1 s.2.2.2.2.2.2.2.1 s.2.2.2.2.2.2.2.2.1 s.2.2.2.2.2.2.2.2.2.1 s.2.2.2.2.2.2.2.2.2.2.1 s.2.2.2.2.2.2.2.2.2.2.2.1 s.2.2.2.2.2.2.2.2.2.2.2.2.1 s.2.2.2.2.2.2.2.2.2.2.2.2.2) (fun s => μ s.1 s.2.1 s.2.2.1 s.2.2.2.1 s.2.2.2.2.1 s.2.2.2.2.2.1 s.2.2.2.2.2.2.1 s.2.2.2.2.2.2.2.1 s.2.2.2.2.2.2.2.2.1 s.2.2.2.2.2.2.2.2.2.1 s.2.2.2.2.2.2.2.2.2.2.1 s.2.2.2.2.2.2.2.2.2.2.2.1 s.2.2.2.2.2.2.2.2.2.2.2.2.1 s.2.2.2.2.2.2.2.2.2.2.2.2.2) (fun n s hI hk => hs n s.1 s.2.1 s.2.2.1 s.2.2.2.1 s.2.2.2.2.1 s.2.2.2.2.2.1 s.2.2.2.2.2.2.1 s.2.2.2.2.2.2.2.1 s.2.2.2.2.2.2.2.2.1 s.2.2.2.2.2.2.2.2.2.1 s.2.2.2.2.2.2.2.2.2.2.1 s.2.2.2.2.2.2.2.2.2.2.2.1 s.2.2.2.2.2.2.2.2.2.2.2.2.1 s.2.2.2.2.2.2.2.2.2.2.2.2.2 hI (fun b1 b2 b3 b4 b5 b6 b7 b8 b9 b10 b11 b12 b13 b14 h9 hm => hk (b1, b2, b3, b4, b5, b6, b7, b8, b9, b10, b11, b12, b13, b14) h9 hm)) (a1, a2, a3, a4, a5, a6, a7, a8, a9, a10, a11, a12, a13, a14) h
theorem lp15 {A1 A2 A3 A4 A5 A6 A7 A8 A9 A10 A11 A12 A13 A14 A15 : Type} (W : Nat → A1 → A2 → A3 → A4 → A5 → A6 → A7 → A8 → A9 → A10 → A11 → A12 → A13 → A14 → A15 → Prop) (I : A1 → A2 → A3 → A4 → A5 → A6 → A7 → A8 → A9 → A10 → A11 → A12 → A13 → A14 → A15 → Prop) (μ : A1 → A2 → A3 → A4 → A5 → A6 → A7 → A8 → A9 → A10 → A11 → A12 → A13 → A14 → A15 → Nat) (hs : ∀ (n : Nat) (a1 : A1) (a2 : A2) (a3 : A3) (a4 : A4) (a5 : A5) (a6 : A6) (a7 : A7) (a8 : A8) (a9 : A9) (a10 : A10) (a11 : A11) (a12 : A12) (a13 : A13) (a14 : A14) (a15 : A15), I a1 a2 a3 a4 a5 a6 a7 a8 a9 a10 a11 a12 a13 a14 a15 → (∀ (b1 : A1) (b2 : A2) (b3 : A3) (b4 : A4) (b5 : A5) (b6 : A6) (b7 : A7) (b8 : A8) (b9 : A9) (b10 : A10) (b11 : A11) (b12 : A12) (b13 : A13) (b14 : A14) (b15 : A15), I b1 b2 b3 b4 b5 b6 b7 b8 b9 b10 b11 b12 b13 b14 b15 → μ b1 b2 b3 b4 b5 b6 b7 b8 b9 b10 b11 b12 b13 b14 b15 < μ a1 a2 a3 a4 a5 a6 a7 a8 a9 a10 a11 a12 a13 a14 a15 → W n b1 b2 b3 b4 b5 b6 b7 b8 b9 b10 b11 b12 b13 b14 b15) → W (n + 1) a1 a2 a3 a4 a5 a6 a7 a8 a9 a10 a11 a12 a13 a14 a15) (a1 : A1) (a2 : A2) (a3 : A3) (a4 : A4) (a5 : A5) (a6 : A6) (a7 : A7) (a8 : A8) (a9 : A9) (a10 : A10) (a11 : A11) (a12 : A12) (a13 : A13) (a14 : A14) (a15 : A15) (h : I a1 a2 a3 a4 a5 a6 a7 a8 a9 a10 a11 a12 a13 a14 a15) : ∃ n, W n a1 a2 a3 a4 a5 a6 a7 a8 a9 a10 a11 a12 a13 a14 a15 :=
  loop_m (σ := A1 × A2 × A3 × A4 × A5 × A6 × A7 × A8 × A9 × A10 × A11 × A12 × A13 × A14 × A15) (fun n s => W n s.1 s.2.1 s.2.2.1 s.2.2.2.1 s.2.2.2.2.1 s.2.2.2.2.2.1 s.2.2.2.2.2.2.1 s.2.2.2.2.2.2.2.1 s.2.2.2.2.2.2.2.2.1 s.2.2.2.2.2.2.2.2.2.1 s.2.2.2.2.2.2.2.2.2.2.1 s.2.2.2.2.2.2.2.2.2.2.2.1 s.2.2.2.2.2.2.2.2.2.2.2.2.1 s.2.2.2.2.2.2.2.2.2.2.2.2.2.1 s.2.2.2.2.2.2.2.2.2.2.2.2.2.2) (fun s => I s.1 s.2.1 s.2.2.1 s.2.2.2.1 s.2.2.2.2.1 s.2.2.2.2.2.1 s.2.2.2.2.2.2.1 s.2.2.2.2.2.2.2.1 s.2.2.2.2.2.2.2.2.1 s.2.2.2.2.2.2.2.2.2.1 s.2.2.2.2.2.2.2.2.2.2.1 s.2.2.2.2.2.2.2.2.2.2.2.1 s.2.2.2.2.2.2.2.2.2.2.2.2.1 s.2.2.2.2.2.2.2.2.2.2.2.2.2.1 s.2.2.2.2.2.2.2.2.2.2.2.2.2.2) (fun s => μ s.1 s.2.1 s.2.2.1 s.2.2.2.1 s.2.2.2.2.1 s.2.2.2.2.2.1 s.2.2.2.2.2.2.1 s.2.2.2.2.2.2.2.1 s.2.2.2.2.2.2.2.2.1 s.2.2.2.2.2.2.2.2.2.1 s.2.2.2.2.2.2.2.2.2.2.1 s.2.2.2.2.2.2.2.2.2.2.2.1 s.2.2.2.2.2.2.2.2.2.2.2.2.1 s.2.2.2.2.2.2.2.2.2.2.2.2.2.1 s.2.2.2.2.2.2.2.2.2.2.2.2.2.2) (fun n s hI hk => hs n s.1 s.2.1 s.2.2.1 s.2.2.2.1 s.2.2.2.2.1 s.2.2.2.2.2.1 s.2.2.2.2.2.2.1 s.2.2.2.2.2.2.2.1 s.2.2.2.2.2.2.2.2.1 s.2.2.2.2.2.2.2.2.2.1 s.2.2.2.2.2.2.2.2.2.2.1 s.2.2.2.2.2.2.2.2.2.2.2.1 s.2.2.2.2.2.2.2.2.2.2.2.2.1 s.2.2.2.2.2.2.2.2.2.2.2.2.2.1 s.2.2.2.2.2.2.2.2.2.2.2.2.2.2 hI (fun b1 b2 b3 b4 b5 b6 b7 b8 b9 b10 b11 b12 b13 b14 b15 h9 hm => hk (b1, b2, b3, b4, b5, b6, b7, b8, b9, b10, b11, b12, b13, b14, b15) h9 hm)) (a1, a2, a3, a4, a5, a6, a7, a8, a9, a10, a11, a12, a13, a14, a15) h
theorem lp16 {A1 A2 A3 A4 A5 A6 A7 A8 A9 A10 A11 A12 A13 A14 A15 A16 : Type} (W : Nat → A1 → A2 → A3 → A4 → A5 → A6 → A7 → A8 → A9 → A10 → A11 → A12 → A13 → A14 → A15 → A16 → Prop) (I : A1 → A2 → A3 → A4 → A5 → A6 → A7 → A8 → A9 → A10 → A11 → A12 → A13 → A14 → A15 → A16 → Prop) (μ : A1 → A2 → A3 → A4 → A5 → A6 → A7 → A8 → A9 → A10 → A11 → A12 → A13 → A14 → A15 → A16 → Nat) (hs : ∀ (n : Nat) (a1 : A1) (a2 : A2) (a3 : A3) (a4 : A4) (a5 : A5) (a6 : A6) (a7 : A7) (a8 : A8) (a9 : A9) (a10 : A10) (a11 : A11) (a12 : A12) (a13 : A13) (a14 : A14) (a15 : A15) (a16 : A16), I a1 a2 a3 a4 a5 a6 a7 a8 a9 a10 a11 a12 a13 a14 a15 a16 → (∀ (b1 : A1) (b2 : A2) (b3 : A3) (b4 : A4) (b5 : A5) (b6 : A6) (b7 : A7) (b8 : A8) (b9 : A9) (b10 : A10) (b11 : A11) (b12 : A12) (b13 : A13) (b14 : A14) (b15 : A15) (b16 : A16), I b1 b2 b3 b4 b5 b6 b7 b8 b9 b10 b11 b12 b13 b14 b15 b16 → μ b1 b2 b3 b4 b5 b6 b7 b8 b9 b10 b11 b12 b13 b14 b15 b16 < μ a1 a2 a3 a4 a5 a6 a7 a8 a9 a10 a11 a12 a13 a14 a15 a16 → W n b1 b2 b3 b4 b5 b6 b7 b8 b9 b10 b11 b12 b13 b14 b15 b16) → W (n + 1) a1 a2 a3 a4 a5 a6 a7 a8 a9 a10 a11 a12 a13 a14 a15 a16) (a1 : A1) (a2 : A2) (a3 : A3) (a4 : A4) (a5 : A5) (a6 : A6) (a7 : A7) (a8 : A8) (a9 : A9) (a10 : A10) (a11 : A11) (a12 : A12) (a13 : A13) (a14 : A14) (a15 : A15) (a16 : A16) (h : I a1 a2 a3 a4 a5 a6 a7 a8 a9 a10 a11 a12 a13 a14 a15 a16) : ∃ n, W n a1 a2 a3 a4 a5 a6 a7 a8 a9 a10 a11 a12 a13 a14 a15 a16 :=
  loop_m (σ := A1 × A2 × A3 × A4 × A5 × A6 × A7 × A8 × A9 × A10 × A11 × A12 × A13 × A14 × A15 × A16) (fun n s => W n s.1 s.2.1 s.2.2.1 s.2.2.2.1 s.2.2.2.2.1 s.2.2.2.2.2.1 s.2.2.2.2.2.2.1 s.2.2.2.2.2.2.2.1 s.2.2.2.2.2.2.2.2.1 s.2.2.2.2.2.2.2.2.2.1 s.2.2.2.2.2.2.2.2.2.2.1 s.2.2.2.2.2.2.2.2.2.2.2.1 s.2.2.2.2.2.2.2.2.2.2.2.2.1 s.2.2.2.2.2.2.2.2.2.2.2.2.2.1 s.2.2.2.2.2.2.2.2.2.2.2.2.2.2.1 s.2.2.2.2.2.2.2.2.2.2.2.2.2.2.2) (fun s => I s.1 s.2.1 s.2.2.1 s.2.2.2.1 s.2.2.2.2.1 s.2.2.2.2.2.1 s.2.2.2.2.2.2.1 s.2.2.2.2.2.2.2.1 s.2.2.2.2.2.2.2.2.1 s.2.2.2.2.2.2.2.2.2.1 s.2.2.2.2.2.2.2.2.2.2.1 s.2.2.2.2.2.2.2.2.2.2.2.1 s.2.2.2.2.2.2.2.2.2.2.2.2.1 s.2.2.2.2.2.2.2.2.2.2.2.2.2.1 s.2.2.2.2.2.2.2.2.2.2.2.2.2.2.1 s.2.2.2.2.2.2.2.2.2.2.2.2.2.2.2) (fun s => μ s.1 s.2.1 s.2.2.1 s.2.2.2.1 s.2.2.2.2.1 s.2.2.2.2.2.1 s.2.2.2.2.2.2.1 s.2.2.2.2.2.2.2.1 s.2.2.2.2.2.2.2.2.1 s.2.2.2.2.2.2.2.2.2.1 s.2.2.2.2.2.2.2.2.2.2.1 s.2.2.2.2.2.2.2.2.2.2.2.1 s.2.2.2.2.2.2.2.2.2.2.2.2.1 s.2.2.2.2.2.2.2.2.2.2.2.2.2.1 s.2.2.2.2.2.2.2.2.2.2.2.2.2.2.1 s.2.2.2.2.2.2.2.2.2.2.2.2.2.2.2) (fun n s hI hk => hs n s.1 s.2.1 s.2.2.1 s.2.2.2.1 s.2.2.2.2.1 s.2.2.2.2.2.1 s.2.2.2.2.2.2.1 s.2.2.2.2.2.2.2.1 s.2.2.2.2.2.2.2.2.1 s.2.2.2.2.2.2.2.2.2.1 s.2.2.2.2.2.2.2.2.2.2.1 s.2.2.2.2.2.2.2.2.2.2.2.1 s.2.2.2.2.2.2.2.2.2.2.2.2.1 s.2.2.2.2.2.2.2.2.2.2.2.2.2.1 s.2.2.2.2.2.2.2.2.2.2.2.2.2.2.1 s.2.2.2.2.2.2.2.2.2.2.2.2.2.2.2 hI (fun b1 b2 b3 b4 b5 b6 b7 b8 b9 b10 b11 b12 b13 b14 b15 b16 h9 hm => hk (b1, b2, b3, b4, b5, b6, b7, b8, b9, b10, b11, b12, b13, b14, b15, b16) h9 hm)) (a1, a2, a3, a4, a5, a6, a7, a8, a9, a10, a11, a12, a13, a14, a15, a16) h
theorem pk_least (P : Nat → Prop) (h : ∃ k, P k) : ∃ k, P k ∧ ∀ j, j < k → ¬ P j := by
  obtain ⟨k, hk⟩ := h
  induction k using Nat.strongRecOn with
  | ind k ih =>
    by_cases e : ∃ j, j < k ∧ P j
    · obtain ⟨j, hj, pj⟩ := e
      exact ih j hj pj
    · exact ⟨k, hk, fun j hj pj => e ⟨j, hj, pj⟩⟩
theorem rp1 {ρ A1 : Type} (W : Nat → (ρ → Prop) → A1 → Prop) (ok : A1 → Prop) (μ : A1 → Nat) (val : A1 → ρ)
    (hs : ∀ (d : Nat) (post : ρ → Prop) (a1 : A1), ok a1 → post (val a1) → (∀ (post' : ρ → Prop) (b1 : A1), ok b1 → μ b1 < μ a1 → post' (val b1) → W d post' b1) → W (d + 1) post a1) :
    ∀ (d : Nat) (post : ρ → Prop) (a1 : A1), ok a1 → μ a1 < d → post (val a1) → W d post a1 := by
  intro d
  induction d with
  | zero => intro post a1 _ h; omega
  | succ d ih =>
    intro post a1 ho hm hp
    exact hs d post a1 ho hp (fun post' b1 ho' hm' hp' => ih post' b1 ho' (by omega) hp')
theorem rp2 {ρ A1 A2 : Type} (W : Nat → (ρ → Prop) → A1 → A2 → Prop) (ok : A1 → A2 → Prop) (μ : A1 → A2 → Nat) (val : A1 → A2 → ρ)
    (hs : ∀ (d : Nat) (post : ρ → Prop) (a1 : A1) (a2 : A2), ok a1 a2 → post (val a1 a2) → (∀ (post' : ρ → Prop) (b1 : A1) (b2 : A2), ok b1 b2 → μ b1 b2 < μ a1 a2 → post' (val b1 b2) → W d post' b1 b2) → W (d + 1) post a1 a2) :
    ∀ (d : Nat) (post : ρ → Prop) (a1 : A1) (a2 : A2), ok a1 a2 → μ a1 a2 < d → post (val a1 a2) → W d post a1 a2 := by
  intro d
  induction d with
  | zero => intro post a1 a2 _ h; omega
  | succ d ih =>
    intro post a1 a2 ho hm hp
    exact hs d post a1 a2 ho hp (fun post' b1 b2 ho' hm' hp' => ih post' b1 b2 ho' (by omega) hp')
theorem rp3 {ρ A1 A2 A3 : Type} (W : Nat → (ρ → Prop) → A1 → A2 → A3 → Prop) (ok : A1 → A2 → A3 → Prop) (μ : A1 → A2 → A3 → Nat) (val : A1 → A2 → A3 → ρ)
    (hs : ∀ (d : Nat) (post : ρ → Prop) (a1 : A1) (a2 : A2) (a3 : A3), ok a1 a2 a3 → post (val a1 a2 a3) → (∀ (post' : ρ → Prop) (b1 : A1) (b2 : A2) (b3 : A3), ok b1 b2 b3 → μ b1 b2 b3 < μ a1 a2 a3 → post' (val b1 b2 b3) → W d post' b1 b2 b3) → W (d + 1) post a1 a2 a3) :
    ∀ (d : Nat) (post : ρ → Prop) (a1 : A1) (a2 : A2) (a3 : A3), ok a1 a2 a3 → μ a1 a2 a3 < d → post (val a1 a2 a3) → W d post a1 a2 a3 := by
  intro d
  induction d with
  | zero => intro post a1 a2 a3 _ h; omega
  | succ d ih =>
    intro post a1 a2 a3 ho hm hp
    exact hs d post a1 a2 a3 ho hp (fun post' b1 b2 b3 ho' hm' hp' => ih post' b1 b2 b3 ho' (by omega) hp')
theorem rp4 {ρ A1 A2 A3 A4 : Type} (W : Nat → (ρ → Prop) → A1 → A2 → A3 → A4 → Prop) (ok : A1 → A2 → A3 → A4 → Prop) (μ : A1 → A2 → A3 → A4 → Nat) (val : A1 → A2 → A3 → A4 → ρ)
    (hs : ∀ (d : Nat) (post : ρ → Prop) (a1 : A1) (a2 : A2) (a3 : A3) (a4 : A4), ok a1 a2 a3 a4 → post (val a1 a2 a3 a4) → (∀ (post' : ρ → Prop) (b1 : A1) (b2 : A2) (b3 : A3) (b4 : A4), ok b1 b2 b3 b4 → μ b1 b2 b3 b4 < μ a1 a2 a3 a4 → post' (val b1 b2 b3 b4) → W d post' b1 b2 b3 b4) → W (d + 1) post a1 a2 a3 a4) :
    ∀ (d : Nat) (post : ρ → Prop) (a1 : A1) (a2 : A2) (a3 : A3) (a4 : A4), ok a1 a2 a3 a4 → μ a1 a2 a3 a4 < d → post (val a1 a2 a3 a4) → W d post a1 a2 a3 a4 := by
  intro d
  induction d with
  | zero => intro post a1 a2 a3 a4 _ h; omega
  | succ d ih =>
    intro post a1 a2 a3 a4 ho hm hp
    exact hs d post a1 a2 a3 a4 ho hp (fun post' b1 b2 b3 b4 ho' hm' hp' => ih post' b1 b2 b3 b4 ho' (by omega) hp')
theorem rp5 {ρ A1 A2 A3 A4 A5 : Type} (W : Nat → (ρ → Prop) → A1 → A2 → A3 → A4 → A5 → Prop) (ok : A1 → A2 → A3 → A4 → A5 → Prop) (μ : A1 → A2 → A3 → A4 → A5 → Nat) (val : A1 → A2 → A3 → A4 → A5 → ρ)
    (hs : ∀ (d : Nat) (post : ρ → Prop) (a1 : A1) (a2 : A2) (a3 : A3) (a4 : A4) (a5 : A5), ok a1 a2 a3 a4 a5 → post (val a1 a2 a3 a4 a5) → (∀ (post' : ρ → Prop) (b1 : A1) (b2 : A2) (b3 : A3) (b4 : A4) (b5 : A5), ok b1 b2 b3 b4 b5 → μ b1 b2 b3 b4 b5 < μ a1 a2 a3 a4 a5 → post' (val b1 b2 b3 b4 b5) → W d post' b1 b2 b3 b4 b5) → W (d + 1) post a1 a2 a3 a4 a5) :
    ∀ (d : Nat) (post : ρ → Prop) (a1 : A1) (a2 : A2) (a3 : A3) (a4 : A4) (a5 : A5), ok a1 a2 a3 a4 a5 → μ a1 a2 a3 a4 a5 < d → post (val a1 a2 a3 a4 a5) → W d post a1 a2 a3 a4 a5 := by
  intro d
  induction d with
  | zero => intro post a1 a2 a3 a4 a5 _ h; omega
  | succ d ih =>
    intro post a1 a2 a3 a4 a5 ho hm hp
    exact hs d post a1 a2 a3 a4 a5 ho hp (fun post' b1 b2 b3 b4 b5 ho' hm' hp' => ih post' b1 b2 b3 b4 b5 ho' (by omega) hp')
theorem rp6 {ρ A1 A2 A3 A4 A5 A6 : Type} (W : Nat → (ρ → Prop) → A1 → A2 → A3 → A4 → A5 → A6 → Prop) (ok : A1 → A2 → A3 → A4 → A5 → A6 → Prop) (μ : A1 → A2 → A3 → A4 → A5 → A6 → Nat) (val : A1 → A2 → A3 → A4 → A5 → A6 → ρ)
    (hs : ∀ (d : Nat) (post : ρ → Prop) (a1 : A1) (a2 : A2) (a3 : A3) (a4 : A4) (a5 : A5) (a6 : A6), ok a1 a2 a3 a4 a5 a6 → post (val a1 a2 a3 a4 a5 a6) → (∀ (post' : ρ → Prop) (b1 : A1) (b2 : A2) (b3 : A3) (b4 : A4) (b5 : A5) (b6 : A6), ok b1 b2 b3 b4 b5 b6 → μ b1 b2 b3 b4 b5 b6 < μ a1 a2 a3 a4 a5 a6 → post' (val b1 b2 b3 b4 b5 b6) → W d post' b1 b2 b3 b4 b5 b6) → W (d + 1) post a1 a2 a3 a4 a5 a6) :
    ∀ (d : Nat) (post : ρ → Prop) (a1 : A1) (a2 : A2) (a3 : A3) (a4 : A4) (a5 : A5) (a6 : A6), ok a1 a2 a3 a4 a5 a6 → μ a1 a2 a3 a4 a5 a6 < d → post (val a1 a2 a3 a4 a5 a6) → W d post a1 a2 a3 a4 a5 a6 := by
  intro d
  induction d with
  | zero => intro post a1 a2 a3 a4 a5 a6 _ h; omega
  | succ d ih =>
    intro post a1 a2 a3 a4 a5 a6 ho hm hp
    exact hs d post a1 a2 a3 a4 a5 a6 ho hp (fun post' b1 b2 b3 b4 b5 b6 ho' hm' hp' => ih post' b1 b2 b3 b4 b5 b6 ho' (by omega) hp')
theorem rec_p {σ ρ : Type} (W : Nat → (ρ → Prop) → σ → Prop) (ok : σ → Prop) (μ : σ → Nat) (val : σ → ρ)
    (hs : ∀ d s post, ok s → post (val s) → (∀ s' post', ok s' → μ s' < μ s → post' (val s') → W d post' s') → W (d + 1) post s) :
    ∀ d s post, ok s → μ s < d → post (val s) → W d post s := by
  intro d
  induction d with
  | zero => intro s post _ h; omega
  | succ d ih =>
    intro s post ho hm hp
    exact hs d s post ho hp (fun s' post' ho' hm' hp' => ih s' post' ho' (by omega) hp')
theorem rec_q {σ ρ : Type} (W : Nat → (ρ → Prop) → σ → Prop) (ok : σ → Prop) (μ : σ → Nat) (Q : σ → ρ → Prop)
    (hs : ∀ d s post, ok s → (∀ r, Q s r → post r) → (∀ s' post', ok s' → μ s' < μ s → (∀ r, Q s' r → post' r) → W d post' s') → W (d + 1) post s) :
    ∀ d s post, ok s → μ s < d → (∀ r, Q s r → post r) → W d post s := by
  intro d
  induction d with
  | zero => intro s post _ h; omega
  | succ d ih =>
    intro s post ho hm hp
    exact hs d s post ho hp (fun s' post' ho' hm' hp' => ih s' post' ho' (by omega) hp')
def bx_sum (f : Nat → Int32) : Nat → Int32
  | 0 => 0
  | n + 1 => bx_sum f n + f n
theorem ek_u {A : Prop} {B : Nat → Prop} {k N : Nat} (hk : k < N) (h : B k) : (some k = none → A) ∧ (∀ y : Nat, some k = some y → (y < N ∧ B y)) :=
  ⟨fun z => absurd z (Option.some_ne_none k), fun _ e => (by cases e; exact ⟨hk, h⟩)⟩
theorem ek_nu {A : Prop} {B : Nat → Prop} (h : A) : ((none : Option Nat) = none → A) ∧ (∀ y : Nat, (none : Option Nat) = some y → B y) :=
  ⟨fun _ => h, fun _ e => (by cases e)⟩
theorem ek_if {c d A B : Prop} (e : c ↔ d) (f : d → A) (g : ¬ d → B) : (c → A) ∧ (¬ c → B) :=
  ⟨fun z => f (e.mp z), fun z => g (fun y => z (e.mpr y))⟩
theorem ek_v {α : Sort _} {P : α → Prop} {a b : α} (e : a = b) (h : P b) : P a := e ▸ h
theorem co_some {x : Option Nat} {A : Prop} {B : Nat → Prop} (i : Nat) (h : B i) (hx : x = some i := by rfl) : (x = none → A) ∧ (∀ y : Nat, x = some y → B y) := by
  subst hx
  exact ⟨fun e => (nomatch e), fun y e => Option.some.inj e ▸ h⟩
theorem co_none {x : Option Nat} {A : Prop} {B : Nat → Prop} (h : A) (hx : x = none := by rfl) : (x = none → A) ∧ (∀ y : Nat, x = some y → B y) := by
  subst hx
  exact ⟨fun _ => h, fun y e => (nomatch e)⟩
theorem co_any {x : Option Nat} {A : Prop} {B : Nat → Prop} (hn : x = none → A) (hs : ∀ i : Nat, x = some i → B i) : (x = none → A) ∧ (∀ y : Nat, x = some y → B y) := ⟨hn, hs⟩
theorem co_2 {P : Nat → Prop} (h0 : P 0) (h1 : P 1) {i : Nat} (hi : i < 2) : P i :=
  match i, hi with
  | 0, _ => h0
  | 1, _ => h1
theorem co_3 {P : Nat → Prop} (h0 : P 0) (h1 : P 1) (h2 : P 2) {i : Nat} (hi : i < 3) : P i :=
  match i, hi with
  | 0, _ => h0
  | 1, _ => h1
  | 2, _ => h2
theorem co_4 {P : Nat → Prop} (h0 : P 0) (h1 : P 1) (h2 : P 2) (h3 : P 3) {i : Nat} (hi : i < 4) : P i :=
  match i, hi with
  | 0, _ => h0
  | 1, _ => h1
  | 2, _ => h2
  | 3, _ => h3
theorem co_dec {N : Nat} {P : Nat → Prop} [DecidablePred P] (h : (List.range N).all (fun i => decide (P i)) = true) {i : Nat} (hi : i < N) : P i := by
  have := List.all_eq_true.mp h i (List.mem_range.mpr hi)
  exact of_decide_eq_true this
theorem co_tab {α : Type} {l : List α} {d : α} {P : α → Prop} (h : ∀ a, a ∈ l → P a) {i : Nat} (hi : i < l.length) : P (l.getD i d) := by
  rw [List.getD_eq_getElem?_getD, List.getElem?_eq_getElem hi]
  exact h _ (List.getElem_mem hi)
theorem pk_mu {x : Int32} {L : Nat} (h0 : ¬ x < 0) (h : ¬ nI L ≤ x) (hL : L < 2 ^ 31) : ∃ j : Nat, j < L ∧ x = nI j ∧ x + 1 = nI (j + 1) ∧ x.toNatClampNeg = j ∧ L - (x + 1).toNatClampNeg < L - x.toNatClampNeg := by
  obtain ⟨j, hj, rfl⟩ := nI_of h0
  have hl : j < L := Nat.not_le.mp fun q => h (nI_le q hj)
  refine ⟨j, hl, rfl, nI_1 j, nI_clamp hj, ?_⟩
  rw [nI_1, nI_clamp (by omega), nI_clamp hj]
  omega
theorem op_s {α : Type} {r : Option α} {A : Prop} {B : α → Prop} {y : α} (h : r = some y) (b : B y) : (r = none → A) ∧ ∀ z, r = some z → B z :=
  ⟨fun e => (by rw [h] at e; cases e), fun z e => (by rw [h] at e; cases e; exact b)⟩
def l_holds {α : Type} (a : Nat → Option Nat) (LP : List Nat) (p : Nat → α) (c : Nat) (b : Nat → α) : Prop :=
  ∀ j, j < c → ∃ y, a j = some y ∧ y ∈ LP ∧ p y = b j
theorem l_holds_0 {α : Type} {a : Nat → Option Nat} {LP : List Nat} {p b : Nat → α} : l_holds a LP p 0 b := fun j h => absurd h (Nat.not_lt_zero j)
theorem l_in_new (LP : List Nat) (q : Nat) : q ∈ LP ++ [q] := List.mem_append.mpr (Or.inr (List.mem_singleton.mpr rfl))
def l_sum (b : Nat → Int32) : Nat → Int32
  | 0 => 0
  | k + 1 => l_sum b k + b k
theorem sb_shr0 (x : Int32) : x >>> ((0 : Int32) &&& 31) = x := by
  rw [show ((0 : Int32) &&& 31) = 0 by decide]
  simp
theorem sb_shl0 (x : Int32) : x <<< ((0 : Int32) &&& 31) = x := by
  rw [show ((0 : Int32) &&& 31) = 0 by decide]
  simp
theorem sb_cl0 : (0 : Int32).toNatClampNeg = 0 := by decide
theorem sb_m1 {p : Nat} (h : 0 < p) : nI p + (-1) = nI (p - 1) := by
  obtain ⟨q, rfl⟩ : ∃ q, p = q + 1 := ⟨p - 1, by omega⟩
  exact pk_m1 q
def sb_b (c : Nat) : Int32 := (nI c).toInt8.toInt32
theorem sb_byte : ∀ c, c < 256 → sb_b c &&& 255 = nI c ∧ ((nI c).toUInt32 % 65536).toInt32 = nI c ∧ nI c ≤ 255 := by decide +kernel
def sb_Fit (a : Nat → Int32) : Prop := ∀ j, fits .byte (.int (a j)) = true
def sb_Lat (t : Nat → Nat) (n : Nat) (a : Nat → Int32) : Prop := ∀ j, j < n → t j < 256 ∧ a j = sb_b (t j)
theorem sb_fitB (c : Nat) : fits .byte (.int (sb_b c)) = true := pk_fb _
theorem sb_fit0 : sb_Fit (fun _ => 0) := fun _ => by
  show fits .byte (.int 0) = true
  decide
theorem sb_fitU {a : Nat → Int32} {k : Nat} {x : Int32} (h : sb_Fit a) (hx : fits .byte (.int x) = true) : sb_Fit (upd a k x) := by
  intro j
  by_cases e : j = k
  · subst e
    rw [pk_us]
    exact hx
  · rw [pk_un e]
    exact h j
def sb_cat (t : Nat → Nat) (n : Nat) (s : Nat → Nat) : Nat → Nat := fun j => if j < n then t j else s (j - n)
theorem sb_cat_lo {t s : Nat → Nat} {n j : Nat} (h : j < n) : sb_cat t n s j = t j := if_pos h
theorem sb_cat_hi {t s : Nat → Nat} {n j : Nat} : sb_cat t n s (n + j) = s j := by
  show (if n + j < n then t (n + j) else s (n + j - n)) = s j
  rw [if_neg (by omega), Nat.add_sub_cancel_left]
theorem sb_latPut {t s : Nat → Nat} {n w : Nat} {a a' : Nat → Int32} (h : sb_Lat t n a) (hk : ∀ j, j < n → a' j = a j) (hs : ∀ i, i < w → s i < 256 ∧ a' (n + i) = sb_b (s i)) : sb_Lat (sb_cat t n s) (n + w) a' := by
  intro j hj
  by_cases e : j < n
  · rw [sb_cat_lo e, hk j e]
    exact h j e
  · obtain ⟨i, rfl⟩ : ∃ i, j = n + i := ⟨j - n, by omega⟩
    rw [sb_cat_hi]
    exact hs i (by omega)
theorem sb_latKeep {t : Nat → Nat} {n : Nat} {a a' : Nat → Int32} (h : sb_Lat t n a) (hk : ∀ j, j < n → a' j = a j) : sb_Lat t n a' := fun j hj => by
  rw [hk j hj]
  exact h j hj
def sb_cap (q m : Nat) : Nat := if q ≤ m then m else if 2 * m + 2 < q then q else 2 * m + 2
def sb_Room (q m mc ms : Nat) : Prop := q ≤ m ∨ (1 ≤ mc ∧ sb_cap q m ≤ ms ∧ sb_cap q m ≤ 65536)
theorem sb_cap_ge (q m : Nat) : q ≤ sb_cap q m := by
  unfold sb_cap
  split
  · omega
  · split <;> omega
theorem sb_cap_gem (q m : Nat) : m ≤ sb_cap q m := by
  unfold sb_cap
  split
  · omega
  · split <;> omega
theorem sb_cap_le {q m mc ms : Nat} (hm : m ≤ 65536) (hr : sb_Room q m mc ms) : sb_cap q m ≤ 65536 := by
  rcases hr with h | h
  · rw [sb_cap, if_pos h]
    exact hm
  · exact h.2.2
theorem sb_at {P : Int32 → Prop} {x y : Int32} (e : x = y) (h : P y) : P x := e ▸ h
def sb_dg (w : Nat) : Nat := if w < 10 then 1 else if w < 100 then 2 else if w < 1000 then 3 else if w < 10000 then 4 else if w < 100000 then 5 else if w < 1000000 then 6 else if w < 10000000 then 7 else if w < 100000000 then 8 else if w < 1000000000 then 9 else 10
def sb_dec (v : Nat) : Nat → Nat := fun i => 48 + v / 10 ^ (sb_dg v - 1 - i) % 10
theorem sb_dg_in (w : Nat) : 1 ≤ sb_dg w ∧ sb_dg w ≤ 10 := by
  unfold sb_dg
  constructor <;> (repeat' split) <;> omega
theorem sb_dg100 {w : Nat} (h : 100 ≤ w) (hw : w < 2 ^ 31) : sb_dg w = sb_dg (w / 100) + 2 := by
  rw [sb_dg, sb_dg, if_neg (show ¬ w < 10 by omega), if_neg (show ¬ w < 100 by omega)]
  by_cases h3 : w < 1000
  · rw [if_pos h3, if_pos (show w / 100 < 10 by omega)]
  rw [if_neg h3, if_neg (show ¬ w / 100 < 10 by omega)]
  by_cases h4 : w < 10000
  · rw [if_pos h4, if_pos (show w / 100 < 100 by omega)]
  rw [if_neg h4, if_neg (show ¬ w / 100 < 100 by omega)]
  by_cases h5 : w < 100000
  · rw [if_pos h5, if_pos (show w / 100 < 1000 by omega)]
  rw [if_neg h5, if_neg (show ¬ w / 100 < 1000 by omega)]
  by_cases h6 : w < 1000000
  · rw [if_pos h6, if_pos (show w / 100 < 10000 by omega)]
  rw [if_neg h6, if_neg (show ¬ w / 100 < 10000 by omega)]
  by_cases h7 : w < 10000000
  · rw [if_pos h7, if_pos (show w / 100 < 100000 by omega)]
  rw [if_neg h7, if_neg (show ¬ w / 100 < 100000 by omega)]
  by_cases h8 : w < 100000000
  · rw [if_pos h8, if_pos (show w / 100 < 1000000 by omega)]
  rw [if_neg h8, if_neg (show ¬ w / 100 < 1000000 by omega)]
  by_cases h9 : w < 1000000000
  · rw [if_pos h9, if_pos (show w / 100 < 10000000 by omega)]
  rw [if_neg h9, if_neg (show ¬ w / 100 < 10000000 by omega)]
  rw [if_pos (show w / 100 < 100000000 by omega)]
theorem sb_negT {w : Nat} (h : w < 2 ^ 31) : (-nI w).toInt = -(w : Int) := by
  rw [Int32.toInt_neg, nI_toInt h]
  exact Int.bmod_eq_of_le (by omega) (by omega)
theorem sb_nle {a b : Nat} (ha : a < 2 ^ 31) (hb : b < 2 ^ 31) : -nI a ≤ -nI b ↔ b ≤ a := by
  rw [Int32.le_iff_toInt_le, sb_negT ha, sb_negT hb]
  omega
theorem sb_nlt {a b : Nat} (ha : a < 2 ^ 31) (hb : b < 2 ^ 31) : -nI a < -nI b ↔ b < a := by
  rw [Int32.lt_iff_toInt_lt, sb_negT ha, sb_negT hb]
  omega
theorem sb_cmp {A B : Prop} {x : Int32} (v c : Nat) (f : c ≤ v → A) (g : v < c → B) (hv : v < 2 ^ 31) (hx : x = -nI c := by rfl) (hc : c < 2 ^ 31 := by omega) : (-nI v ≤ x → A) ∧ (¬ -nI v ≤ x → B) := by
  subst hx
  rw [sb_nle hv hc]
  exact ⟨f, fun z => g (by omega)⟩
theorem sb_ndiv {w : Nat} (hw : w < 2 ^ 31) : (-nI w) / 100 = -nI (w / 100) := by
  apply Int32.toInt_inj.mp
  have h100 : (100 : Int32).toInt = 100 := by decide
  rw [Int32.toInt_div, sb_negT hw, h100, sb_negT (by omega), Int.neg_tdiv, Int.tdiv_eq_ediv_of_nonneg (by omega), Int.bmod_eq_of_le (by omega) (by omega)]
  omega
theorem sb_nrem {w : Nat} (hw : w < 2 ^ 31) : (-nI (w / 100)) * 100 - (-nI w) = nI (w % 100) := by
  have h := pk_rem (a := w) (d := 100) hw (by decide) (by decide)
  rw [pk_div hw (by decide) (by decide)] at h
  rw [← h]
  show (-nI (w / 100)) * nI 100 - (-nI w) = nI w - nI (w / 100) * nI 100
  rw [Int32.neg_mul, Int32.sub_neg, Int32.add_comm, ← Int32.sub_eq_add_neg]
end
section
/-! rows on bits, shifts and unsigned numbers, to paste: each family out of a closed proof of our own, whole with what it rests on; each by itself clean at Lean in its own claim (generation 39, form 5). Take a family whole -/
/-! ===== Int32 by its bits: bt x i ===== -/
def bt (x : Int32) (i : Nat) : Bool := x.toBitVec.getLsbD i
theorem b_ext {x y : Int32} (h : ∀ i, i < 32 → bt x i = bt y i) : x = y := Int32.toBitVec_inj.mp (BitVec.eq_of_getLsbD_eq (fun i hi => h i hi))
theorem b_or (x y : Int32) (i : Nat) : bt (x ||| y) i = (bt x i || bt y i) := by unfold bt; rw [Int32.toBitVec_or, BitVec.getLsbD_or]
theorem b_and (x y : Int32) (i : Nat) : bt (x &&& y) i = (bt x i && bt y i) := by unfold bt; rw [Int32.toBitVec_and, BitVec.getLsbD_and]
theorem b_xor (x y : Int32) (i : Nat) : bt (x ^^^ y) i = (bt x i ^^ bt y i) := by unfold bt; rw [Int32.toBitVec_xor, BitVec.getLsbD_xor]
theorem b_big {x : Int32} {i : Nat} (h : 32 ≤ i) : bt x i = false := BitVec.getLsbD_of_ge _ _ h
theorem b_255 (i : Nat) : bt 255 i = decide (i < 8) := by
  rcases Nat.lt_or_ge i 32 with h | h
  · exact (by decide +kernel : ∀ i, i < 32 → bt 255 i = decide (i < 8)) i h
  · rw [b_big h, decide_eq_false (by omega)]
theorem b_65535 (i : Nat) : bt 65535 i = decide (i < 16) := by
  rcases Nat.lt_or_ge i 32 with h | h
  · exact (by decide +kernel : ∀ i, i < 32 → bt 65535 i = decide (i < 16)) i h
  · rw [b_big h, decide_eq_false (by omega)]
theorem b_m1 : ∀ i, i < 32 → bt (-1) i = true := by decide +kernel
theorem b_0 (i : Nat) : bt 0 i = false := BitVec.getLsbD_zero
theorem s_l : ∀ n, n < 32 → ((nI n &&& 31).toBitVec.smod 32).toNat = n := by decide +kernel
theorem s_u : ∀ n, n < 32 → (((nI n).toUInt32 &&& Int32.toUInt32 31).toBitVec % 32).toNat = n := by decide +kernel
theorem b_shl (n : Nat) (hn : n < 32) (x : Int32) {i : Nat} (hi : i < 32) : bt (x <<< (nI n &&& 31)) i = (decide (n ≤ i) && bt x (i - n)) := by
  unfold bt
  rw [Int32.toBitVec_shiftLeft]
  show (x.toBitVec <<< ((nI n &&& 31).toBitVec.smod 32).toNat).getLsbD i = _
  rw [s_l n hn, BitVec.getLsbD_shiftLeft]
  rcases Nat.lt_or_ge i n with h | h
  · simp [h, Nat.not_le.mpr h]
  · simp [hi, h, Nat.not_lt.mpr h]
theorem b_ushr (n : Nat) (hn : n < 32) (x : Int32) (i : Nat) : bt ((x.toUInt32 >>> ((nI n).toUInt32 &&& Int32.toUInt32 31)).toInt32) i = bt x (n + i) := by
  show (x.toUInt32 >>> ((nI n).toUInt32 &&& Int32.toUInt32 31)).toBitVec.getLsbD i = x.toUInt32.toBitVec.getLsbD (n + i)
  rw [UInt32.toBitVec_shiftRight]
  show (x.toUInt32.toBitVec >>> (((nI n).toUInt32 &&& Int32.toUInt32 31).toBitVec % 32).toNat).getLsbD i = _
  rw [s_u n hn, BitVec.getLsbD_ushiftRight]
theorem b_sshr (n : Nat) (hn : n < 32) (x : Int32) {i : Nat} (hi : i < 32) : bt (x >>> (nI n &&& 31)) i = if n + i < 32 then bt x (n + i) else bt x 31 := by
  unfold bt
  rw [Int32.toBitVec_shiftRight]
  show (x.toBitVec.sshiftRight ((nI n &&& 31).toBitVec.smod 32).toNat).getLsbD i = _
  rw [s_l n hn, BitVec.getLsbD_sshiftRight, BitVec.msb_eq_getLsbD_last]
  simp [hi]
theorem b_shl8 (x : Int32) {i : Nat} (hi : i < 32) : bt (x <<< ((8 : Int32) &&& 31)) i = (decide (8 ≤ i) && bt x (i - 8)) := b_shl 8 (by omega) x hi
theorem b_shl16 (x : Int32) {i : Nat} (hi : i < 32) : bt (x <<< ((16 : Int32) &&& 31)) i = (decide (16 ≤ i) && bt x (i - 16)) := b_shl 16 (by omega) x hi
theorem b_shl24 (x : Int32) {i : Nat} (hi : i < 32) : bt (x <<< ((24 : Int32) &&& 31)) i = (decide (24 ≤ i) && bt x (i - 24)) := b_shl 24 (by omega) x hi
theorem b_sshr8 (x : Int32) {i : Nat} (hi : i < 32) : bt (x >>> ((8 : Int32) &&& 31)) i = if 8 + i < 32 then bt x (8 + i) else bt x 31 := b_sshr 8 (by omega) x hi
/-! ===== nI under and, xor, >>>, one bit, 65535 ===== -/
theorem nx_and (a b : Nat) : nI a &&& nI b = nI (a &&& b) := by
  apply Int32.toBitVec_inj.1
  show BitVec.ofNat 32 a &&& BitVec.ofNat 32 b = BitVec.ofNat 32 (a &&& b)
  apply BitVec.eq_of_getLsbD_eq
  intro i hi
  simp [hi]
theorem nx_xor (a b : Nat) : nI a ^^^ nI b = nI (a ^^^ b) := by
  apply Int32.toBitVec_inj.1
  show BitVec.ofNat 32 a ^^^ BitVec.ofNat 32 b = BitVec.ofNat 32 (a ^^^ b)
  apply BitVec.eq_of_getLsbD_eq
  intro i hi
  simp [hi]
theorem nx_cnt : ∀ j : Fin 32, (UInt32.ofNat j.val &&& Int32.toUInt32 31).toNat % 32 = j.val := by decide +kernel
theorem nx_ush {k j : Nat} (hk : k < 65536) (hj : j < 32) : ((nI k).toUInt32 >>> ((nI j).toUInt32 &&& Int32.toUInt32 31)).toInt32 = nI (k >>> j) := by
  have hs : k >>> j ≤ k := by
    rw [Nat.shiftRight_eq_div_pow]
    exact Nat.div_le_self _ _
  have e2 : UInt32.ofNat k >>> (UInt32.ofNat j &&& Int32.toUInt32 31) = UInt32.ofNat (k >>> j) := by
    apply UInt32.toNat_inj.1
    have h1 : (UInt32.ofNat k).toNat = k := Nat.mod_eq_of_lt (by omega)
    have h2 : (UInt32.ofNat (k >>> j)).toNat = k >>> j := Nat.mod_eq_of_lt (by omega)
    rw [UInt32.toNat_shiftRight, nx_cnt ⟨j, hj⟩, h1, h2]
  show (UInt32.ofNat k >>> (UInt32.ofNat j &&& Int32.toUInt32 31)).toInt32 = _
  rw [e2]
  rfl
theorem nx_bit {k j : Nat} (hk : k < 65536) (hj : j < 16) : (((nI k).toUInt32 >>> ((nI j).toUInt32 &&& Int32.toUInt32 31)).toInt32 &&& 1) = 0 ↔ k.testBit j = false := by
  rw [nx_ush hk (by omega)]
  show nI (k >>> j) &&& nI 1 = 0 ↔ _
  rw [nx_and, Nat.and_one_is_mod, ← nI_0, nI_eq (by omega) (by omega), Nat.testBit_eq_decide_div_mod_eq, Nat.shiftRight_eq_div_pow, decide_eq_false_iff_not]
  generalize k / 2 ^ j = z
  omega
theorem nx_mod (k : Nat) : nI k &&& 65535 = nI (k % 65536) := by
  show nI k &&& nI 65535 = _
  rw [nx_and, show (65535 : Nat) = 2 ^ 16 - 1 from rfl, Nat.and_two_pow_sub_one_eq_mod]
theorem nx_m16 {k : Nat} (h : k < 65536) : nI k &&& 65535 = nI k := by rw [nx_mod, Nat.mod_eq_of_lt h]
theorem nx_mask (x : Int32) : ∃ k, k < 65536 ∧ x &&& 65535 = nI k := by
  have e : x = nI x.toBitVec.toNat := by
    apply Int32.toBitVec_inj.1
    show x.toBitVec = BitVec.ofNat 32 x.toBitVec.toNat
    simp
  refine ⟨x.toBitVec.toNat % 65536, Nat.mod_lt _ (by omega), ?_⟩
  rw [← nx_mod, ← e]
/-! ===== Int32 as a set of bits: test, set ===== -/
def nf_M (m : Int32) : Nat := 4294967296 - m.toBitVec.toNat
theorem nf_sh : ∀ l, l < 32 → ((1 : Int32) <<< (nI l &&& 31)).toBitVec = BitVec.twoPow 32 l := by decide +kernel
theorem nf_sl : ∀ l, l < 32 → (((nI l).toUInt32 &&& Int32.toUInt32 31).toBitVec % 32).toNat = l := by decide +kernel
theorem nf_tp : ∀ l, l < 32 → BitVec.twoPow 32 l ≠ 0#32 := by decide +kernel
theorem nf_bit (m : Int32) (l : Nat) (hl : l < 32) : ((m.toUInt32 >>> ((nI l).toUInt32 &&& Int32.toUInt32 31)).toInt32 &&& 1) = 0 ↔ (m &&& ((1 : Int32) <<< (nI l &&& 31))) = 0 := by
  have e : ((m.toUInt32 >>> ((nI l).toUInt32 &&& Int32.toUInt32 31)).toInt32).toBitVec = m.toBitVec >>> l := by
    show m.toBitVec >>> (((nI l).toUInt32 &&& Int32.toUInt32 31).toBitVec % 32) = m.toBitVec >>> l
    rw [BitVec.ushiftRight_eq', nf_sl l hl]
  rw [← Int32.toBitVec_inj, ← Int32.toBitVec_inj, Int32.toBitVec_and, Int32.toBitVec_and, nf_sh l hl, e, BitVec.and_twoPow]
  show (m.toBitVec >>> l &&& 1#32) = 0#32 ↔ _ = 0#32
  rw [BitVec.and_one_eq_setWidth_ofBool_getLsbD, BitVec.getLsbD_ushiftRight, Nat.add_zero]
  cases hb : m.toBitVec.getLsbD l
  · exact ⟨fun _ => by simp, fun _ => by decide⟩
  · exact ⟨fun z => absurd z (by decide), fun z => absurd ((if_pos rfl).symm.trans z) (nf_tp l hl)⟩
theorem nf_gr (m k : Int32) (h : m &&& k = 0) (hk : k ≠ 0) : nf_M (m ||| k) < nf_M m := by
  have hm := m.toBitVec.isLt
  have hm' := (m ||| k).toBitVec.isLt
  have h1 : m.toBitVec.toNat ≤ (m ||| k).toBitVec.toNat := by
    rw [Int32.toBitVec_or, BitVec.toNat_or]
    exact Nat.left_le_or
  have h2 : m.toBitVec.toNat ≠ (m ||| k).toBitVec.toNat := by
    intro e
    have e2 : m = m ||| k := Int32.toBitVec_inj.mp (BitVec.eq_of_toNat_eq e)
    apply hk
    apply Int32.toBitVec_inj.mp
    show k.toBitVec = 0#32
    apply BitVec.eq_of_getLsbD_eq
    intro i hi
    have a : m.toBitVec.getLsbD i = (m.toBitVec.getLsbD i || k.toBitVec.getLsbD i) := by rw [← BitVec.getLsbD_or, ← Int32.toBitVec_or, ← e2]
    have b : (m.toBitVec.getLsbD i && k.toBitVec.getLsbD i) = false := by
      rw [← BitVec.getLsbD_and, ← Int32.toBitVec_and, h]
      exact BitVec.getLsbD_zero
    rw [BitVec.getLsbD_zero]
    revert a b
    cases m.toBitVec.getLsbD i <;> cases k.toBitVec.getLsbD i <;> simp
  unfold nf_M
  omega
/-! ===== a byte read unsigned ===== -/
theorem bp_b (x : Int32) : x.toInt8.toInt32 &&& 255 = x &&& 255 := by
  apply Int32.toBitVec_inj.mp
  rw [Int32.toBitVec_and, Int32.toBitVec_and, Int8.toBitVec_toInt32, Int32.toBitVec_toInt8]
  apply BitVec.eq_of_getLsbD_eq
  intro i hi
  rw [BitVec.getLsbD_and, BitVec.getLsbD_and]
  have hm : ∀ i < 32, 8 ≤ i → (255 : Int32).toBitVec.getLsbD i = false := by decide
  rcases Nat.lt_or_ge i 8 with z | z
  · rw [BitVec.getLsbD_signExtend, BitVec.getLsbD_signExtend, if_pos z, if_pos hi]
    simp only [z, hi, decide_true, Bool.true_and]
  · rw [hm i hi z]; simp
/-! ===== the char cast and 65535 ===== -/
theorem em_w (v : Int32) : ∃ w : Nat, w < 65536 ∧ (v.toUInt32 % 65536).toInt32 = nI w ∧ v &&& 65535 = nI w := by
  have hr := lw_u16_r v
  have h0 : (0 : Int32).toInt = 0 := by decide
  obtain ⟨w, h1, h2⟩ := nI_of (x := lw_u16 v) (by rw [Int32.lt_iff_toInt_lt]; omega)
  have h3 : (v.toUInt32 % 65536).toInt32 = nI w := h2
  rw [h2, nI_toInt h1] at hr
  exact ⟨w, by omega, h3, by rw [← lg_i2c_mask, ← lg_i2c_nf, h3]⟩
/-! ===== Int64 as a set of bits: test, set, clear ===== -/
theorem ts_nf {x : Bool} (h : ¬ x = false) : x = true := by cases x <;> first | rfl | exact absurd rfl h
theorem ts_nt {x : Bool} (h : ¬ x = true) : x = false := by cases x <;> first | rfl | exact absurd rfl h
theorem ts_bit {w : Int64} {s : UInt64} {j : Nat} (hj : j < 64) (hs : s.toNat = j) : ((w.toUInt64 >>> s).toInt64 &&& 1) = 0 ↔ w.toBitVec.getLsbD j = false := by
  have e : (w.toUInt64 >>> s).toInt64.toBitVec = w.toBitVec >>> j := by
    apply BitVec.eq_of_toNat_eq
    show (w.toUInt64 >>> s).toNat = _
    rw [UInt64.toNat_shiftRight, hs, Nat.mod_eq_of_lt hj, BitVec.toNat_ushiftRight]
    rfl
  rw [← Int64.toBitVec_inj, Int64.toBitVec_and, e]
  show w.toBitVec >>> j &&& 1#64 = 0#64 ↔ _
  constructor
  · intro h
    have t := congrArg (fun x => x.getLsbD 0) h
    simpa using t
  · intro h
    apply BitVec.eq_of_getLsbD_eq
    intro i hi
    cases i with
    | zero => simp [h]
    | succ i => simp
theorem ts_or {w m : Int64} {j : Nat} (hj : j < 64) (hm : m.toBitVec = BitVec.twoPow 64 j) : (w ||| m) = w ↔ w.toBitVec.getLsbD j = true := by
  rw [← Int64.toBitVec_inj, Int64.toBitVec_or, hm]
  constructor
  · intro h
    have t := congrArg (fun x => x.getLsbD j) h
    simp only [BitVec.getLsbD_or, BitVec.getLsbD_twoPow] at t
    simpa [hj] using t.symm
  · intro h
    apply BitVec.eq_of_getLsbD_eq
    intro i hi
    rw [BitVec.getLsbD_or, BitVec.getLsbD_twoPow]
    by_cases e : j = i
    · subst e; rw [h, Bool.true_or]
    · simp [e]
theorem ts_and {w m : Int64} {j : Nat} (hj : j < 64) (hm : m.toBitVec = BitVec.twoPow 64 j) : (w &&& (m ^^^ (-1))) = w ↔ w.toBitVec.getLsbD j = false := by
  have ha : (-1 : Int64).toBitVec = BitVec.allOnes 64 := by decide
  rw [← Int64.toBitVec_inj, Int64.toBitVec_and, Int64.toBitVec_xor, hm, ha]
  constructor
  · intro h
    have t := congrArg (fun x => x.getLsbD j) h
    simp only [BitVec.getLsbD_and, BitVec.getLsbD_xor, BitVec.getLsbD_twoPow, BitVec.getLsbD_allOnes] at t
    simpa [hj] using t.symm
  · intro h
    apply BitVec.eq_of_getLsbD_eq
    intro i hi
    rw [BitVec.getLsbD_and, BitVec.getLsbD_xor, BitVec.getLsbD_twoPow, BitVec.getLsbD_allOnes]
    by_cases e : j = i
    · subst e; rw [h, Bool.false_and]
    · simp [e, hi]
/-! ===== lN n to 2^64: shifts, and, or, masks, one bit ===== -/
theorem wb_tb (n : Nat) : (lN n).toBitVec = BitVec.ofNat 64 n := rfl
theorem wb_inj {a b : Int64} (h : a.toBitVec = b.toBitVec) : a = b := Int64.toBitVec_inj.mp h
theorem wb_tn {n : Nat} (h : n < 2 ^ 64) : (lN n).toBitVec.toNat = n := by rw [wb_tb, BitVec.toNat_ofNat, Nat.mod_eq_of_lt h]
theorem wb_of (x : Int64) : ∃ n, n < 2 ^ 64 ∧ x = lN n := ⟨x.toBitVec.toNat, x.toBitVec.isLt, wb_inj (by rw [wb_tb]; simp)⟩
theorem wb_of32 (x : Int32) : ∃ n, n < 2 ^ 32 ∧ x = nI n := ⟨x.toBitVec.toNat, x.toBitVec.isLt, Int32.toBitVec_inj.mp (by show _ = BitVec.ofNat 32 _; simp)⟩
theorem wb_c : ∀ k, k < 64 → ((nI k).toInt64 &&& 63) = lN k := by decide +kernel
theorem wb_cu : ∀ k, k < 64 → ((nI k).toInt64.toUInt64 &&& Int64.toUInt64 63) = UInt64.ofNat k := by decide +kernel
theorem wb_sm : ∀ k, k < 64 → (BitVec.ofNat 64 k).smod 64 = BitVec.ofNat 64 k := by decide +kernel
theorem wb_pw {a b : Nat} (h : a ≤ b) : 2 ^ b = 2 ^ a * 2 ^ (b - a) := by rw [← Nat.pow_add]; congr 1; omega
theorem wb_lt2 {a b : Nat} (h : a < b) : 2 ^ a < 2 ^ b := Nat.pow_lt_pow_right (by decide) h
theorem wb_mod (n : Nat) : lN n = lN (n % 2 ^ 64) := wb_inj (by rw [wb_tb, wb_tb]; apply BitVec.eq_of_toNat_eq; rw [BitVec.toNat_ofNat, BitVec.toNat_ofNat, Nat.mod_mod])
theorem wb_shr {n k : Nat} (hn : n < 2 ^ 64) (hk : k < 64) : ((lN n).toUInt64 >>> ((nI k).toInt64.toUInt64 &&& Int64.toUInt64 63)).toInt64 = lN (n / 2 ^ k) := by
  rw [wb_cu k hk]
  apply wb_inj
  apply BitVec.eq_of_toNat_eq
  show ((lN n).toUInt64 >>> UInt64.ofNat k).toNat = (BitVec.ofNat 64 _).toNat
  have h1 : (UInt64.ofNat k).toNat = k := by
    show (BitVec.ofNat 64 k).toNat = k
    rw [BitVec.toNat_ofNat, Nat.mod_eq_of_lt (by omega)]
  have h2 : (lN n).toUInt64.toNat = n := wb_tn hn
  rw [UInt64.toNat_shiftRight, h1, h2, Nat.mod_eq_of_lt hk, Nat.shiftRight_eq_div_pow, BitVec.toNat_ofNat, Nat.mod_eq_of_lt (Nat.lt_of_le_of_lt (Nat.div_le_self _ _) hn)]
theorem wb_shl (n : Nat) {k : Nat} (hk : k < 64) : lN n <<< ((nI k).toInt64 &&& 63) = lN (n * 2 ^ k) := by
  rw [wb_c k hk]
  apply wb_inj
  rw [Int64.toBitVec_shiftLeft, wb_tb, wb_tb, wb_tb, wb_sm k hk]
  apply BitVec.eq_of_toNat_eq
  rw [BitVec.shiftLeft_eq', BitVec.toNat_shiftLeft, BitVec.toNat_ofNat, BitVec.toNat_ofNat, BitVec.toNat_ofNat, Nat.mod_eq_of_lt (show k < 2 ^ 64 by omega), Nat.shiftLeft_eq, Nat.mul_mod, Nat.mod_mod, ← Nat.mul_mod]
theorem wb_and {a b : Nat} (ha : a < 2 ^ 64) (hb : b < 2 ^ 64) : lN a &&& lN b = lN (a &&& b) := by
  apply wb_inj
  rw [Int64.toBitVec_and, wb_tb, wb_tb, wb_tb]
  apply BitVec.eq_of_toNat_eq
  rw [BitVec.toNat_and, BitVec.toNat_ofNat, BitVec.toNat_ofNat, BitVec.toNat_ofNat, Nat.mod_eq_of_lt ha, Nat.mod_eq_of_lt hb, Nat.mod_eq_of_lt (Nat.and_lt_two_pow _ hb)]
theorem wb_or {a b : Nat} (ha : a < 2 ^ 64) (hb : b < 2 ^ 64) : lN a ||| lN b = lN (a ||| b) := by
  apply wb_inj
  rw [Int64.toBitVec_or, wb_tb, wb_tb, wb_tb]
  apply BitVec.eq_of_toNat_eq
  rw [BitVec.toNat_or, BitVec.toNat_ofNat, BitVec.toNat_ofNat, BitVec.toNat_ofNat, Nat.mod_eq_of_lt ha, Nat.mod_eq_of_lt hb, Nat.mod_eq_of_lt (Nat.or_lt_two_pow ha hb)]
theorem wb_mask {n k : Nat} (hn : n < 2 ^ 64) (hk : k < 64) : lN n &&& lN (2 ^ k - 1) = lN (n % 2 ^ k) := by
  rw [wb_and hn (by have := wb_lt2 hk; omega), Nat.and_two_pow_sub_one_eq_mod]
theorem wb_a1 {n : Nat} (hn : n < 2 ^ 64) : lN n &&& 1 = lN (n % 2) := wb_mask (k := 1) hn (by decide)
theorem wb_bit {n k : Nat} (hn : n < 2 ^ 64) (hk : k < 64) : ((lN n).toUInt64 >>> ((nI k).toInt64.toUInt64 &&& Int64.toUInt64 63)).toInt64 &&& 1 = lN (n / 2 ^ k % 2) := by
  rw [wb_shr hn hk, wb_a1 (Nat.lt_of_le_of_lt (Nat.div_le_self _ _) hn)]
theorem wb_xor {q k : Nat} (hk : k < 63) (h : 2 ^ k ≤ q) (h2 : q < 2 ^ (k + 1)) : lN q ^^^ lN (2 ^ k) = lN (q - 2 ^ k) := by
  obtain ⟨r, rfl⟩ : ∃ r, q = 2 ^ k + r := ⟨q - 2 ^ k, by omega⟩
  have hr : r < 2 ^ k := by rw [Nat.pow_succ] at h2; omega
  have hx : (2 ^ k + r) ^^^ 2 ^ k = r := by
    apply Nat.eq_of_testBit_eq
    intro i
    rw [Nat.testBit_xor, Nat.testBit_two_pow]
    rcases Nat.lt_trichotomy i k with h | h | h
    · rw [Nat.testBit_two_pow_add_gt h]
      simp [show ¬ k = i by omega]
    · subst h
      rw [Nat.testBit_two_pow_add_eq]
      simp
    · have a1 : 2 ^ (k + 1) ≤ 2 ^ i := Nat.pow_le_pow_right (by decide) h
      rw [Nat.testBit_lt_two_pow (show 2 ^ k + r < 2 ^ i by omega), Nat.testBit_lt_two_pow (show r < 2 ^ i by omega)]
      simp [show ¬ k = i by omega]
  have b1 := wb_lt2 (show k + 1 < 64 by omega)
  have b2 := wb_lt2 (show k < 64 by omega)
  apply wb_inj
  rw [Int64.toBitVec_xor, wb_tb, wb_tb, wb_tb]
  apply BitVec.eq_of_toNat_eq
  rw [BitVec.toNat_xor, BitVec.toNat_ofNat, BitVec.toNat_ofNat, BitVec.toNat_ofNat, Nat.mod_eq_of_lt (by omega : 2 ^ k + r < 2 ^ 64), Nat.mod_eq_of_lt b2, hx, Nat.add_sub_cancel_left, Nat.mod_eq_of_lt (by omega)]
/-! ===== lN: masks, 'or' of parts that don't overlap is a sum ===== -/
theorem u_tn {n : Nat} (h : n < 2 ^ 64) : (UInt64.ofNat n).toNat = n := Nat.mod_eq_of_lt h
theorem g_and {a b c : Nat} (ha : a < 2 ^ 64) (hb : b < 2 ^ 64) (hc : a &&& b = c) : lN a &&& lN b = lN c := by
  subst hc
  have h : UInt64.ofNat a &&& UInt64.ofNat b = UInt64.ofNat (a &&& b) := UInt64.toNat_inj.mp (by rw [UInt64.toNat_and, u_tn ha, u_tn hb, u_tn (Nat.and_lt_two_pow a hb)])
  have h2 := congrArg UInt64.toInt64 h
  exact h2
theorem g_and1 {a : Nat} (ha : a < 2 ^ 64) : lN a &&& 1 = lN (a % 2) := g_and (b := 1) ha (by decide) (Nat.and_two_pow_sub_one_eq_mod a 1)
theorem g_mask {a s p : Nat} (hp : 2 ^ s = p) (hs : s < 64) (ha : a < 2 ^ 64) : lN a &&& lN (p - 1) = lN (a % p) := by
  subst hp
  have := Nat.pow_lt_pow_right (show 1 < 2 by decide) hs
  exact g_and ha (by omega) (Nat.and_two_pow_sub_one_eq_mod a s)
theorem g_or {k p a b : Nat} (hp : 2 ^ k = p) (ha : a < p) (h : b * p + a < 2 ^ 64) : lN (b * p) ||| lN a = lN (b * p + a) := by
  subst hp
  have h1 : b * 2 ^ k ||| a = b * 2 ^ k + a := by rw [← Nat.shiftLeft_eq, Nat.shiftLeft_add_eq_or_of_lt ha]
  have h3 : UInt64.ofNat (b * 2 ^ k) ||| UInt64.ofNat a = UInt64.ofNat (b * 2 ^ k + a) := UInt64.toNat_inj.mp (by rw [UInt64.toNat_or, u_tn (by omega), u_tn (by omega), u_tn h, h1])
  have h2 := congrArg UInt64.toInt64 h3
  exact h2
theorem g_or' {k p a b : Nat} (hp : 2 ^ k = p) (ha : a < p) (h : a + b * p < 2 ^ 64) : lN a ||| lN (b * p) = lN (a + b * p) := by
  rw [Int64.or_comm, g_or hp ha (by omega), Nat.add_comm]
theorem g_ushr {a k p : Nat} {y : UInt64} (hy : y = UInt64.ofNat k) (hk : k < 64) (hp : 2 ^ k = p) (ha : a < 2 ^ 64) : ((lN a).toUInt64 >>> y).toInt64 = lN (a / p) := by
  subst hy hp
  have h : UInt64.ofNat a >>> UInt64.ofNat k = UInt64.ofNat (a / 2 ^ k) := UInt64.toNat_inj.mp (by rw [UInt64.toNat_shiftRight, u_tn ha, u_tn (by omega), u_tn (Nat.lt_of_le_of_lt (Nat.div_le_self _ _) ha), Nat.mod_eq_of_lt hk, Nat.shiftRight_eq_div_pow])
  have h2 := congrArg UInt64.toInt64 h
  exact h2
theorem g_shl {a k p : Nat} {y : Int64} (hy : y.toBitVec.smod 64 = BitVec.ofNat 64 k) (hk : k < 64) (hp : 2 ^ k = p) (ha : a < 2 ^ 64) : lN a <<< y = lN (a * p) := by
  subst hp
  apply Int64.toBitVec_inj.mp
  rw [Int64.toBitVec_shiftLeft, hy]
  apply BitVec.eq_of_toNat_eq
  have hb : (lN a).toBitVec.toNat = a := Nat.mod_eq_of_lt ha
  have hk' : (BitVec.ofNat 64 k).toNat = k := Nat.mod_eq_of_lt (by omega)
  have h : ((lN a).toBitVec <<< BitVec.ofNat 64 k).toNat = (a * 2 ^ k) % 2 ^ 64 := by simp only [BitVec.shiftLeft_eq', BitVec.toNat_shiftLeft, hb, hk', Nat.shiftLeft_eq]
  exact h
/-! ===== lN to 2^62 under >> and >>> ===== -/
theorem pf_lI {a : Nat} (h : a < 2 ^ 63) : (lN a).toInt = (a : Int) := lg_ofNat_toInt h
theorem pf_shr {a d : Nat} {D : Int64} (hD : (D.toBitVec.smod 64).toNat = d) (h : a < 2 ^ 62) : lN a >>> D = lN (a / 2 ^ d) := by
  have hd : a / 2 ^ d ≤ a := Nat.div_le_self _ _
  apply Int64.toInt_inj.mp
  have e : (lN a >>> D).toInt = (lN a).toInt >>> d := by
    rw [← hD]
    exact BitVec.toInt_sshiftRight ..
  rw [e, Int.shiftRight_eq_div_pow, pf_lI (by omega), pf_lI (by omega)]
  rfl
theorem pf_ushr {a d : Nat} {D : UInt64} (hD : D.toNat % 64 = d) (h : a < 2 ^ 62) : ((lN a).toUInt64 >>> D).toInt64 = lN (a / 2 ^ d) := by
  have hd : a / 2 ^ d ≤ a := Nat.div_le_self _ _
  have e : (lN a).toUInt64 >>> D = UInt64.ofNat (a / 2 ^ d) := UInt64.toNat_inj.mp (by
    rw [UInt64.toNat_shiftRight, hD, Nat.shiftRight_eq_div_pow, UInt64.toNat_ofNat']
    show (UInt64.ofNat a).toNat / 2 ^ d = _
    rw [UInt64.toNat_ofNat', Nat.mod_eq_of_lt (by omega), Nat.mod_eq_of_lt (by omega)])
  rw [e]
  rfl
theorem pf_andw (x : Int64) : ∃ m, m < 2 ^ 32 ∧ x &&& 4294967295 = lN m := ⟨x.toBitVec.toNat % 2 ^ 32, Nat.mod_lt _ (by decide), Int64.toBitVec_inj.mp (BitVec.eq_of_toNat_eq (by
  show (x.toBitVec &&& 4294967295#64).toNat = (BitVec.ofNat 64 (x.toBitVec.toNat % 2 ^ 32)).toNat
  rw [BitVec.toNat_and, show (4294967295#64).toNat = 2 ^ 32 - 1 from by decide, Nat.and_two_pow_sub_one_eq_mod, BitVec.toNat_ofNat]
  omega))⟩
/-! ===== Int64 as an unsigned number: uN x ===== -/
def uN (x : Int64) : Nat := x.toUInt64.toNat
theorem uN_lt (x : Int64) : uN x < 18446744073709551616 := x.toUInt64.toNat_lt
theorem uN_inj {x y : Int64} (h : uN x = uN y) : x = y := congrArg UInt64.toInt64 (UInt64.toNat_inj.mp h)
theorem uN_add (x y : Int64) : uN (x + y) = (uN x + uN y) % 18446744073709551616 := by
  show (x.toUInt64 + y.toUInt64).toNat = _
  exact UInt64.toNat_add _ _
theorem uN_mul (x y : Int64) : uN (x * y) = (uN x * uN y) % 18446744073709551616 := by
  show (x.toUInt64 * y.toUInt64).toNat = _
  exact UInt64.toNat_mul _ _
theorem uN_shl (x : Int64) : uN (x <<< ((1 : Int32).toInt64 &&& 63)) = (2 * uN x) % 18446744073709551616 := by
  have h : (((1 : Int32).toInt64 &&& 63).toBitVec.smod 64).toNat = 1 := by decide
  show (x.toBitVec <<< (((1 : Int32).toInt64 &&& 63).toBitVec.smod 64).toNat).toNat = _
  rw [h, BitVec.toNat_shiftLeft, Nat.shiftLeft_eq, Nat.mul_comm]
  rfl
theorem uN_shr (x : Int64) (s : UInt64) : uN (x.toUInt64 >>> s).toInt64 = uN x / 2 ^ (s.toNat % 64) := by
  show (x.toUInt64 >>> s).toNat = _
  rw [UInt64.toNat_shiftRight, Nat.shiftRight_eq_div_pow]
  rfl
theorem uN_s32 (x : Int64) : uN (x.toUInt64 >>> ((32 : Int32).toInt64.toUInt64 &&& Int64.toUInt64 63)).toInt64 = uN x / 4294967296 := by
  have h : ((32 : Int32).toInt64.toUInt64 &&& Int64.toUInt64 63).toNat % 64 = 32 := by decide
  rw [uN_shr, h]
theorem uN_s63 (x : Int64) : uN (x.toUInt64 >>> ((63 : Int32).toInt64.toUInt64 &&& Int64.toUInt64 63)).toInt64 = uN x / 9223372036854775808 := by
  have h : ((63 : Int32).toInt64.toUInt64 &&& Int64.toUInt64 63).toNat % 64 = 63 := by decide
  rw [uN_shr, h]
theorem uN_lo (x : Int64) : uN (x &&& 4294967295) = uN x % 4294967296 := by
  show (x.toUInt64 &&& Int64.toUInt64 4294967295).toNat = _
  rw [UInt64.toNat_and]
  exact Nat.and_two_pow_sub_one_eq_mod _ 32
theorem uN_bit (x : Int64) : (x &&& 1) = 0 ↔ uN x % 2 = 0 := by
  have h : uN (x &&& 1) = uN x % 2 := by
    show (x.toUInt64 &&& Int64.toUInt64 1).toNat = _
    rw [UInt64.toNat_and]
    exact Nat.and_two_pow_sub_one_eq_mod _ 1
  rw [← h]
  exact ⟨fun z => by rw [z]; rfl, fun z => uN_inj (z.trans rfl)⟩
theorem uN_or {x y : Int64} (hy : uN y < 2) : uN ((x <<< ((1 : Int32).toInt64 &&& 63)) ||| y) = (2 * uN x) % 18446744073709551616 + uN y := by
  have h1 : uN ((x <<< ((1 : Int32).toInt64 &&& 63)) ||| y) = uN (x <<< ((1 : Int32).toInt64 &&& 63)) ||| uN y := UInt64.toNat_or _ _
  have h2 : (2 * uN x) % 18446744073709551616 = 2 ^ 1 * (uN x % 9223372036854775808) := by omega
  rw [h1, uN_shl, h2]
  exact (Nat.two_pow_add_eq_or_of_lt (i := 1) hy _).symm
theorem nat_xor {a : Nat} (h : a < 18446744073709551616) : a ^^^ 2 ^ 63 = (a + 9223372036854775808) % 18446744073709551616 := by
  have h1 : (a ^^^ 2 ^ 63) % 2 ^ 63 = a % 2 ^ 63 := by rw [Nat.xor_mod_two_pow, Nat.mod_self, Nat.xor_zero]
  have h2 : (a ^^^ 2 ^ 63) / 2 ^ 63 = (a / 2 ^ 63) ^^^ 1 := by rw [Nat.xor_div_two_pow, Nat.div_self (Nat.two_pow_pos 63)]
  have h3 : a / 2 ^ 63 = 0 ∨ a / 2 ^ 63 = 1 := by omega
  generalize a ^^^ 2 ^ 63 = t at h1 h2
  rcases h3 with h3 | h3
  · rw [h3] at h2
    have h2 : t / 2 ^ 63 = 1 := h2
    omega
  · rw [h3] at h2
    have h2 : t / 2 ^ 63 = 0 := h2
    omega
theorem uN_xor (x : Int64) : uN (x ^^^ (-9223372036854775808)) = (uN x + 9223372036854775808) % 18446744073709551616 := by
  rw [← nat_xor (uN_lt x)]
  exact UInt64.toNat_xor _ _
theorem uN_int (x : Int64) : x.toInt = if 2 * uN x < 18446744073709551616 then (uN x : Int) else (uN x : Int) - 18446744073709551616 := BitVec.toInt_eq_toNat_cond _
theorem uN_le (x y : Int64) : (x ^^^ (-9223372036854775808)) ≤ (y ^^^ (-9223372036854775808)) ↔ uN x ≤ uN y := by
  have hx := uN_lt x
  have hy := uN_lt y
  rw [Int64.le_iff_toInt_le, uN_int, uN_int, uN_xor, uN_xor]
  omega
theorem uN_sk (x : Int64) {k : Nat} (hk : k < 64) : uN (x.toUInt64 >>> ((nI k).toInt64.toUInt64 &&& Int64.toUInt64 63)).toInt64 = uN x / 2 ^ k := by
  have h : ((nI k).toInt64.toUInt64 &&& Int64.toUInt64 63).toNat % 64 = k := by
    rw [nI_l (by omega), UInt64.toNat_and]
    have e : (lN k).toUInt64.toNat = k % 2 ^ 64 := rfl
    have e2 : (Int64.toUInt64 63).toNat = 2 ^ 6 - 1 := by decide
    rw [e, e2, Nat.and_two_pow_sub_one_eq_mod]
    omega
  rw [uN_shr, h]
/-! ===== unsigned comparison by xor with the least ===== -/
theorem lN_bv (n : Nat) : (lN n).toBitVec = BitVec.ofNat 64 n := rfl
theorem lN_nat {n : Nat} (h : n < 2 ^ 64) : (lN n).toBitVec.toNat = n := by rw [lN_bv, BitVec.toNat_ofNat]; exact Nat.mod_eq_of_lt h
theorem lN_xor (a b : Nat) : lN a ^^^ lN b = lN (a ^^^ b) := by
  apply Int64.toBitVec_inj.mp; rw [Int64.toBitVec_xor, lN_bv, lN_bv, lN_bv]; apply BitVec.eq_of_getLsbD_eq; intro i hi; simp [BitVec.getLsbD_ofNat, Nat.testBit_xor, hi]
theorem lN_ti {m : Nat} (h : m < 2 ^ 64) : (lN m).toInt = if m < 2 ^ 63 then (m : Int) else (m : Int) - 2 ^ 64 := by
  have c := BitVec.toInt_eq_toNat_cond (lN m).toBitVec
  rw [lN_nat h] at c
  show (lN m).toBitVec.toInt = _
  rw [c]
  split <;> split <;> omega
theorem xor63 {x : Nat} (h : x < 2 ^ 63) : x ^^^ 2 ^ 63 = 2 ^ 63 + x := by
  apply Nat.eq_of_testBit_eq
  intro i
  rw [Nat.testBit_xor, Nat.testBit_two_pow]
  rcases Nat.lt_trichotomy i 63 with z | z | z
  · rw [Nat.testBit_two_pow_add_gt z, decide_eq_false (by omega)]; simp
  · subst z; rw [Nat.testBit_two_pow_add_eq]; simp
  · have hp : 2 ^ 64 ≤ 2 ^ i := Nat.pow_le_pow_right (by decide) z
    rw [Nat.testBit_lt_two_pow (show x < 2 ^ i by omega), Nat.testBit_lt_two_pow (show 2 ^ 63 + x < 2 ^ i by omega), decide_eq_false (by omega)]; rfl
theorem xorS {a : Nat} (h : a < 2 ^ 64) : (lN a ^^^ (-9223372036854775808)).toInt = (a : Int) - 2 ^ 63 := by
  rw [show (-9223372036854775808 : Int64) = lN (2 ^ 63) from by decide +kernel, lN_xor]
  rcases Nat.lt_or_ge a (2 ^ 63) with z | z
  · rw [xor63 z, lN_ti (by omega), if_neg (by omega)]; omega
  · obtain ⟨x, rfl⟩ : ∃ x, a = 2 ^ 63 + x := ⟨a - 2 ^ 63, by omega⟩
    rw [← xor63 (by omega), Nat.xor_assoc, Nat.xor_self, Nat.xor_zero, lN_ti (by omega), if_pos (by omega), xor63 (by omega)]; omega
theorem ultL {a b : Nat} (ha : a < 2 ^ 64) (hb : b < 2 ^ 64) : ((lN b ^^^ (-9223372036854775808)) ≤ (lN a ^^^ (-9223372036854775808))) ↔ b ≤ a := by
  rw [Int64.le_iff_toInt_le, xorS ha, xorS hb]; omega
/-! ===== Int64 masks of n low bits ===== -/
theorem cr_bits (W U M : BitVec 64) : ((W &&& U) &&& (U &&& (M ^^^ BitVec.allOnes 64))) = 0#64 ↔ (W &&& U) &&& M = W &&& U := by
  constructor
  · intro h
    apply BitVec.eq_of_getLsbD_eq
    intro i hi
    have e := congrArg (fun x => BitVec.getLsbD x i) h
    simp only [BitVec.getLsbD_and, BitVec.getLsbD_xor, BitVec.getLsbD_allOnes, BitVec.getLsbD_zero, hi, decide_true] at e ⊢
    revert e
    cases W.getLsbD i <;> cases U.getLsbD i <;> cases M.getLsbD i <;> decide
  · intro h
    apply BitVec.eq_of_getLsbD_eq
    intro i hi
    have e := congrArg (fun x => BitVec.getLsbD x i) h
    simp only [BitVec.getLsbD_and, BitVec.getLsbD_xor, BitVec.getLsbD_allOnes, BitVec.getLsbD_zero, hi, decide_true] at e ⊢
    revert e
    cases W.getLsbD i <;> cases U.getLsbD i <;> cases M.getLsbD i <;> decide
theorem cr_mask (w U m : Int64) (n : Nat) (hm : m.toBitVec.toNat = 2 ^ n - 1) : ((w &&& U) &&& (U &&& (m ^^^ (-1)))) = 0 ↔ (w &&& U).toBitVec.toNat < 2 ^ n := by
  have e0 : (-1 : Int64).toBitVec = BitVec.allOnes 64 := by decide
  have z0 : (0 : Int64).toBitVec = 0#64 := by decide
  rw [← Int64.toBitVec_inj, z0, Int64.toBitVec_and, Int64.toBitVec_and, Int64.toBitVec_and, Int64.toBitVec_xor, e0, cr_bits]
  generalize w.toBitVec &&& U.toBitVec = T
  rw [← BitVec.toNat_inj, BitVec.toNat_and, hm, Nat.and_two_pow_sub_one_eq_mod]
  constructor
  · intro h
    have t := Nat.mod_lt T.toNat (Nat.two_pow_pos n)
    rw [h] at t
    exact t
  · exact Nat.mod_eq_of_lt
theorem cr_shr (t : Int64) (x : UInt64) (n : Nat) (hx : x.toNat % 64 = n) : (t.toUInt64 >>> x).toInt64 = 0 ↔ t.toBitVec.toNat < 2 ^ n := by
  rw [← Int64.toBitVec_inj, ← BitVec.toNat_inj]
  show (t.toUInt64 >>> x).toNat = 0 ↔ t.toUInt64.toNat < 2 ^ n
  rw [UInt64.toNat_shiftRight, hx, Nat.shiftRight_eq_div_pow]
  constructor
  · intro h
    have d : t.toUInt64.toNat / 2 ^ n < 1 := by
      rw [h]
      decide
    have e := (Nat.div_lt_iff_lt_mul (Nat.two_pow_pos n)).mp d
    rw [Nat.one_mul] at e
    exact e
  · exact Nat.div_eq_of_lt
theorem cr_amt (s : Int64) : ∃ n, n < 64 ∧ s &&& 63 = lN n ∧ (s.toUInt64 &&& Int64.toUInt64 63).toNat % 64 = n := by
  have e : (s.toUInt64 &&& Int64.toUInt64 63).toNat = s.toUInt64.toNat % 2 ^ 6 := by
    rw [UInt64.toNat_and, show (Int64.toUInt64 63).toNat = 2 ^ 6 - 1 from by decide, Nat.and_two_pow_sub_one_eq_mod]
  refine ⟨s.toUInt64.toNat % 2 ^ 6, by omega, ?_, by omega⟩
  rw [← Int64.toBitVec_inj, ← BitVec.toNat_inj]
  show (s.toUInt64 &&& Int64.toUInt64 63).toNat = (BitVec.ofNat 64 (s.toUInt64.toNat % 2 ^ 6)).toNat
  rw [e, BitVec.toNat_ofNat]
  omega
end
section
/-! ===== the formula, as the reference keeps it: kk i = 0: a leaf of party nn i; else a gate of threshold kk i over nn i inputs; inputs first ===== -/
/-- the height of the stack when i nodes are put -/
def fs_tp (kk nn : Nat → Nat) : Nat → Nat
  | 0 => 0
  | i + 1 => if kk i = 0 then fs_tp kk nn i + 1 else fs_tp kk nn i - nn i + 1
/-- the node at place j of the stack when i nodes are put -/
def fs_st (kk nn : Nat → Nat) : Nat → Nat → Nat
  | 0 => fun _ => 0
  | i + 1 => fun j => if j + 1 = fs_tp kk nn (i + 1) then i else fs_st kk nn i j
/-- input q of gate g -/
def fs_ch (kk nn : Nat → Nat) (g q : Nat) : Nat := fs_st kk nn g (fs_tp kk nn g - nn g + q)
def fs_WF (kk nn : Nat → Nat) (N : Nat) : Prop := ∀ i, i < N → (kk i = 0 ∧ nn i < 8 ∧ fs_tp kk nn i < 6) ∨ (1 ≤ kk i ∧ kk i ≤ nn i ∧ nn i ≤ 5 ∧ nn i ≤ fs_tp kk nn i)
section
variable {kk nn : Nat → Nat}
theorem fs_tp_leaf {i : Nat} (h : kk i = 0) : fs_tp kk nn (i + 1) = fs_tp kk nn i + 1 := if_pos h
theorem fs_tp_gate {i : Nat} (h : ¬ kk i = 0) : fs_tp kk nn (i + 1) = fs_tp kk nn i - nn i + 1 := if_neg h
theorem fs_st_top {i j : Nat} (h : j + 1 = fs_tp kk nn (i + 1)) : fs_st kk nn (i + 1) j = i := if_pos h
theorem fs_st_low {i j : Nat} (h : ¬ j + 1 = fs_tp kk nn (i + 1)) : fs_st kk nn (i + 1) j = fs_st kk nn i j := if_neg h
theorem fs_tp_le (i : Nat) : fs_tp kk nn (i + 1) ≤ fs_tp kk nn i + 1 := by
  by_cases h : kk i = 0
  · rw [fs_tp_leaf h]; exact Nat.le_refl _
  · rw [fs_tp_gate h]; omega
theorem fs_tp_pos (i : Nat) : 1 ≤ fs_tp kk nn (i + 1) := by
  by_cases h : kk i = 0
  · rw [fs_tp_leaf h]; omega
  · rw [fs_tp_gate h]; omega
theorem fs_tp_6 {N : Nat} (wf : fs_WF kk nn N) : ∀ i, i ≤ N → fs_tp kk nn i ≤ 6 := by
  intro i
  induction i with
  | zero => intro _; exact Nat.zero_le _
  | succ i ih =>
    intro hi
    rcases wf i (by omega) with ⟨h, _, h2⟩ | ⟨h, h1, _, h2⟩
    · rw [fs_tp_leaf h]; omega
    · rw [fs_tp_gate (by omega)]
      have := ih (by omega)
      omega
theorem fs_st_lt : ∀ (i j : Nat), j < fs_tp kk nn i → fs_st kk nn i j < i := by
  intro i
  induction i with
  | zero => intro j hj; exact absurd hj (Nat.not_lt_zero _)
  | succ i ih =>
    intro j hj
    by_cases h : j + 1 = fs_tp kk nn (i + 1)
    · rw [fs_st_top h]; exact Nat.lt_succ_self i
    · rw [fs_st_low h]
      have h1 := fs_tp_le (kk := kk) (nn := nn) i
      exact Nat.lt_succ_of_lt (ih j (by omega))
theorem fs_st_mono : ∀ (i j j' : Nat), j < j' → j' < fs_tp kk nn i → fs_st kk nn i j < fs_st kk nn i j' := by
  intro i
  induction i with
  | zero => intro j j' _ hj; exact absurd hj (Nat.not_lt_zero _)
  | succ i ih =>
    intro j j' hj hj'
    have h1 := fs_tp_le (kk := kk) (nn := nn) i
    rw [fs_st_low (j := j) (by omega)]
    by_cases h : j' + 1 = fs_tp kk nn (i + 1)
    · rw [fs_st_top h]; exact fs_st_lt i j (by omega)
    · rw [fs_st_low h]; exact ih j j' hj (by omega)
theorem fs_st_inj (i j j' : Nat) (hj : j < fs_tp kk nn i) (hj' : j' < fs_tp kk nn i) (h : fs_st kk nn i j = fs_st kk nn i j') : j = j' := by
  rcases Nat.lt_trichotomy j j' with z | z | z
  · have := fs_st_mono (kk := kk) (nn := nn) i j j' z hj'; omega
  · exact z
  · have := fs_st_mono (kk := kk) (nn := nn) i j' j z hj; omega
theorem fs_ch_lt {g q : Nat} (hq : q < nn g) (hn : nn g ≤ fs_tp kk nn g) : fs_ch kk nn g q < g := fs_st_lt g _ (by omega)
theorem fs_ch_mono {g q q' : Nat} (hq : q < q') (hq' : q' < nn g) (hn : nn g ≤ fs_tp kk nn g) : fs_ch kk nn g q < fs_ch kk nn g q' := fs_st_mono g _ _ (by omega) (by omega)
theorem fs_ch_inj {g q q' : Nat} (hq : q < nn g) (hq' : q' < nn g) (hn : nn g ≤ fs_tp kk nn g) (h : fs_ch kk nn g q = fs_ch kk nn g q') : q = q' := by
  have := fs_st_inj (kk := kk) (nn := nn) g _ _ (by omega) (by omega) h
  omega
/-- an input that a gate has taken is not on the stack again -/
theorem fs_gone {g q : Nat} (hk : ¬ kk g = 0) (hq : q < nn g) (hn : nn g ≤ fs_tp kk nn g) : ∀ (d j : Nat), j < fs_tp kk nn (g + 1 + d) → ¬ fs_st kk nn (g + 1 + d) j = fs_ch kk nn g q := by
  intro d
  have hc := fs_ch_lt hq hn
  induction d with
  | zero =>
    intro j hj
    show ¬ fs_st kk nn (g + 1) j = _
    have hj' : j < fs_tp kk nn (g + 1) := hj
    by_cases h : j + 1 = fs_tp kk nn (g + 1)
    · rw [fs_st_top h]; omega
    · rw [fs_st_low h]
      rw [fs_tp_gate hk] at h hj'
      have := fs_st_mono (kk := kk) (nn := nn) g j (fs_tp kk nn g - nn g + q) (by omega) (by omega)
      unfold fs_ch
      omega
  | succ d ih =>
    intro j hj
    show ¬ fs_st kk nn (g + 1 + d + 1) j = _
    have hj' : j < fs_tp kk nn (g + 1 + d + 1) := hj
    by_cases h : j + 1 = fs_tp kk nn (g + 1 + d + 1)
    · rw [fs_st_top h]; omega
    · rw [fs_st_low h]
      have h1 := fs_tp_le (kk := kk) (nn := nn) (g + 1 + d)
      exact ih j (by omega)
theorem fs_gone' {g g' q j : Nat} (hk : ¬ kk g = 0) (hq : q < nn g) (hn : nn g ≤ fs_tp kk nn g) (hg : g < g') (hj : j < fs_tp kk nn g') : ¬ fs_st kk nn g' j = fs_ch kk nn g q := by
  obtain ⟨d, rfl⟩ : ∃ d, g' = g + 1 + d := ⟨g' - g - 1, by omega⟩
  exact fs_gone hk hq hn d j hj
/-- two gates have no input in common -/
theorem fs_ch_par {g g' q q' : Nat} (hk : ¬ kk g = 0) (hq : q < nn g) (hn : nn g ≤ fs_tp kk nn g) (hg : g < g') (hq' : q' < nn g') (hn' : nn g' ≤ fs_tp kk nn g') : ¬ fs_ch kk nn g' q' = fs_ch kk nn g q := fs_gone' hk hq hn hg (by omega)
end
/-! === the formula below n alone counts === -/
section
variable {kk nn kk' nn' : Nat → Nat}
theorem fs_tp_cg : ∀ n, (∀ i, i < n → kk i = kk' i ∧ nn i = nn' i) → fs_tp kk nn n = fs_tp kk' nn' n := by
  intro n
  induction n with
  | zero => intro _; rfl
  | succ n ih =>
    intro h
    have h1 := ih (fun i hi => h i (by omega))
    have h2 := h n (by omega)
    show (if kk n = 0 then fs_tp kk nn n + 1 else fs_tp kk nn n - nn n + 1) = (if kk' n = 0 then fs_tp kk' nn' n + 1 else fs_tp kk' nn' n - nn' n + 1)
    rw [h1, h2.1, h2.2]
theorem fs_st_cg : ∀ n, (∀ i, i < n → kk i = kk' i ∧ nn i = nn' i) → fs_st kk nn n = fs_st kk' nn' n := by
  intro n
  induction n with
  | zero => intro _; rfl
  | succ n ih =>
    intro h
    have h1 := ih (fun i hi => h i (by omega))
    have h2 := fs_tp_cg (n + 1) h
    show (fun j => if j + 1 = fs_tp kk nn (n + 1) then n else fs_st kk nn n j) = (fun j => if j + 1 = fs_tp kk' nn' (n + 1) then n else fs_st kk' nn' n j)
    rw [h1, h2]
theorem fs_ch_cg {n g : Nat} (hg : g < n) (h : ∀ i, i < n → kk i = kk' i ∧ nn i = nn' i) : fs_ch kk nn g = fs_ch kk' nn' g := by
  have h1 := fs_tp_cg (kk := kk) (nn := nn) (kk' := kk') (nn' := nn') g (fun i hi => h i (by omega))
  have h2 := fs_st_cg (kk := kk) (nn := nn) (kk' := kk') (nn' := nn') g (fun i hi => h i (by omega))
  funext q
  unfold fs_ch
  rw [h1, h2, (h g hg).2]
theorem fs_WF_cg {n : Nat} (h : ∀ i, i < n → kk i = kk' i ∧ nn i = nn' i) (wf : fs_WF kk nn n) : fs_WF kk' nn' n := by
  intro i hi
  have h1 := fs_tp_cg (kk := kk) (nn := nn) (kk' := kk') (nn' := nn') i (fun j hj => h j (by omega))
  have h2 := h i hi
  rw [← h1, ← h2.1, ← h2.2]
  exact wf i hi
end
/-! ===== which sets fulfil a node ===== -/
def fs_cnt (b : Nat → Bool) : Nat → Nat
  | 0 => 0
  | n + 1 => fs_cnt b n + (if b n = true then 1 else 0)
def fs_loc (kk nn : Nat → Nat) (m f : Nat → Bool) (i : Nat) : Bool := if kk i = 0 then m (nn i) else decide (kk i ≤ fs_cnt (fun q => f (fs_ch kk nn i q)) (nn i))
def fs_tab (kk nn : Nat → Nat) (m : Nat → Bool) : Nat → Nat → Bool
  | 0 => fun _ => false
  | i + 1 => fun j => if j = i then fs_loc kk nn m (fs_tab kk nn m i) i else fs_tab kk nn m i j
/-- the set m fulfils node i -/
def fs_ev (kk nn : Nat → Nat) (m : Nat → Bool) (i : Nat) : Bool := fs_tab kk nn m (i + 1) i
theorem fs_cnt_cg {b b' : Nat → Bool} : ∀ n, (∀ q, q < n → b q = b' q) → fs_cnt b n = fs_cnt b' n := by
  intro n
  induction n with
  | zero => intro _; rfl
  | succ n ih =>
    intro h
    show fs_cnt b n + _ = fs_cnt b' n + _
    rw [ih (fun q hq => h q (by omega)), h n (by omega)]
theorem fs_cnt_le (b : Nat → Bool) : ∀ n, fs_cnt b n ≤ n := by
  intro n
  induction n with
  | zero => exact Nat.le_refl _
  | succ n ih =>
    show fs_cnt b n + (if b n = true then 1 else 0) ≤ n + 1
    by_cases h : b n = true
    · rw [if_pos h]; omega
    · rw [if_neg h]; omega
theorem fs_cnt_t {b : Nat → Bool} {n : Nat} (h : b n = true) : fs_cnt b (n + 1) = fs_cnt b n + 1 := by
  show fs_cnt b n + (if b n = true then 1 else 0) = _
  rw [if_pos h]
theorem fs_cnt_f {b : Nat → Bool} {n : Nat} (h : b n = false) : fs_cnt b (n + 1) = fs_cnt b n := by
  show fs_cnt b n + (if b n = true then 1 else 0) = _
  rw [if_neg (by rw [h]; decide)]; rfl
theorem fs_cnt_up (b : Nat → Bool) {n m : Nat} (h : n ≤ m) : fs_cnt b n ≤ fs_cnt b m := by
  obtain ⟨d, rfl⟩ : ∃ d, m = n + d := ⟨m - n, by omega⟩
  clear h
  induction d with
  | zero => exact Nat.le_refl _
  | succ d ih => exact Nat.le_trans ih (Nat.le_add_right _ _)
theorem fs_cnt_hi (b : Nat → Bool) (n : Nat) : ∀ d, (∀ q, n ≤ q → q < n + d → b q = false) → fs_cnt b (n + d) = fs_cnt b n := by
  intro d
  induction d with
  | zero => intro _; rfl
  | succ d ih =>
    intro h
    rw [show n + (d + 1) = n + d + 1 from rfl, fs_cnt_f (h (n + d) (by omega) (by omega))]
    exact ih (fun q h1 h2 => h q h1 (by omega))
section
variable {kk nn : Nat → Nat} {m : Nat → Bool}
theorem fs_tab_ev : ∀ (i j : Nat), j < i → fs_tab kk nn m i j = fs_ev kk nn m j := by
  intro i
  induction i with
  | zero => intro j hj; exact absurd hj (Nat.not_lt_zero _)
  | succ i ih =>
    intro j hj
    by_cases h : j = i
    · subst h; rfl
    · show (if j = i then _ else fs_tab kk nn m i j) = _
      rw [if_neg h]
      exact ih j (by omega)
theorem fs_ev_leaf {i : Nat} (h : kk i = 0) : fs_ev kk nn m i = m (nn i) := by
  show (if i = i then fs_loc kk nn m (fs_tab kk nn m i) i else fs_tab kk nn m i i) = _
  rw [if_pos rfl]
  exact if_pos h
theorem fs_ev_gate {i : Nat} (h : ¬ kk i = 0) (hn : nn i ≤ fs_tp kk nn i) : fs_ev kk nn m i = decide (kk i ≤ fs_cnt (fun q => fs_ev kk nn m (fs_ch kk nn i q)) (nn i)) := by
  show (if i = i then fs_loc kk nn m (fs_tab kk nn m i) i else fs_tab kk nn m i i) = _
  rw [if_pos rfl]
  show (if kk i = 0 then m (nn i) else decide (kk i ≤ fs_cnt (fun q => fs_tab kk nn m i (fs_ch kk nn i q)) (nn i))) = _
  rw [if_neg h, fs_cnt_cg (nn i) (fun q hq => fs_tab_ev i _ (fs_ch_lt hq hn))]
theorem fs_ev_m {m' : Nat → Bool} {N : Nat} (wf : fs_WF kk nn N) (hm : ∀ p, p < 8 → m p = m' p) : ∀ n i, i < n → i < N → fs_ev kk nn m i = fs_ev kk nn m' i := by
  intro n
  induction n with
  | zero => intro i hi; exact absurd hi (Nat.not_lt_zero _)
  | succ n ih =>
    intro i hi hN
    rcases wf i hN with ⟨h, h1, h2⟩ | ⟨h, h1, h2, h3⟩
    · rw [fs_ev_leaf h, fs_ev_leaf h]; exact hm _ h1
    · have h0 : ¬ kk i = 0 := by omega
      rw [fs_ev_gate h0 h3, fs_ev_gate h0 h3, fs_cnt_cg (nn i) (fun q hq => ih (fs_ch kk nn i q) (by have := fs_ch_lt hq h3; omega) (by have := fs_ch_lt hq h3; omega))]
theorem fs_ev_cg {kk' nn' : Nat → Nat} {N : Nat} (wf : fs_WF kk nn N) (hc : ∀ i, i < N → kk i = kk' i ∧ nn i = nn' i) : ∀ n i, i < n → i < N → fs_ev kk nn m i = fs_ev kk' nn' m i := by
  intro n
  induction n with
  | zero => intro i hi; exact absurd hi (Nat.not_lt_zero _)
  | succ n ih =>
    intro i hi hN
    have hci := hc i hN
    rcases wf i hN with ⟨h, h1, h2⟩ | ⟨h, h1, h2, h3⟩
    · rw [fs_ev_leaf h, fs_ev_leaf (hci.1 ▸ h), hci.2]
    · have h0 : ¬ kk i = 0 := by omega
      have h0' : ¬ kk' i = 0 := by rw [← hci.1]; exact h0
      have h3' : nn' i ≤ fs_tp kk' nn' i := by
        rw [← hci.2, ← fs_tp_cg i (fun j hj => hc j (by omega))]; exact h3
      rw [fs_ev_gate h0 h3, fs_ev_gate h0' h3', fs_cnt_cg (nn i) (fun q hq => ih (fs_ch kk nn i q) (by have := fs_ch_lt hq h3; omega) (by have := fs_ch_lt hq h3; omega)), fs_ch_cg hN hc, hci.1, hci.2]
end
end
section
/-! ===== sums, polynomials, weights ===== -/
def fs_sum (f : Nat → Nat) : Nat → Nat
  | 0 => 0
  | n + 1 => fs_sum f n + f n
theorem fs_sum_cg {f g : Nat → Nat} : ∀ n, (∀ i, i < n → f i = g i) → fs_sum f n = fs_sum g n := by
  intro n
  induction n with
  | zero => intro _; rfl
  | succ n ih =>
    intro h
    show fs_sum f n + f n = fs_sum g n + g n
    rw [ih (fun i hi => h i (by omega)), h n (by omega)]
theorem fs_sum_add (f g : Nat → Nat) : ∀ n, fs_sum (fun i => f i + g i) n = fs_sum f n + fs_sum g n := by
  intro n
  induction n with
  | zero => rfl
  | succ n ih =>
    show fs_sum (fun i => f i + g i) n + (f n + g n) = (fs_sum f n + f n) + (fs_sum g n + g n)
    rw [ih]; omega
theorem fs_sum_mul (f : Nat → Nat) (c : Nat) : ∀ n, fs_sum (fun i => f i * c) n = fs_sum f n * c := by
  intro n
  induction n with
  | zero => exact (Nat.zero_mul c).symm
  | succ n ih =>
    show fs_sum (fun i => f i * c) n + f n * c = (fs_sum f n + f n) * c
    rw [ih, Nat.add_mul]
theorem fs_sum_0 : ∀ n, fs_sum (fun _ => 0) n = 0 := by
  intro n
  induction n with
  | zero => rfl
  | succ n ih => exact ih
theorem fs_sum_swap (f : Nat → Nat → Nat) (b : Nat) : ∀ a, fs_sum (fun i => fs_sum (fun j => f i j) b) a = fs_sum (fun j => fs_sum (fun i => f i j) a) b := by
  intro a
  induction a with
  | zero => exact (fs_sum_0 b).symm
  | succ a ih =>
    show fs_sum (fun i => fs_sum (fun j => f i j) b) a + fs_sum (fun j => f a j) b = fs_sum (fun j => fs_sum (fun i => f i j) a + f a j) b
    rw [ih, fs_sum_add]
theorem fs_sum_mod {f g : Nat → Nat} {k : Nat} : ∀ n, (∀ i, i < n → f i % k = g i % k) → fs_sum f n % k = fs_sum g n % k := by
  intro n
  induction n with
  | zero => intro _; rfl
  | succ n ih =>
    intro h
    show (fs_sum f n + f n) % k = (fs_sum g n + g n) % k
    rw [Nat.add_mod, ih (fun i hi => h i (by omega)), h n (by omega), ← Nat.add_mod]
theorem fs_sum_1st (C : Nat → Nat) : ∀ k, fs_sum (fun d => C d * (if d = 0 then 1 else 0)) (k + 1) = C 0 := by
  intro k
  induction k with
  | zero => show 0 + C 0 * (if (0 : Nat) = 0 then 1 else 0) = C 0; rw [if_pos rfl]; omega
  | succ k ih =>
    show fs_sum (fun d => C d * (if d = 0 then 1 else 0)) (k + 1) + C (k + 1) * (if k + 1 = 0 then 1 else 0) = C 0
    rw [ih, if_neg (Nat.succ_ne_zero k)]; omega
/-- the polynomial with the first k coefficients at x -/
def fs_P (C : Nat → Nat) (x k : Nat) : Nat := fs_sum (fun d => C d * x ^ d) k
theorem fs_P_cg {C D : Nat → Nat} {x k : Nat} (h : ∀ d, d < k → C d = D d) : fs_P C x k = fs_P D x k := fs_sum_cg k (fun d hd => by rw [h d hd])
theorem fs_P_add (C D : Nat → Nat) (x k : Nat) : fs_P (fun d => C d + D d) x k = fs_P C x k + fs_P D x k := by
  unfold fs_P
  rw [← fs_sum_add]
  exact fs_sum_cg k (fun d _ => Nat.add_mul _ _ _)
theorem fs_P_mul (C : Nat → Nat) (f x k : Nat) : fs_P (fun d => C d * f) x k = fs_P C x k * f := by
  unfold fs_P
  rw [← fs_sum_mul]
  exact fs_sum_cg k (fun d _ => Nat.mul_right_comm _ _ _)
theorem fs_P_const (m x k : Nat) : fs_P (fun d => if d = 0 then m else 0) x (k + 1) = m := by
  have e : ∀ d, d < k + 1 → (if d = 0 then m else 0) * x ^ d = (fun _ => m) d * (if d = 0 then 1 else 0) := by
    intro d _
    by_cases h : d = 0
    · subst h; simp
    · simp [h]
  exact (fs_sum_cg (k + 1) e).trans (fs_sum_1st (fun _ => m) k)
def fs_PO (kk nn : Nat → Nat) (R : Nat) (V : Nat → Nat) (C : Nat → Nat → Nat) : Prop := ∀ g, g ≤ R → ¬ kk g = 0 → V g = C g 0 % 251 ∧ ∀ q, q < nn g → V (fs_ch kk nn g q) = fs_P (C g) (q + 1) (kk g) % 251
theorem fs_m2 (a b : Nat) : (a % 251 + b) % 251 = (a + b) % 251 := by omega
theorem fs_m3 (a b : Nat) : (a % 251 + b % 251) % 251 = (a + b) % 251 := by omega
theorem fs_PO_add {kk nn : Nat → Nat} {R : Nat} {V W : Nat → Nat} {C D : Nat → Nat → Nat} (h : fs_PO kk nn R V C) (h' : fs_PO kk nn R W D) : fs_PO kk nn R (fun i => (V i + W i) % 251) (fun g d => C g d + D g d) := by
  intro g hg hk
  have h1 := h g hg hk
  have h2 := h' g hg hk
  refine ⟨?_, fun q hq => ?_⟩
  · show (V g + W g) % 251 = (C g 0 + D g 0) % 251
    rw [h1.1, h2.1, fs_m3]
  · show (V (fs_ch kk nn g q) + W (fs_ch kk nn g q)) % 251 = fs_P (fun d => C g d + D g d) (q + 1) (kk g) % 251
    rw [h1.2 q hq, h2.2 q hq, fs_m3, fs_P_add]
theorem fs_PO_const (kk nn : Nat → Nat) (R m : Nat) (hm : m < 251) : fs_PO kk nn R (fun _ => m) (fun _ d => if d = 0 then m else 0) := by
  intro g _ hk
  refine ⟨?_, fun q _ => ?_⟩
  · show m = (if (0 : Nat) = 0 then m else 0) % 251
    rw [if_pos rfl, Nat.mod_eq_of_lt hm]
  · obtain ⟨k, hk'⟩ : ∃ k, kk g = k + 1 := ⟨kk g - 1, by omega⟩
    show m = fs_P (fun d => if d = 0 then m else 0) (q + 1) (kk g) % 251
    rw [hk', fs_P_const, Nat.mod_eq_of_lt hm]
theorem fs_PO_mul {kk nn : Nat → Nat} {R : Nat} {V : Nat → Nat} {C : Nat → Nat → Nat} (h : fs_PO kk nn R V C) (f : Nat) : fs_PO kk nn R (fun i => V i * f % 251) (fun g d => C g d * f) := by
  intro g hg hk
  have h1 := h g hg hk
  refine ⟨?_, fun q hq => ?_⟩
  · show V g * f % 251 = C g 0 * f % 251
    rw [h1.1, Nat.mod_mul_mod]
  · show V (fs_ch kk nn g q) * f % 251 = fs_P (fun d => C g d * f) (q + 1) (kk g) % 251
    rw [h1.2 q hq, Nat.mod_mul_mod, fs_P_mul]
theorem fs_PO_cg {kk nn kk' nn' : Nat → Nat} {R : Nat} {V : Nat → Nat} {C : Nat → Nat → Nat} (hc : ∀ i, i < R + 1 → kk i = kk' i ∧ nn i = nn' i) (h : fs_PO kk nn R V C) : fs_PO kk' nn' R V C := by
  intro g hg hk
  have h1 := hc g (by omega)
  have h2 := h g hg (by rw [h1.1]; exact hk)
  rw [← h1.1, ← h1.2, ← fs_ch_cg (n := R + 1) (by omega) hc]
  exact h2
/-! === the weights as the component reckons them === -/
def fs_top (y : Nat → Nat) (i : Nat) : Nat → Nat
  | 0 => 1
  | j + 1 => if j = i then fs_top y i j else fs_top y i j * y j % 251
def fs_bot (y : Nat → Nat) (i : Nat) : Nat → Nat
  | 0 => 1
  | j + 1 => if j = i then fs_bot y i j else fs_bot y i j * (y j + 251 - y i) % 251
def fs_pow : Nat → Nat → Nat → Nat → Nat
  | 0 => fun v _ _ => v
  | f + 1 => fun v b e => if e = 0 then v else fs_pow f (if e % 2 = 1 then v * b % 251 else v) (b * b % 251) (e / 2)
def fs_wt (y : Nat → Nat) (k i : Nat) : Nat := fs_top y i k * fs_pow 8 1 (fs_bot y i k) 249 % 251
def fs_y (l : List Nat) (i : Nat) : Nat := l.getD i 0 + 1
def fs_bits (b0 b1 b2 b3 b4 : Bool) : Nat → Bool
  | 0 => b0
  | 1 => b1
  | 2 => b2
  | 3 => b3
  | 4 => b4
  | _ => false
def fs_lagS (l : List Nat) (d : Nat) : Nat := fs_sum (fun i => fs_y l i ^ d * fs_wt (fs_y l) l.length i) l.length % 251
def fs_lagT (l : List Nat) : Bool := (List.range l.length).all (fun d => fs_lagS l d == (if d = 0 then 1 else 0))
theorem fs_lag0 : ∀ b0 b1 b2 b3 b4 : Bool, fs_lagT (List.filter (fs_bits b0 b1 b2 b3 b4) [0, 1, 2, 3, 4]) = true := by decide +kernel
theorem fs_lagT_e {l : List Nat} (h : fs_lagT l = true) (d : Nat) (hd : d < l.length) : fs_lagS l d = if d = 0 then 1 else 0 := by
  have h1 := List.all_eq_true.mp h d (List.mem_range.mpr hd)
  exact eq_of_beq h1
theorem fs_lag1 (b : Nat → Bool) (Q : Nat) (hQ : Q ≤ 5) : List.filter b (List.range Q) = List.filter (fs_bits (decide (0 < Q) && b 0) (decide (1 < Q) && b 1) (decide (2 < Q) && b 2) (decide (3 < Q) && b 3) (decide (4 < Q) && b 4)) [0, 1, 2, 3, 4] := by
  rcases (by omega : Q = 0 ∨ Q = 1 ∨ Q = 2 ∨ Q = 3 ∨ Q = 4 ∨ Q = 5) with h | h | h | h | h | h <;> subst h <;> rfl
theorem fs_lag (b : Nat → Bool) (Q : Nat) (hQ : Q ≤ 5) (d : Nat) (hd : d < (List.filter b (List.range Q)).length) : fs_lagS (List.filter b (List.range Q)) d = if d = 0 then 1 else 0 := by
  rw [fs_lag1 b Q hQ] at hd ⊢
  exact fs_lagT_e (fs_lag0 _ _ _ _ _) d hd
/-- interpolation at 0 -/
theorem fs_lagrange (b : Nat → Bool) (Q : Nat) (hQ : Q ≤ 5) (l : List Nat) (hl : l = List.filter b (List.range Q)) (k : Nat) (hk : l.length = k + 1) (C V : Nat → Nat) (hV : ∀ i, i < l.length → V i % 251 = fs_P C (fs_y l i) l.length % 251) : fs_sum (fun i => V i * fs_wt (fs_y l) l.length i) l.length % 251 = C 0 % 251 := by
  have h1 : fs_sum (fun i => V i * fs_wt (fs_y l) l.length i) l.length % 251 = fs_sum (fun i => fs_sum (fun d => C d * (fs_y l i ^ d * fs_wt (fs_y l) l.length i)) l.length) l.length % 251 := by
    refine fs_sum_mod l.length (fun i hi => ?_)
    show V i * fs_wt (fs_y l) l.length i % 251 = _
    rw [Nat.mul_mod, hV i hi, ← Nat.mul_mod]
    unfold fs_P
    rw [← fs_sum_mul, fs_sum_cg l.length (fun d _ => Nat.mul_assoc _ _ _)]
  have h2 : fs_sum (fun d => fs_sum (fun i => C d * (fs_y l i ^ d * fs_wt (fs_y l) l.length i)) l.length) l.length % 251 = fs_sum (fun d => C d * (if d = 0 then 1 else 0)) l.length % 251 := by
    refine fs_sum_mod l.length (fun d hd => ?_)
    have h3 : fs_sum (fun i => C d * (fs_y l i ^ d * fs_wt (fs_y l) l.length i)) l.length = fs_sum (fun i => fs_y l i ^ d * fs_wt (fs_y l) l.length i) l.length * C d := by
      rw [← fs_sum_mul]
      exact fs_sum_cg l.length (fun i _ => Nat.mul_comm _ _)
    have h4 : fs_sum (fun i => fs_y l i ^ d * fs_wt (fs_y l) l.length i) l.length % 251 = if d = 0 then 1 else 0 := by
      have := fs_lag b Q hQ d (by rw [← hl]; exact hd)
      rw [← hl] at this
      exact this
    show fs_sum (fun i => C d * (fs_y l i ^ d * fs_wt (fs_y l) l.length i)) l.length % 251 = C d * (if d = 0 then 1 else 0) % 251
    rw [h3, Nat.mul_comm _ (C d), Nat.mul_mod, h4]
    by_cases z : d = 0
    · rw [if_pos z, Nat.mul_mod (C d) 1]
    · rw [if_neg z, Nat.mul_zero, Nat.mul_zero]
  rw [h1, fs_sum_swap, h2, hk, fs_sum_1st]
theorem fs_sel_len (b : Nat → Bool) : ∀ Q, (List.filter b (List.range Q)).length = fs_cnt b Q := by
  intro Q
  induction Q with
  | zero => rfl
  | succ Q ih =>
    rw [List.range_succ, List.filter_append, List.length_append, ih]
    by_cases h : b Q = true
    · rw [fs_cnt_t h]; simp [h]
    · rw [fs_cnt_f (ts_nt h)]; simp [h]
theorem fs_sel_t {b : Nat → Bool} {Q : Nat} (h : b Q = true) : List.filter b (List.range (Q + 1)) = List.filter b (List.range Q) ++ [Q] := by
  rw [List.range_succ, List.filter_append]; simp [h]
theorem fs_sel_f {b : Nat → Bool} {Q : Nat} (h : b Q = false) : List.filter b (List.range (Q + 1)) = List.filter b (List.range Q) := by
  rw [List.range_succ, List.filter_append]; simp [h]
theorem fs_sel_mem {b : Nat → Bool} {Q i : Nat} (h : i < (List.filter b (List.range Q)).length) : (List.filter b (List.range Q)).getD i 0 < Q ∧ b ((List.filter b (List.range Q)).getD i 0) = true := by
  have e : (List.filter b (List.range Q)).getD i 0 = (List.filter b (List.range Q))[i] := by
    rw [List.getD_eq_getElem?_getD, List.getElem?_eq_getElem h]; rfl
  have h1 := List.getElem_mem h
  rw [List.mem_filter, List.mem_range] at h1
  rw [e]
  exact h1
/-! ===== how many bits ===== -/
def fs_pc (v n : Nat) : Nat := fs_cnt (fun i => v.testBit i) n
theorem fs_cnt_add (b : Nat → Bool) (n : Nat) : ∀ m, fs_cnt b (n + m) = fs_cnt b n + fs_cnt (fun j => b (n + j)) m := by
  intro m
  induction m with
  | zero => rfl
  | succ m ih =>
    show fs_cnt b (n + m) + (if b (n + m) = true then 1 else 0) = fs_cnt b n + (fs_cnt (fun j => b (n + j)) m + (if b (n + m) = true then 1 else 0))
    rw [ih]; omega
theorem fs_cnt_clear {b b' : Nat → Bool} {t : Nat} (h1 : b t = true) (h2 : b' t = false) (h3 : ∀ j, j ≠ t → b' j = b j) : ∀ n, t < n → fs_cnt b' n + 1 = fs_cnt b n := by
  intro n
  induction n with
  | zero => intro h; exact absurd h (Nat.not_lt_zero _)
  | succ n ih =>
    intro h
    by_cases z : t = n
    · subst z
      rw [fs_cnt_t h1, fs_cnt_f h2, fs_cnt_cg t (fun q hq => h3 q (by omega))]
    · have h4 := ih (by omega)
      have h5 := h3 n (by omega)
      by_cases w : b n = true
      · rw [fs_cnt_t w, fs_cnt_t (h5.trans w)]; omega
      · have w' := ts_nt w
        rw [fs_cnt_f w', fs_cnt_f (h5.trans w')]; omega
/-- v and v - 1: the lowest bit goes -/
theorem fs_kern : ∀ (n v : Nat), v ≤ n → 0 < v → ∃ t, v.testBit t = true ∧ (v &&& (v - 1)).testBit t = false ∧ ∀ j, j ≠ t → (v &&& (v - 1)).testBit j = v.testBit j := by
  intro n
  induction n with
  | zero => intro v h h0; omega
  | succ n ih =>
    intro v h h0
    by_cases z : v % 2 = 1
    · refine ⟨0, ?_, ?_, fun j hj => ?_⟩
      · rw [Nat.testBit_zero]; exact decide_eq_true z
      · rw [Nat.testBit_and, Nat.testBit_zero (v - 1), decide_eq_false (by omega), Bool.and_false]
      · obtain ⟨j, rfl⟩ : ∃ i, j = i + 1 := ⟨j - 1, by omega⟩
        rw [Nat.testBit_and, Nat.testBit_add_one, Nat.testBit_add_one, show (v - 1) / 2 = v / 2 from by omega, Bool.and_self]
    · obtain ⟨t, h1, h2, h3⟩ := ih (v / 2) (by omega) (by omega)
      have e : (v - 1) / 2 = v / 2 - 1 := by omega
      have f : ∀ j, (v &&& (v - 1)).testBit (j + 1) = (v / 2 &&& (v / 2 - 1)).testBit j := by
        intro j
        rw [Nat.testBit_and, Nat.testBit_and, Nat.testBit_add_one, Nat.testBit_add_one, e]
      refine ⟨t + 1, ?_, ?_, fun j hj => ?_⟩
      · rw [Nat.testBit_add_one]; exact h1
      · rw [f]; exact h2
      · by_cases w : j = 0
        · subst w
          rw [Nat.testBit_and, Nat.testBit_zero v, decide_eq_false z, Bool.false_and]
        · obtain ⟨j, rfl⟩ : ∃ i, j = i + 1 := ⟨j - 1, by omega⟩
          rw [f, Nat.testBit_add_one]
          exact h3 j (by omega)
theorem fs_pc_0 (n : Nat) : fs_pc 0 n = 0 := by
  have h := fs_cnt_hi (fun i => (0 : Nat).testBit i) 0 n (fun q _ _ => Nat.zero_testBit q)
  rw [Nat.zero_add] at h
  exact h
theorem fs_pc_kern {v : Nat} (h : 0 < v) (h64 : v < 2 ^ 64) : fs_pc (v &&& (v - 1)) 64 + 1 = fs_pc v 64 := by
  obtain ⟨t, h1, h2, h3⟩ := fs_kern v v (Nat.le_refl v) h
  refine fs_cnt_clear h1 h2 h3 64 ?_
  refine Nat.lt_of_not_le (fun z => ?_)
  have h4 : v < 2 ^ t := Nat.lt_of_lt_of_le h64 (Nat.pow_le_pow_right (by omega) z)
  rw [Nat.testBit_lt_two_pow h4] at h1
  exact absurd h1 (by decide)
theorem fs_pc_8 {s : Nat} (h : s < 256) : fs_pc s 64 = fs_pc s 8 := by
  refine fs_cnt_hi (fun i => s.testBit i) 8 56 (fun q h1 _ => ?_)
  exact Nat.testBit_lt_two_pow (Nat.lt_of_lt_of_le h (Nat.pow_le_pow_right (n := 2) (by omega) h1))
/-! ===== the answers over the sets ===== -/
def fs_few (f : Nat → Bool) : Nat → Nat
  | 0 => 8
  | s + 1 => if f s = true ∧ fs_pc s 8 < fs_few f s then fs_pc s 8 else fs_few f s
theorem fs_few_8 (f : Nat → Bool) : ∀ n, fs_few f n ≤ 8 := by
  intro n
  induction n with
  | zero => exact Nat.le_refl _
  | succ n ih =>
    show (if f n = true ∧ fs_pc n 8 < fs_few f n then fs_pc n 8 else fs_few f n) ≤ 8
    by_cases h : f n = true ∧ fs_pc n 8 < fs_few f n
    · rw [if_pos h]; omega
    · rw [if_neg h]; exact ih
/-- none of the sets below n that fulfil lacks x -/
def fs_nd (f : Nat → Bool) (x : Nat) : Nat → Bool
  | 0 => true
  | s + 1 => fs_nd f x s && (!(f s) || s.testBit x)
theorem fs_nd_iff (f : Nat → Bool) (x : Nat) : ∀ n, fs_nd f x n = true ↔ ∀ s, s < n → f s = true → s.testBit x = true := by
  intro n
  induction n with
  | zero => exact ⟨fun _ s hs => absurd hs (Nat.not_lt_zero _), fun _ => rfl⟩
  | succ n ih =>
    show (fs_nd f x n && (!(f n) || n.testBit x)) = true ↔ _
    rw [Bool.and_eq_true, ih]
    refine ⟨fun h s hs => ?_, fun h => ⟨fun s hs => h s (by omega), ?_⟩⟩
    · by_cases z : s = n
      · subst z
        intro hf
        have := h.2
        rw [hf] at this
        simpa using this
      · exact h.1 s (by omega)
    · cases hf : f n
      · rfl
      · rw [h n (by omega) hf]; rfl
def fs_min (f : Nat → Bool) (s : Nat) : Nat → Bool
  | 0 => true
  | d + 1 => if s.testBit (7 - d) = true ∧ f (s - 2 ^ (7 - d)) = true then false else fs_min f s d
theorem fs_tbs : ∀ s, s < 256 → ∀ x, x < 8 → s.testBit x = true → ∀ p, p < 8 → (s - 2 ^ x).testBit p = (s.testBit p && !(p == x)) := by decide +kernel
end
section
/-! ===== the reference's fulfils ===== -/
def fy_b (b : Bool) : Int32 := if b = true then 1 else 0
theorem fy_b_t : fy_b true = 1 := rfl
theorem fy_b_f : fy_b false = 0 := rfl
theorem fy_nar (b : Bool) : vp_nar .boolean (fy_b b) = fy_b b := by cases b <;> rfl
theorem fy_nrw (b : Bool) : narrow .boolean (.int (fy_b b)) = .int (fy_b b) := by cases b <;> rfl
/-- the party is in the set -/
def fy_m (x : Int32) (p : Nat) : Bool := decide (((x >>> (nI p &&& 31)) &&& 1) = 1)
theorem fy_b0 {b : Bool} {A B : Prop} (f : b = false → A) (g : b = true → B) : (fy_b b = 0 → A) ∧ (¬ fy_b b = 0 → B) := by
  cases b
  · exact br_t rfl (f rfl)
  · exact br_f (by decide) (g rfl)
section
variable {f_nodes f_high f_sharedNodes f_secret : Int32} {a_k a_n a_sharedK a_sharedN a_stack : Nat → Int32} {kk nn : Nat → Nat} {M : Nat}
theorem fy_113 {post : Int32 → SY → Prop} {J4 : Int32 → Int32 → (Nat → Int32) → (Nat → Int32) → (Nat → Int32) → (Nat → Int32) → (Nat → Int32) → Prop} {x1 : Int32} {t i : Nat} {b : Bool} (ht : t < 8) (h : J4 (nI (t + 1)) (nI (i + 1)) a_k a_n a_sharedK a_sharedN (upd a_stack t (fy_b b))) : wY_fulfils_113 post J4 x1 (nI t) (nI i) (fy_b b) f_nodes f_high f_sharedNodes f_secret a_k a_n a_sharedK a_sharedN a_stack := by
  unfold wY_fulfils_113
  rw [nI_clamp (n := t) (by omega), fy_nar]
  exact ⟨vp_in_nI ht (by omega), nm_e (nm_r (nI_1 t) (nm_r (nI_1 i) h))⟩
theorem fy_102 {post : Int32 → SY → Prop} {J4 : Int32 → Int32 → (Nat → Int32) → (Nat → Int32) → (Nat → Int32) → (Nat → Int32) → (Nat → Int32) → Prop} {x1 : Int32} {t i c : Nat} {b : Bool} (hi : i < 24) (hc : a_sharedN i = nI c) (hct : c ≤ t) (ht : t < 8) (h : J4 (nI (t - c + 1)) (nI (i + 1)) a_k a_n a_sharedK a_sharedN (upd a_stack (t - c) (fy_b b))) : wY_fulfils_102 post J4 x1 (nI t) (nI i) (fy_b b) f_nodes f_high f_sharedNodes f_secret a_k a_n a_sharedK a_sharedN a_stack := by
  unfold wY_fulfils_102
  rw [nI_clamp (n := i) (by omega), hc]
  exact ⟨vp_in_nI hi (by omega), nm_r (pk_sub hct) (fy_113 (by omega) h)⟩
theorem fy_86 {post : Int32 → SY → Prop} {J4 : Int32 → Int32 → (Nat → Int32) → (Nat → Int32) → (Nat → Int32) → (Nat → Int32) → (Nat → Int32) → Prop} {x1 : Int32} {t i c k y : Nat} (hi : i < 24) (hc : a_sharedN i = nI c) (hk : a_sharedK i = nI k) (hk8 : k < 8) (hy : y < 8) (hct : c ≤ t) (ht : t < 8) (h : J4 (nI (t - c + 1)) (nI (i + 1)) a_k a_n a_sharedK a_sharedN (upd a_stack (t - c) (fy_b (decide (k ≤ y))))) : wY_fulfils_86 post J4 x1 (nI t) (nI i) (nI y) f_nodes f_high f_sharedNodes f_secret a_k a_n a_sharedK a_sharedN a_stack := by
  unfold wY_fulfils_86
  rw [nI_clamp (n := i) (by omega), hk]
  refine ⟨vp_in_nI hi (by omega), ?_⟩
  refine pk_lt y k (fun z => ?_) (fun z => ?_)
  · rw [decide_eq_false (by omega)] at h
    exact fy_102 (b := false) hi hc hct ht h
  · rw [decide_eq_true z] at h
    exact fy_102 (b := true) hi hc hct ht h
theorem fy_48 {post : Int32 → SY → Prop} {J4 : Int32 → Int32 → (Nat → Int32) → (Nat → Int32) → (Nat → Int32) → (Nat → Int32) → (Nat → Int32) → Prop} {x1 : Int32} {t i c : Nat} (b : Nat → Bool) (hi : i < 24) (hc : a_sharedN i = nI c) (hct : c ≤ t) (ht : t < 8) (hs : ∀ q, q < c → a_stack (t - c + q) = fy_b (b q)) (h : wY_fulfils_86 post J4 x1 (nI t) (nI i) (nI (fs_cnt b c)) f_nodes f_high f_sharedNodes f_secret a_k a_n a_sharedK a_sharedN a_stack) : ∀ (r y : Nat), r ≤ c → y + fs_cnt b r = fs_cnt b c → wY_fulfils_48 post J4 x1 (nI t) (nI i) f_nodes f_high f_sharedNodes f_secret a_k a_n a_sharedK a_sharedN a_stack (r + 1) (nI y) (nI (c - r + 1)) := by
  intro r
  induction r with
  | zero =>
    intro y _ hy
    have e : y = fs_cnt b c := hy
    subst e
    unfold wY_fulfils_48
    rw [nI_clamp (n := i) (by omega), hc]
    exact ⟨vp_in_nI hi (by omega), br_t (nI_lt (by omega) (by omega)) h⟩
  | succ r ih =>
    intro y hr hy
    have hle := fs_cnt_le b c
    unfold wY_fulfils_48
    rw [nI_clamp (n := i) (by omega), hc]
    refine ⟨vp_in_nI hi (by omega), br_f (nI_nlt (by omega) (by omega)) (br_f (nI_nlt (by omega) (by omega)) ?_)⟩
    have ei : nI t - nI (c - (r + 1) + 1) = nI (t - c + r) := by
      rw [pk_sub (by omega)]; exact congrArg nI (by omega)
    have en : nI (c - (r + 1) + 1) + 1 = nI (c - r + 1) := by
      rw [nI_1]; exact congrArg nI (by omega)
    rw [ei, nI_clamp (n := t - c + r) (by omega), hs r (by omega)]
    refine ⟨vp_in_nI (by omega) (by omega), fy_b0 (fun z => ?_) (fun z => ?_)⟩
    · rw [fs_cnt_f z] at hy
      exact nm_r en (ih y (by omega) hy)
    · rw [fs_cnt_t z] at hy
      exact nm_r (nI_1 y) (nm_r en (ih (y + 1) (by omega) (by omega)))
theorem fy_31 {post : Int32 → SY → Prop} {J4 : Int32 → Int32 → (Nat → Int32) → (Nat → Int32) → (Nat → Int32) → (Nat → Int32) → (Nat → Int32) → Prop} {x1 : Int32} {i : Nat} {z : Bool} (wf : fs_WF kk nn M) (hM : M ≤ 24) (hK : ∀ i, i < M → a_sharedK i = nI (kk i)) (hN : ∀ i, i < M → a_sharedN i = nI (nn i)) (hi : i < M) (hz : kk i = 0 → z = fy_m x1 (nn i)) (hs : ∀ j, j < fs_tp kk nn i → a_stack j = fy_b (fs_ev kk nn (fy_m x1) (fs_st kk nn i j))) (h : J4 (nI (fs_tp kk nn (i + 1))) (nI (i + 1)) a_k a_n a_sharedK a_sharedN (upd a_stack (fs_tp kk nn (i + 1) - 1) (fy_b (fs_ev kk nn (fy_m x1) i)))) : wY_fulfils_31 post J4 x1 (nI (fs_tp kk nn i)) (nI i) (fy_b z) f_nodes f_high f_sharedNodes f_secret a_k a_n a_sharedK a_sharedN a_stack := by
  have h6 := fs_tp_6 wf i (by omega)
  unfold wY_fulfils_31
  rw [nI_clamp (n := i) (by omega), hK i hi]
  refine ⟨vp_in_nI (by omega) (by omega), ?_⟩
  rcases wf i hi with ⟨h0, h1, h2⟩ | ⟨h0, h1, h2, h3⟩
  · rw [fs_tp_leaf h0, fs_ev_leaf h0, ← hz h0] at h
    rw [h0]
    exact br_t (by decide) (fy_113 (by omega) h)
  · have hk : ¬ kk i = 0 := by omega
    rw [fs_tp_gate hk, fs_ev_gate hk h3] at h
    refine br_f (nI_nle (by omega) (by omega)) ⟨nn i + 1, ?_⟩
    have h4 := fs_cnt_le (fun q => fs_ev kk nn (fy_m x1) (fs_ch kk nn i q)) (nn i)
    have h5 := fy_48 (post := post) (J4 := J4) (x1 := x1) (t := fs_tp kk nn i) (i := i) (c := nn i) (f_nodes := f_nodes) (f_high := f_high) (f_sharedNodes := f_sharedNodes) (f_secret := f_secret) (a_k := a_k) (a_n := a_n) (a_sharedK := a_sharedK) (a_sharedN := a_sharedN) (a_stack := a_stack) (fun q => fs_ev kk nn (fy_m x1) (fs_ch kk nn i q)) (by omega) (hN i hi) h3 (by omega) (fun q hq => hs _ (by omega)) (fy_86 (by omega) (hN i hi) (hK i hi) (by omega) (by omega) h3 (by omega) h) (nn i) 0 (Nat.le_refl _) (Nat.zero_add _)
    rw [Nat.sub_self] at h5
    exact h5
theorem fy_loop {post : Int32 → SY → Prop} {x1 : Int32} (wf : fs_WF kk nn M) (hM : M ≤ 24) (hS : f_sharedNodes = nI M) (hK : ∀ i, i < M → a_sharedK i = nI (kk i)) (hN : ∀ i, i < M → a_sharedN i = nI (nn i)) (hT : fs_tp kk nn M = 1) : ∀ (d i : Nat) (a_stack : Nat → Int32), i + d = M → (∀ j, j < fs_tp kk nn i → a_stack j = fy_b (fs_ev kk nn (fy_m x1) (fs_st kk nn i j))) → (∀ s' : Nat → Int32, post (fy_b (fs_ev kk nn (fy_m x1) (fs_st kk nn M 0))) (f_nodes, f_high, f_sharedNodes, f_secret, a_k, a_n, a_sharedK, a_sharedN, s')) → wY_fulfils_4 post x1 f_nodes f_high f_sharedNodes f_secret (d + 1) (nI (fs_tp kk nn i)) (nI i) a_k a_n a_sharedK a_sharedN a_stack := by
  subst hS
  intro d
  induction d with
  | zero =>
    intro i a_stack hd hs h
    have e : i = M := hd
    subst e
    have h0 := hs 0 (by omega)
    unfold wY_fulfils_4
    rw [h0]
    exact br_t (nI_le (Nat.le_refl _) (by omega)) ⟨fy_nrw _, h a_stack⟩
  | succ d ih =>
    intro i a_stack hd hs h
    unfold wY_fulfils_4
    rw [nI_clamp (n := i) (by omega), hN i (by omega)]
    refine br_f (nI_ge (by omega) (by omega)) ⟨vp_in_nI (by omega) (by omega), ?_⟩
    have hnx : wY_fulfils_4 post x1 f_nodes f_high (nI M) f_secret (d + 1) (nI (fs_tp kk nn (i + 1))) (nI (i + 1)) a_k a_n a_sharedK a_sharedN (upd a_stack (fs_tp kk nn (i + 1) - 1) (fy_b (fs_ev kk nn (fy_m x1) i))) := by
      refine ih (i + 1) _ (by omega) (fun j hj => ?_) h
      have h1 := fs_tp_le (kk := kk) (nn := nn) i
      by_cases z : j + 1 = fs_tp kk nn (i + 1)
      · rw [fs_st_top z, show fs_tp kk nn (i + 1) - 1 = j from by omega, pk_us]
      · rw [fs_st_low z, pk_un (by omega)]
        exact hs j (by omega)
    refine br_c (fun z => ?_) (fun z => ?_)
    · exact fy_31 (z := true) wf hM hK hN (by omega) (fun _ => (decide_eq_true z).symm) hs hnx
    · exact fy_31 (z := false) wf hM hK hN (by omega) (fun _ => (decide_eq_false z).symm) hs hnx
/-- what fulfils answers -/
theorem fy_fulfils {post : Int32 → SY → Prop} {R : Nat} {x1 : Int32} (wf : fs_WF kk nn (R + 1)) (hM : R + 1 ≤ 24) (hS : f_sharedNodes = nI (R + 1)) (hK : ∀ i, i < R + 1 → a_sharedK i = nI (kk i)) (hN : ∀ i, i < R + 1 → a_sharedN i = nI (nn i)) (hT : fs_tp kk nn (R + 1) = 1) (h : ∀ s' : Nat → Int32, post (fy_b (fs_ev kk nn (fy_m x1) R)) (f_nodes, f_high, f_sharedNodes, f_secret, a_k, a_n, a_sharedK, a_sharedN, s')) : wpY_fulfils post (f_nodes, f_high, f_sharedNodes, f_secret, a_k, a_n, a_sharedK, a_sharedN, a_stack) x1 := by
  have e : fs_st kk nn (R + 1) 0 = R := fs_st_top (by rw [hT])
  refine ⟨R + 1 + 1, ?_⟩
  have h1 := fy_loop (post := post) (x1 := x1) (f_nodes := f_nodes) (f_high := f_high) (f_secret := f_secret) (a_k := a_k) (a_n := a_n) wf hM hS hK hN hT (R + 1) 0 a_stack (by omega) (fun j hj => absurd hj (Nat.not_lt_zero _)) (by rw [e]; exact h)
  exact h1
end
end
section
/-! ===== the reference's questions, over what fulfils answers ===== -/
theorem fy_bit (y : Int32) : y &&& 1 = fy_b (decide (y &&& 1 = 1)) := by
  obtain ⟨j, hj, e⟩ := pk_andE y (m := 1) 1 (by decide)
  rw [e]
  have h2 : j = 0 ∨ j = 1 := by omega
  rcases h2 with rfl | rfl <;> decide
theorem fy_add (c : Nat) (b : Bool) : nI c + fy_b b = nI (c + (if b = true then 1 else 0)) := by
  cases b
  · exact Int32.add_zero _
  · exact nI_1 c
theorem fy_m_nI : ∀ s, s < 256 → ∀ p, p < 8 → fy_m (nI s) p = s.testBit p := by decide +kernel
theorem fy_m_bt (x : Int32) {p : Nat} (hp : p < 32) : fy_m x p = bt x p := by
  have h1 : bt (x >>> (nI p &&& 31)) 0 = bt x p := by
    rw [b_sshr p hp x (by omega), if_pos (by omega), Nat.add_zero]
  have h2 : ∀ y : Int32, decide (y &&& 1 = 1) = bt y 0 := by
    intro y
    rw [pk_and y 1 (by decide)]
    have h3 : y.toBitVec.toNat % 2 ^ 1 < 2 := Nat.mod_lt _ (by decide)
    have h4 : bt y 0 = decide (y.toBitVec.toNat % 2 ^ 1 = 1) := by
      show y.toBitVec.toNat.testBit 0 = _
      rw [Nat.testBit_zero]
    rw [h4]
    rcases (by omega : y.toBitVec.toNat % 2 ^ 1 = 0 ∨ y.toBitVec.toNat % 2 ^ 1 = 1) with h5 | h5 <;> rw [h5] <;> decide
  rw [← h1]
  exact h2 _
theorem fy_clr : ∀ x, x < 8 → ∀ p, p < 8 → bt (((1 : Int32) <<< (nI x &&& 31)) ^^^ (-1)) p = !(p == x) := by decide +kernel
theorem fy_m_clr (x1 : Int32) {s x : Nat} (hs : s < 256) (hx : x < 8) (hm : ∀ p, p < 8 → fy_m x1 p = s.testBit p) (hb : s.testBit x = true) : ∀ p, p < 8 → fy_m (x1 &&& (((1 : Int32) <<< (nI x &&& 31)) ^^^ (-1))) p = fy_m (nI (s - 2 ^ x)) p := by
  intro p hp
  rw [fy_m_nI (s - 2 ^ x) (Nat.lt_of_le_of_lt (Nat.sub_le _ _) hs) p hp, fs_tbs s hs x hx hb p hp, ← hm p hp, fy_m_bt _ (by omega), fy_m_bt _ (by omega), b_and, fy_clr x hx p hp]
/-- the set of an int: its lowest eight bits -/
theorem fy_set (x1 : Int32) : ∃ s, s < 256 ∧ x1 &&& 255 = nI s ∧ ∀ p, p < 8 → fy_m x1 p = s.testBit p := by
  obtain ⟨s, hs, e⟩ := pk_andE x1 (m := 255) 8 (by decide)
  refine ⟨s, hs, e, fun p hp => ?_⟩
  rw [← fy_m_nI s hs p hp, ← e, fy_m_bt _ (by omega), fy_m_bt _ (by omega), b_and, b_255, decide_eq_true hp, Bool.and_true]
theorem fy_255 : ∀ x, x < 8 → (255 : Nat).testBit x = true := by decide
def fy_Gc (G : Int32 → Bool) : Prop := ∀ x x' : Int32, (∀ p, p < 8 → fy_m x p = fy_m x' p) → G x = G x'
section
variable {f_nodes f_high f_sharedNodes f_secret : Int32} {a_k a_n a_sharedK a_sharedN a_stack : Nat → Int32} {G : Int32 → Bool}
def fy_F (G : Int32 → Bool) (f_nodes f_high f_sharedNodes f_secret : Int32) (a_k a_n a_sharedK a_sharedN : Nat → Int32) : Prop := ∀ (post : Int32 → SY → Prop) (x : Int32) (a_stack : Nat → Int32), (∀ s' : Nat → Int32, post (fy_b (G x)) (f_nodes, f_high, f_sharedNodes, f_secret, a_k, a_n, a_sharedK, a_sharedN, s')) → wpY_fulfils post (f_nodes, f_high, f_sharedNodes, f_secret, a_k, a_n, a_sharedK, a_sharedN, a_stack) x
theorem fy_size_l {post : Int32 → Prop} {x1 : Int32} (h : post (nI (fs_cnt (fy_m x1) 8))) : ∀ d x : Nat, x + d = 8 → wY_size_4 post x1 f_nodes f_high f_sharedNodes f_secret a_k a_n a_sharedK a_sharedN a_stack (d + 1) (nI (fs_cnt (fy_m x1) x)) (nI x) := by
  intro d
  induction d with
  | zero =>
    intro x hx
    have e : x = 8 := hx
    subst e
    exact br_t (by decide) h
  | succ d ih =>
    intro x hx
    unfold wY_size_4
    refine br_f (nI_ge (b := 8) (by omega) (by omega)) ?_
    have e : nI (fs_cnt (fy_m x1) x) + ((x1 >>> (nI x &&& 31)) &&& 1) = nI (fs_cnt (fy_m x1) (x + 1)) := by
      rw [fy_bit, fy_add]; rfl
    exact nm_r e (nm_r (nI_1 x) (ih (x + 1) (by omega)))
theorem fy_size {post : Int32 → Prop} {x1 : Int32} (h : post (nI (fs_cnt (fy_m x1) 8))) : wpY_size post (f_nodes, f_high, f_sharedNodes, f_secret, a_k, a_n, a_sharedK, a_sharedN, a_stack) x1 := ⟨9, fy_size_l h 8 0 rfl⟩
theorem fy_size_s {post : Int32 → Prop} {s : Nat} (hs : s < 256) (h : post (nI (fs_pc s 8))) : wpY_size post (f_nodes, f_high, f_sharedNodes, f_secret, a_k, a_n, a_sharedK, a_sharedN, a_stack) (nI s) := by
  refine fy_size ?_
  rw [fs_cnt_cg (b' := fun i => s.testBit i) 8 (fun p hp => fy_m_nI s hs p hp)]
  exact h
theorem fy_qual_l {post : Int32 → SY → Prop} (hF : fy_F G f_nodes f_high f_sharedNodes f_secret a_k a_n a_sharedK a_sharedN) (h : ∀ s' : Nat → Int32, post (nI (fs_cnt (fun s => G (nI s)) 256)) (f_nodes, f_high, f_sharedNodes, f_secret, a_k, a_n, a_sharedK, a_sharedN, s')) : ∀ (d s : Nat) (a_stack : Nat → Int32), s + d = 256 → wY_qualified_14 post (d + 1) (nI (fs_cnt (fun s => G (nI s)) s)) (nI s) f_nodes f_high f_sharedNodes f_secret a_k a_n a_sharedK a_sharedN a_stack := by
  intro d
  induction d with
  | zero =>
    intro s a_stack hs
    have e : s = 256 := hs
    subst e
    exact br_t (by decide) (h a_stack)
  | succ d ih =>
    intro s a_stack hs
    unfold wY_qualified_14
    refine br_f (nI_ge (b := 256) (by omega) (by omega)) (hF _ _ _ (fun s' => ?_))
    have h1 := ih (s + 1) s' (by omega)
    refine fy_b0 (fun z => ?_) (fun z => ?_)
    · rw [fs_cnt_f z] at h1
      exact nm_r (nI_1 s) h1
    · rw [fs_cnt_t z] at h1
      exact nm_r (nI_1 _) (nm_r (nI_1 s) h1)
theorem fy_qual {post : Int32 → SY → Prop} (hF : fy_F G f_nodes f_high f_sharedNodes f_secret a_k a_n a_sharedK a_sharedN) (h0 : ¬ f_sharedNodes = 0) (h : ∀ s' : Nat → Int32, post (nI (fs_cnt (fun s => G (nI s)) 256)) (f_nodes, f_high, f_sharedNodes, f_secret, a_k, a_n, a_sharedK, a_sharedN, s')) : wpY_qualified post (f_nodes, f_high, f_sharedNodes, f_secret, a_k, a_n, a_sharedK, a_sharedN, a_stack) := br_f h0 ⟨257, fy_qual_l hF h 256 0 a_stack rfl⟩
theorem fy_min_l {post : Int32 → SY → Prop} {x1 : Int32} {s : Nat} (hs : s < 256) (hm : ∀ p, p < 8 → fy_m x1 p = s.testBit p) (hc : fy_Gc G) (hF : fy_F G f_nodes f_high f_sharedNodes f_secret a_k a_n a_sharedK a_sharedN) : ∀ (d x : Nat) (a_stack : Nat → Int32), x + d = 8 → (∀ s' : Nat → Int32, post (fy_b (fs_min (fun s => G (nI s)) s d)) (f_nodes, f_high, f_sharedNodes, f_secret, a_k, a_n, a_sharedK, a_sharedN, s')) → wY_minimal_19 post x1 (d + 1) (nI x) f_nodes f_high f_sharedNodes f_secret a_k a_n a_sharedK a_sharedN a_stack := by
  intro d
  induction d with
  | zero =>
    intro x a_stack hx h
    have e : x = 8 := hx
    subst e
    exact br_t (by decide) (h a_stack)
  | succ d ih =>
    intro x a_stack hx h
    unfold wY_minimal_19
    have e7 : 7 - d = x := by omega
    have hmx := hm x (by omega)
    have hd : ∀ b : Bool, (s.testBit x = true ∧ G (nI (s - 2 ^ x)) = true ↔ b = false) → fs_min (fun s => G (nI s)) s (d + 1) = (b && fs_min (fun s => G (nI s)) s d) := by
      intro b hb
      show (if s.testBit (7 - d) = true ∧ G (nI (s - 2 ^ (7 - d))) = true then false else fs_min (fun s => G (nI s)) s d) = _
      rw [e7]
      cases b
      · rw [if_pos (hb.mpr rfl)]; rfl
      · rw [if_neg (fun z => absurd (hb.mp z) (by decide))]; rfl
    refine br_f (nI_ge (b := 8) (by omega) (by omega)) (br_c (fun z => ?_) (fun z => ?_))
    · have hb : s.testBit x = true := by rw [← hmx]; exact decide_eq_true z
      refine hF _ _ _ (fun s' => ?_)
      rw [hc _ _ (fy_m_clr x1 hs (by omega) hm hb)]
      refine fy_b0 (fun w => ?_) (fun w => ?_)
      · refine nm_r (nI_1 x) (ih (x + 1) s' (by omega) ?_)
        rw [hd true ⟨fun v => absurd (w.symm.trans v.2) (by decide), fun v => absurd v (by decide)⟩] at h
        exact h
      · rw [hd false ⟨fun _ => rfl, fun _ => ⟨hb, w⟩⟩] at h
        exact h s'
    · have hb : s.testBit x = false := by rw [← hmx]; exact decide_eq_false z
      refine nm_r (nI_1 x) (ih (x + 1) a_stack (by omega) ?_)
      rw [hd true ⟨fun v => absurd (hb.symm.trans v.1) (by decide), fun v => absurd v (by decide)⟩] at h
      exact h
theorem fy_min {post : Int32 → SY → Prop} {x1 : Int32} {s : Nat} (hs : s < 256) (hm : ∀ p, p < 8 → fy_m x1 p = s.testBit p) (hc : fy_Gc G) (hF : fy_F G f_nodes f_high f_sharedNodes f_secret a_k a_n a_sharedK a_sharedN) (h0 : ¬ f_sharedNodes = 0) (h : ∀ s' : Nat → Int32, post (fy_b (G (nI s) && fs_min (fun s => G (nI s)) s 8)) (f_nodes, f_high, f_sharedNodes, f_secret, a_k, a_n, a_sharedK, a_sharedN, s')) : wpY_minimal post (f_nodes, f_high, f_sharedNodes, f_secret, a_k, a_n, a_sharedK, a_sharedN, a_stack) x1 := by
  refine br_f h0 (hF _ _ _ (fun s' => ?_))
  rw [hc x1 (nI s) (fun p hp => (hm p hp).trans (fy_m_nI s hs p hp).symm)]
  refine fy_b0 (fun w => ?_) (fun w => ?_)
  · rw [w] at h
    exact h s'
  · rw [w] at h
    exact ⟨9, fy_min_l hs hm hc hF 8 0 s' rfl h⟩
theorem fy_few_l {post : Int32 → SY → Prop} (hF : fy_F G f_nodes f_high f_sharedNodes f_secret a_k a_n a_sharedK a_sharedN) (h : ∀ s' : Nat → Int32, post (nI (fs_few (fun s => G (nI s)) 256)) (f_nodes, f_high, f_sharedNodes, f_secret, a_k, a_n, a_sharedK, a_sharedN, s')) : ∀ (d s : Nat) (a_stack : Nat → Int32), s + d = 256 → wY_fewest_15 post (d + 1) (nI (fs_few (fun s => G (nI s)) s)) (nI s) f_nodes f_high f_sharedNodes f_secret a_k a_n a_sharedK a_sharedN a_stack := by
  intro d
  induction d with
  | zero =>
    intro s a_stack hs
    have e : s = 256 := hs
    subst e
    exact br_t (by decide) (h a_stack)
  | succ d ih =>
    intro s a_stack hs
    have h8 := fs_few_8 (fun s => G (nI s)) s
    have hp8 := fs_cnt_le (fun i => s.testBit i) 8
    have hp : fs_pc s 8 ≤ 8 := hp8
    unfold wY_fewest_15
    refine br_f (nI_ge (b := 256) (by omega) (by omega)) (hF _ _ _ (fun s' => ?_))
    have h1 := ih (s + 1) s' (by omega)
    have e : fs_few (fun s => G (nI s)) (s + 1) = if G (nI s) = true ∧ fs_pc s 8 < fs_few (fun s => G (nI s)) s then fs_pc s 8 else fs_few (fun s => G (nI s)) s := rfl
    rw [e] at h1
    refine fy_b0 (fun z => ?_) (fun z => ?_)
    · rw [if_neg (fun v => absurd (z.symm.trans v.1) (by decide))] at h1
      exact nm_r (nI_1 s) h1
    · refine fy_size_s (by omega) (pk_le (fs_few (fun s => G (nI s)) s) (fs_pc s 8) (fun v => ?_) (fun v => ?_))
      · rw [if_neg (fun y => absurd y.2 (by omega))] at h1
        exact nm_r (nI_1 s) h1
      · rw [if_pos ⟨z, v⟩] at h1
        exact fy_size_s (by omega) (nm_r (nI_1 s) h1)
theorem fy_few {post : Int32 → SY → Prop} (hF : fy_F G f_nodes f_high f_sharedNodes f_secret a_k a_n a_sharedK a_sharedN) (h0 : ¬ f_sharedNodes = 0) (h : ∀ s' : Nat → Int32, post (nI (fs_few (fun s => G (nI s)) 256)) (f_nodes, f_high, f_sharedNodes, f_secret, a_k, a_n, a_sharedK, a_sharedN, s')) : wpY_fewest post (f_nodes, f_high, f_sharedNodes, f_secret, a_k, a_n, a_sharedK, a_sharedN, a_stack) := br_f h0 ⟨257, fy_few_l hF h 256 0 a_stack rfl⟩
theorem fy_need_l {post : Int32 → SY → Prop} (hF : fy_F G f_nodes f_high f_sharedNodes f_secret a_k a_n a_sharedK a_sharedN) (h : ∀ s' : Nat → Int32, post (nI (fs_cnt (fun x => fs_nd (fun s => G (nI s)) x 256) 8)) (f_nodes, f_high, f_sharedNodes, f_secret, a_k, a_n, a_sharedK, a_sharedN, s')) : ∀ (d s A : Nat) (a_stack : Nat → Int32), s + d = 256 → A < 256 → (∀ x, x < 8 → A.testBit x = fs_nd (fun s => G (nI s)) x s) → wY_needed_16 post (d + 1) (nI A) (nI s) f_nodes f_high f_sharedNodes f_secret a_k a_n a_sharedK a_sharedN a_stack := by
  intro d
  induction d with
  | zero =>
    intro s A a_stack hs hA hb
    have e : s = 256 := hs
    subst e
    refine br_t (by decide) (fy_size_s hA ?_)
    have e2 : fs_pc A 8 = fs_cnt (fun x => fs_nd (fun s => G (nI s)) x 256) 8 := fs_cnt_cg 8 hb
    rw [e2]
    exact h a_stack
  | succ d ih =>
    intro s A a_stack hs hA hb
    unfold wY_needed_16
    refine br_f (nI_ge (b := 256) (by omega) (by omega)) (hF _ _ _ (fun s' => ?_))
    have e : ∀ x, fs_nd (fun s => G (nI s)) x (s + 1) = (fs_nd (fun s => G (nI s)) x s && (!(G (nI s)) || s.testBit x)) := fun _ => rfl
    refine fy_b0 (fun z => ?_) (fun z => ?_)
    · refine nm_r (nI_1 s) (ih (s + 1) A s' (by omega) hA (fun x hx => ?_))
      rw [e x, z, hb x hx]
      simp
    · refine nm_r (nx_and A s) (nm_r (nI_1 s) (ih (s + 1) (A &&& s) s' (by omega) (Nat.lt_of_le_of_lt Nat.and_le_left hA) (fun x hx => ?_)))
      rw [e x, z, Nat.testBit_and, hb x hx]
      simp
theorem fy_need {post : Int32 → SY → Prop} (hF : fy_F G f_nodes f_high f_sharedNodes f_secret a_k a_n a_sharedK a_sharedN) (h0 : ¬ f_sharedNodes = 0) (h : ∀ s' : Nat → Int32, post (nI (fs_cnt (fun x => fs_nd (fun s => G (nI s)) x 256) 8)) (f_nodes, f_high, f_sharedNodes, f_secret, a_k, a_n, a_sharedK, a_sharedN, s')) : wpY_needed post (f_nodes, f_high, f_sharedNodes, f_secret, a_k, a_n, a_sharedK, a_sharedN, a_stack) := br_f h0 ⟨257, fy_need_l hF h 256 0 255 a_stack rfl (by omega) (fun x hx => fy_255 x hx)⟩
theorem fy_open {post : Int32 → SY → Prop} {x1 : Int32} (hF : fy_F G f_nodes f_high f_sharedNodes f_secret a_k a_n a_sharedK a_sharedN) (h0 : ¬ f_sharedNodes = 0) (h : ∀ s' : Nat → Int32, post (if G x1 = true then f_secret else -9) (f_nodes, f_high, f_sharedNodes, f_secret, a_k, a_n, a_sharedK, a_sharedN, s')) : wpY_open post (f_nodes, f_high, f_sharedNodes, f_secret, a_k, a_n, a_sharedK, a_sharedN, a_stack) x1 := by
  refine br_f h0 (hF _ _ _ (fun s' => ?_))
  refine fy_b0 (fun w => ?_) (fun w => ?_)
  · rw [w] at h
    exact h s'
  · rw [w] at h
    exact h s'
end
end
section
/-! ===== the component: leaf, gate ===== -/
theorem fx_ix (i w : Nat) : nI i * 4 + nI w = nI (i * 4 + w) := by
  show nI i * nI 4 + nI w = _
  rw [pk_mul, nI_add]
theorem fx_ix4 {i : Nat} (hi : 1 ≤ i) (w : Nat) : nI i * 4 - 4 + nI w = nI (i * 4 - 4 + w) := by
  show nI i * nI 4 - nI 4 + nI w = _
  rw [pk_mul, pk_sub (by omega), nI_add]
theorem fx_w0 : ∀ w, w < 4 → ∀ b, b < 64 → (-6148914691236517206 : Int64).toBitVec.getLsbD b = (64 * w + b).testBit 0 := by decide +kernel
theorem fx_w1 : ∀ w, w < 4 → ∀ b, b < 64 → (-3689348814741910324 : Int64).toBitVec.getLsbD b = (64 * w + b).testBit 1 := by decide +kernel
theorem fx_w2 : ∀ w, w < 4 → ∀ b, b < 64 → (-1085102592571150096 : Int64).toBitVec.getLsbD b = (64 * w + b).testBit 2 := by decide +kernel
theorem fx_w3 : ∀ w, w < 4 → ∀ b, b < 64 → (-71777214294589696 : Int64).toBitVec.getLsbD b = (64 * w + b).testBit 3 := by decide +kernel
theorem fx_w4 : ∀ w, w < 4 → ∀ b, b < 64 → (-281470681808896 : Int64).toBitVec.getLsbD b = (64 * w + b).testBit 4 := by decide +kernel
theorem fx_w5 : ∀ w, w < 4 → ∀ b, b < 64 → (-4294967296 : Int64).toBitVec.getLsbD b = (64 * w + b).testBit 5 := by decide +kernel
theorem fx_w6t : ∀ w, w < 4 → (nI w &&& 1) = 1 → ∀ b, b < 64 → (-1 : Int64).toBitVec.getLsbD b = (64 * w + b).testBit 6 := by decide +kernel
theorem fx_w6f : ∀ w, w < 4 → ¬ (nI w &&& 1) = 1 → ∀ b, b < 64 → (0 : Int64).toBitVec.getLsbD b = (64 * w + b).testBit 6 := by decide +kernel
theorem fx_w7t : ∀ w, w < 4 → (nI w &&& 2) = 2 → ∀ b, b < 64 → (-1 : Int64).toBitVec.getLsbD b = (64 * w + b).testBit 7 := by decide +kernel
theorem fx_w7f : ∀ w, w < 4 → ¬ (nI w &&& 2) = 2 → ∀ b, b < 64 → (0 : Int64).toBitVec.getLsbD b = (64 * w + b).testBit 7 := by decide +kernel
/-- partyWord answers the sets that have the party -/
theorem fx_pw {post : Int64 → Prop} {p w : Nat} (hp : p < 8) (hw : w < 4) (h : ∀ r : Int64, (∀ b, b < 64 → r.toBitVec.getLsbD b = (64 * w + b).testBit p) → post r) : wpX_partyWord post (nI p) (nI w) := by
  unfold wpX_partyWord
  rcases (by omega : p = 0 ∨ p = 1 ∨ p = 2 ∨ p = 3 ∨ p = 4 ∨ p = 5 ∨ p = 6 ∨ p = 7) with e | e | e | e | e | e | e | e <;> subst e
  · exact br_f (by decide) (br_f (by decide) (br_t (by decide) (h _ (fx_w0 w hw))))
  · exact br_f (by decide) (br_f (by decide) (br_f (by decide) (br_t (by decide) (h _ (fx_w1 w hw)))))
  · exact br_f (by decide) (br_f (by decide) (br_f (by decide) (br_f (by decide) (br_t (by decide) (h _ (fx_w2 w hw))))))
  · exact br_f (by decide) (br_f (by decide) (br_f (by decide) (br_f (by decide) (br_f (by decide) (br_t (by decide) (h _ (fx_w3 w hw)))))))
  · exact br_f (by decide) (br_f (by decide) (br_f (by decide) (br_f (by decide) (br_f (by decide) (br_f (by decide) (br_t (by decide) (h _ (fx_w4 w hw))))))))
  · exact br_f (by decide) (br_f (by decide) (br_f (by decide) (br_f (by decide) (br_f (by decide) (br_f (by decide) (br_f (by decide) (br_t (by decide) (h _ (fx_w5 w hw)))))))))
  · exact br_f (by decide) (br_f (by decide) (br_f (by decide) (br_f (by decide) (br_f (by decide) (br_f (by decide) (br_f (by decide) (br_f (by decide) (br_t (by decide) (br_c (fun z => h _ (fx_w6t w hw z)) (fun z => h _ (fx_w6f w hw z)))))))))))
  · exact br_f (by decide) (br_t (by decide) (br_c (fun z => h _ (fx_w7t w hw z)) (fun z => h _ (fx_w7f w hw z))))
/-- the sets' words of node i, as bits: the set 64 w + b is in if E says so -/
def fx_Bs (s : Nat → Int64) (i : Nat) (E : Nat → Bool) : Prop := ∀ w, w < 4 → ∀ b, b < 64 → (s (i * 4 + w)).toBitVec.getLsbD b = E (64 * w + b)
section
variable {f_nodes f_height f_root f_noise : Int32} {a_party a_threshold a_width a_gateOf a_placeOf a_stack a_share a_part a_known a_coefficient a_chosen : Nat → Int32} {a_sets a_atLeast : Nat → Int64}
theorem fx_leaf_l {post : Int32 → SX → Prop} {p i : Nat} (hp : p < 8) (hi : i < 24) : ∀ (d w : Nat) (a_sets : Nat → Int64), w + d = 4 → (∀ s' : Nat → Int64, (∀ x, (x < i * 4 + w ∨ i * 4 + 4 ≤ x) → s' x = a_sets x) → (∀ w', w ≤ w' → w' < 4 → ∀ b, b < 64 → (s' (i * 4 + w')).toBitVec.getLsbD b = (64 * w' + b).testBit p) → post f_height (f_nodes, f_height, f_root, f_noise, a_party, a_threshold, a_width, a_gateOf, a_placeOf, a_stack, a_share, a_part, a_known, a_coefficient, a_chosen, s', a_atLeast)) → wX_leaf_101 post (nI p) (nI i) f_nodes f_height f_root f_noise (d + 1) (nI w) a_party a_threshold a_width a_gateOf a_placeOf a_stack a_share a_part a_known a_coefficient a_chosen a_sets a_atLeast := by
  intro d
  induction d with
  | zero =>
    intro w a_sets hw h
    have e : w = 4 := hw
    subst e
    exact br_t (by decide) (h a_sets (fun _ _ => rfl) (fun w' h1 h2 => absurd h1 (by omega)))
  | succ d ih =>
    intro w a_sets hw h
    unfold wX_leaf_101
    refine br_f (nI_ge (b := 4) (by omega) (by omega)) (fx_pw hp (by omega) (fun r hr => ?_))
    rw [fx_ix, nI_clamp (n := i * 4 + w) (by omega)]
    refine ⟨vp_in_nI (by omega) (by omega), nm_e (nm_r (nI_1 w) (ih (w + 1) _ (by omega) (fun s' h1 h2 => h s' (fun x hx => ?_) (fun w' h3 h4 => ?_))))⟩
    · rw [h1 x (by omega), pk_uLn (by omega)]
    · by_cases z : w' = w
      · subst z
        rw [h1 _ (by omega), pk_uLs]
        exact hr
      · exact h2 w' (by omega) h4
theorem fx_leaf {post : Int32 → SX → Prop} {N H p : Nat} (hp : p < 8) (hN : N < 24) (hH : H < 6) (h : ∀ s' : Nat → Int64, (∀ x, (x < N * 4 ∨ N * 4 + 4 ≤ x) → s' x = a_sets x) → fx_Bs s' N (fun s => s.testBit p) → post (nI (H + 1)) (nI (N + 1), nI (H + 1), f_root, f_noise, upd a_party N (nI p), upd a_threshold N 0, upd a_width N 0, upd a_gateOf N (-1), a_placeOf, upd a_stack H (nI N), a_share, a_part, a_known, a_coefficient, a_chosen, s', a_atLeast)) : wpX_leaf post (nI N, nI H, f_root, f_noise, a_party, a_threshold, a_width, a_gateOf, a_placeOf, a_stack, a_share, a_part, a_known, a_coefficient, a_chosen, a_sets, a_atLeast) (nI p) := by
  have hi : vp_in (nI N) 24 := vp_in_nI hN (by omega)
  have hh : vp_in (nI H) 6 := vp_in_nI hH (by omega)
  unfold wpX_leaf
  dsimp only
  rw [nI_clamp (n := N) (by omega), nI_clamp (n := H) (by omega)]
  refine br_f (nI_pos (by omega)) (br_t (nI_le (b := 7) (by omega) (by omega)) (br_t (nI_lt (b := 24) (by omega) (by omega)) (br_t (nI_lt (b := 6) (by omega) (by omega)) ?_)))
  refine ⟨hi, nm_e ⟨hi, nm_e ⟨hi, nm_e ⟨hi, nm_e (nm_r (nI_1 N) ⟨hh, nm_e (nm_r (nI_1 H) ⟨5, ?_⟩)⟩)⟩⟩⟩⟩
  refine fx_leaf_l hp hN 4 0 a_sets rfl (fun s' h1 h2 => h s' h1 (fun w hw => h2 w (Nat.zero_le _) hw))
/-! === countIn === -/
def fx_Cin (a s : Nat → Int64) (c n j w : Nat) (al : Nat → Int64) : Prop := ∀ x, al x = if (j * 4 ≤ x ∧ x < j * 4 + w) ∨ (j * 4 + 4 ≤ x ∧ x < n * 4 + 4) then a x ||| (a (x - 4) &&& s (c * 4 + x % 4)) else a x
theorem fx_cin_l {post : SX → Prop} {J2 : Int32 → (Nat → Int32) → (Nat → Int32) → (Nat → Int32) → (Nat → Int32) → (Nat → Int32) → (Nat → Int32) → (Nat → Int32) → (Nat → Int32) → (Nat → Int32) → (Nat → Int32) → (Nat → Int32) → (Nat → Int64) → (Nat → Int64) → Prop} {a : Nat → Int64} {c n j : Nat} (hc : c < 24) (hn : n ≤ 5) (hj : j + 1 ≤ n) : ∀ (d w : Nat) (a_atLeast : Nat → Int64), w + d = 4 → fx_Cin a a_sets c n (j + 1) w a_atLeast → (∀ al : Nat → Int64, fx_Cin a a_sets c n j 0 al → J2 (nI j) a_party a_threshold a_width a_gateOf a_placeOf a_stack a_share a_part a_known a_coefficient a_chosen a_sets al) → wX_countIn_10 post J2 (nI c) (nI (j + 1)) f_nodes f_height f_root f_noise (d + 1) (nI w) a_party a_threshold a_width a_gateOf a_placeOf a_stack a_share a_part a_known a_coefficient a_chosen a_sets a_atLeast := by
  intro d
  induction d with
  | zero =>
    intro w a_atLeast hw hI h
    have e : w = 4 := hw
    subst e
    refine br_t (by decide) (nm_r (pk_m1 j) (h a_atLeast (fun x => ?_)))
    rw [hI x]
    by_cases z : ((j + 1) * 4 ≤ x ∧ x < (j + 1) * 4 + 4) ∨ ((j + 1) * 4 + 4 ≤ x ∧ x < n * 4 + 4)
    · rw [if_pos z, if_pos (by omega)]
    · rw [if_neg z, if_neg (by omega)]
  | succ d ih =>
    intro w a_atLeast hw hI h
    unfold wX_countIn_10
    rw [fx_ix, fx_ix4 (by omega), fx_ix, nI_clamp (n := (j + 1) * 4 + w) (by omega), nI_clamp (n := (j + 1) * 4 - 4 + w) (by omega), nI_clamp (n := c * 4 + w) (by omega)]
    refine br_f (nI_ge (b := 4) (by omega) (by omega)) ⟨vp_in_nI (by omega) (by omega), vp_in_nI (by omega) (by omega), vp_in_nI (by omega) (by omega), vp_in_nI (by omega) (by omega), nm_e (nm_r (nI_1 w) (ih (w + 1) _ (by omega) (fun x => ?_) h))⟩
    by_cases z : x = (j + 1) * 4 + w
    · subst z
      rw [pk_uLs, if_pos (by omega), hI ((j + 1) * 4 + w), if_neg (by omega), hI ((j + 1) * 4 - 4 + w), if_neg (by omega), show (j + 1) * 4 + w - 4 = (j + 1) * 4 - 4 + w from by omega, show ((j + 1) * 4 + w) % 4 = w from by omega]
    · rw [pk_uLn z, hI x]
      by_cases v : ((j + 1) * 4 ≤ x ∧ x < (j + 1) * 4 + w) ∨ ((j + 1) * 4 + 4 ≤ x ∧ x < n * 4 + 4)
      · rw [if_pos v, if_pos (by omega)]
      · rw [if_neg v, if_neg (by omega)]
theorem fx_cin_o {post : SX → Prop} {a : Nat → Int64} {c n : Nat} (hc : c < 24) (hn : n ≤ 5) (h : ∀ al : Nat → Int64, fx_Cin a a_sets c n 0 0 al → post (f_nodes, f_height, f_root, f_noise, a_party, a_threshold, a_width, a_gateOf, a_placeOf, a_stack, a_share, a_part, a_known, a_coefficient, a_chosen, a_sets, al)) : ∀ (j : Nat) (a_atLeast : Nat → Int64), j ≤ n → fx_Cin a a_sets c n j 0 a_atLeast → wX_countIn_2 post (nI c) f_nodes f_height f_root f_noise (j + 1) (nI j) a_party a_threshold a_width a_gateOf a_placeOf a_stack a_share a_part a_known a_coefficient a_chosen a_sets a_atLeast := by
  intro j
  induction j with
  | zero =>
    intro a_atLeast _ hI
    exact br_t (by decide) (h a_atLeast hI)
  | succ j ih =>
    intro a_atLeast hj hI
    exact br_f (nI_nlt (b := 1) (by omega) (by omega)) ⟨5, fx_cin_l hc hn hj 4 0 a_atLeast rfl hI (fun al hal => ih al (by omega) hal)⟩
theorem fx_countIn {post : SX → Prop} {c n : Nat} (hc : c < 24) (hn : n ≤ 5) (h : ∀ al : Nat → Int64, fx_Cin a_atLeast a_sets c n 0 0 al → post (f_nodes, f_height, f_root, f_noise, a_party, a_threshold, a_width, a_gateOf, a_placeOf, a_stack, a_share, a_part, a_known, a_coefficient, a_chosen, a_sets, al)) : wpX_countIn post (f_nodes, f_height, f_root, f_noise, a_party, a_threshold, a_width, a_gateOf, a_placeOf, a_stack, a_share, a_part, a_known, a_coefficient, a_chosen, a_sets, a_atLeast) (nI c) (nI n) := by
  refine ⟨n + 1, fx_cin_o hc hn h n a_atLeast (Nat.le_refl _) (fun x => ?_)⟩
  rw [if_neg (by omega)]
/-! === gate === -/
/-- the sets with at least j of the first q inputs -/
def fx_T (E : Nat → Nat → Bool) (n q : Nat) (al : Nat → Int64) : Prop := ∀ j, j ≤ n → ∀ w, w < 4 → ∀ b, b < 64 → (al (j * 4 + w)).toBitVec.getLsbD b = decide (j ≤ fs_cnt (fun q => E (64 * w + b) q) q)
theorem fx_m1 : ∀ b, b < 64 → (-1 : Int64).toBitVec.getLsbD b = true := by decide +kernel
theorem fx_z0 (b : Nat) : (0 : Int64).toBitVec.getLsbD b = false := BitVec.getLsbD_zero
theorem fx_T0 {E : Nat → Nat → Bool} {n : Nat} (hn : n ≤ 5) {al : Nat → Int64} (h : ∀ x, x < 24 → al x = if x < 4 then -1 else 0) : fx_T E n 0 al := by
  intro j hj w hw b hb
  rw [h (j * 4 + w) (by omega)]
  by_cases z : j = 0
  · rw [if_pos (by omega), fx_m1 b hb, decide_eq_true (by omega)]
  · rw [if_neg (by omega), fx_z0 b]
    exact (decide_eq_false (fun y => absurd y (by show ¬ j ≤ 0; omega))).symm
theorem fx_T1 {E : Nat → Nat → Bool} {n q c : Nat} {al al' s : Nat → Int64} (hT : fx_T E n q al) (hs : fx_Bs s c (fun m => E m q)) (hc : fx_Cin al s c n 0 0 al') : fx_T E n (q + 1) al' := by
  intro j hj w hw b hb
  rw [hc (j * 4 + w)]
  by_cases z : j = 0
  · subst z
    rw [if_neg (by omega), hT 0 hj w hw b hb, decide_eq_true (Nat.zero_le _), decide_eq_true (Nat.zero_le _)]
  · rw [if_pos (by omega), Int64.toBitVec_or, Int64.toBitVec_and, BitVec.getLsbD_or, BitVec.getLsbD_and, hT j hj w hw b hb, show j * 4 + w - 4 = (j - 1) * 4 + w from by omega, hT (j - 1) (by omega) w hw b hb, show (j * 4 + w) % 4 = w from by omega, hs w hw b hb]
    generalize hf : (fun q => E (64 * w + b) q) = f
    have he : E (64 * w + b) q = f q := by rw [← hf]
    show (decide (j ≤ fs_cnt f q) || (decide (j - 1 ≤ fs_cnt f q) && E (64 * w + b) q)) = _
    rw [he]
    cases hq : f q
    · rw [fs_cnt_f hq, Bool.and_false, Bool.or_false]
    · rw [fs_cnt_t hq, Bool.and_true]
      by_cases y : j ≤ fs_cnt f q
      · rw [decide_eq_true y, Bool.true_or, decide_eq_true (by omega)]
      · rw [decide_eq_false y, Bool.false_or]
        by_cases v : j - 1 ≤ fs_cnt f q
        · rw [decide_eq_true v, decide_eq_true (by omega)]
        · rw [decide_eq_false v, decide_eq_false (by omega)]
theorem fx_g193 {post : Int32 → SX → Prop} {k g H : Nat} (hk : k ≤ 5) (hg : g < 24) (hH : H < 6) : ∀ (d w : Nat) (a_sets : Nat → Int64), w + d = 4 → (∀ s' : Nat → Int64, (∀ x, (x < g * 4 + w ∨ g * 4 + 4 ≤ x) → s' x = a_sets x) → (∀ w', w ≤ w' → w' < 4 → s' (g * 4 + w') = a_atLeast (k * 4 + w')) → post (nI (H + 1)) (f_nodes, nI (H + 1), f_root, f_noise, a_party, a_threshold, a_width, a_gateOf, a_placeOf, upd a_stack H (nI g), a_share, a_part, a_known, a_coefficient, a_chosen, s', a_atLeast)) → wX_gate_193 post (nI k) (nI g) f_nodes (nI H) f_root f_noise (d + 1) (nI w) a_party a_threshold a_width a_gateOf a_placeOf a_stack a_share a_part a_known a_coefficient a_chosen a_sets a_atLeast := by
  intro d
  induction d with
  | zero =>
    intro w a_sets hw h
    have e : w = 4 := hw
    subst e
    unfold wX_gate_193
    rw [nI_clamp (n := H) (by omega)]
    exact br_t (by decide) ⟨vp_in_nI hH (by omega), nm_e (nm_r (nI_1 H) (h a_sets (fun _ _ => rfl) (fun w' h1 h2 => absurd h1 (by omega))))⟩
  | succ d ih =>
    intro w a_sets hw h
    unfold wX_gate_193
    rw [fx_ix, fx_ix, nI_clamp (n := k * 4 + w) (by omega), nI_clamp (n := g * 4 + w) (by omega)]
    refine br_f (nI_ge (b := 4) (by omega) (by omega)) ⟨vp_in_nI (by omega) (by omega), vp_in_nI (by omega) (by omega), nm_e (nm_r (nI_1 w) (ih (w + 1) _ (by omega) (fun s' h1 h2 => h s' (fun x hx => ?_) (fun w' h3 h4 => ?_))))⟩
    · rw [h1 x (by omega), pk_uLn (by omega)]
    · by_cases z : w' = w
      · subst z
        rw [h1 _ (by omega), pk_uLs]
      · exact h2 w' (by omega) h4
/-- the links that a gate g makes to its inputs c q, c (q + 1), .. -/
def fx_Lk (c : Nat → Nat) (g n q : Nat) (a_gateOf a_placeOf go po : Nat → Int32) : Prop := (∀ q', q ≤ q' → q' < n → go (c q') = nI g ∧ po (c q') = nI (q' + 1)) ∧ (∀ x, (∀ q', q ≤ q' → q' < n → ¬ x = c q') → go x = a_gateOf x ∧ po x = a_placeOf x)
theorem fx_g138 {post : Int32 → SX → Prop} {E : Nat → Nat → Bool} {c : Nat → Nat} {k n g H : Nat} (hn : n ≤ 5) (hH : H + n ≤ 6) (hc : ∀ q, q < n → c q < 24) (hi : ∀ q q', q < n → q' < n → c q = c q' → q = q') (hst : ∀ q, q < n → a_stack (H + q) = nI (c q)) (hs : ∀ q, q < n → fx_Bs a_sets (c q) (fun m => E m q)) : ∀ (d q : Nat) (a_gateOf a_placeOf : Nat → Int32) (a_atLeast : Nat → Int64), q + d = n → fx_T E n q a_atLeast → (∀ (go po : Nat → Int32) (al : Nat → Int64), fx_Lk c g n q a_gateOf a_placeOf go po → fx_T E n n al → ∃ n193 : Nat, wX_gate_193 post (nI k) (nI g) f_nodes (nI H) f_root f_noise n193 0 a_party a_threshold a_width go po a_stack a_share a_part a_known a_coefficient a_chosen a_sets al) → wX_gate_138 post (nI k) (nI n) (nI g) (d + 1) (nI q) f_nodes (nI H) f_root f_noise a_party a_threshold a_width a_gateOf a_placeOf a_stack a_share a_part a_known a_coefficient a_chosen a_sets a_atLeast := by
  intro d
  induction d with
  | zero =>
    intro q a_gateOf a_placeOf a_atLeast hd hT h
    have e : q = n := hd
    subst e
    exact br_t (nI_le (Nat.le_refl _) (by omega)) (h _ _ _ ⟨fun q' h1 h2 => absurd h1 (by omega), fun x _ => ⟨rfl, rfl⟩⟩ hT)
  | succ d ih =>
    intro q a_gateOf a_placeOf a_atLeast hd hT h
    have hq : q < n := by omega
    have hcq := hc q hq
    unfold wX_gate_138
    rw [nI_add, nI_clamp (n := H + q) (by omega), hst q hq]
    refine br_f (nI_ge (by omega) (by omega)) ⟨vp_in_nI (by omega) (by omega), nm_e ?_⟩
    rw [nI_clamp (n := c q) (by omega)]
    refine ⟨vp_in_nI hcq (by omega), nm_e ⟨vp_in_nI hcq (by omega), nm_e (fx_countIn hcq hn (fun al hal => nm_r (nI_1 q) (ih (q + 1) _ _ al (by omega) (fx_T1 hT (hs q hq) hal) (fun go po al' hl hT' => h go po al' ⟨fun q' h1 h2 => ?_, fun x hx => ?_⟩ hT'))))⟩⟩
    · by_cases z : q' = q
      · subst z
        have h3 := hl.2 (c q') (fun q'' h3 h4 h5 => absurd (hi q' q'' hq h4 h5) (by omega))
        rw [h3.1, h3.2, pk_us, pk_us, nI_1]
        exact ⟨rfl, rfl⟩
      · exact hl.1 q' (by omega) h2
    · have h3 := hl.2 x (fun q'' h3 h4 => hx q'' (by omega) h4)
      have h4 := hx q (Nat.le_refl _) hq
      rw [h3.1, h3.2, pk_un h4, pk_un h4]
      exact ⟨rfl, rfl⟩
theorem fx_g102 {post : Int32 → SX → Prop} {x1 x2 x3 : Int32} (h : ∀ al : Nat → Int64, (∀ x, x < 24 → al x = if x < 4 then -1 else 0) → ∃ n138 : Nat, wX_gate_138 post x1 x2 x3 n138 0 f_nodes f_height f_root f_noise a_party a_threshold a_width a_gateOf a_placeOf a_stack a_share a_part a_known a_coefficient a_chosen a_sets al) : ∀ (d w : Nat) (a_atLeast : Nat → Int64), w + d = 24 → (∀ x, x < w → a_atLeast x = if x < 4 then -1 else 0) → wX_gate_102 post x1 x2 x3 f_nodes f_height f_root f_noise (d + 1) (nI w) a_party a_threshold a_width a_gateOf a_placeOf a_stack a_share a_part a_known a_coefficient a_chosen a_sets a_atLeast := by
  intro d
  induction d with
  | zero =>
    intro w a_atLeast hw hI
    have e : w = 24 := hw
    subst e
    exact br_t (by decide) (h a_atLeast hI)
  | succ d ih =>
    intro w a_atLeast hw hI
    unfold wX_gate_102
    rw [nI_clamp (n := w) (by omega)]
    have hv : vp_in (nI w) 24 := vp_in_nI (by omega) (by omega)
    refine br_f (nI_ge (b := 24) (by omega) (by omega)) (pk_le 4 w (fun z => ⟨hv, nm_e (nm_r (nI_1 w) (ih (w + 1) _ (by omega) (fun x hx => ?_)))⟩) (fun z => ⟨hv, nm_e (nm_r (nI_1 w) (ih (w + 1) _ (by omega) (fun x hx => ?_)))⟩))
    · by_cases y : x = w
      · subst y; rw [pk_uLs, if_neg (by omega)]
      · rw [pk_uLn y]; exact hI x (by omega)
    · by_cases y : x = w
      · subst y; rw [pk_uLs, if_pos (by omega)]
      · rw [pk_uLn y]; exact hI x (by omega)
theorem fx_gate {post : Int32 → SX → Prop} {E : Nat → Nat → Bool} {c : Nat → Nat} {N H k n : Nat} (hN : N < 24) (hk1 : 1 ≤ k) (hkn : k ≤ n) (hn : n ≤ 5) (hnH : n ≤ H) (hH : H ≤ 6) (hc : ∀ q, q < n → c q < N) (hi : ∀ q q', q < n → q' < n → c q = c q' → q = q') (hst : ∀ q, q < n → a_stack (H - n + q) = nI (c q)) (hs : ∀ q, q < n → fx_Bs a_sets (c q) (fun m => E m q)) (h : ∀ (go po : Nat → Int32) (s' al : Nat → Int64), fx_Lk c N n 0 (upd a_gateOf N (-1)) a_placeOf go po → (∀ x, (x < N * 4 ∨ N * 4 + 4 ≤ x) → s' x = a_sets x) → fx_Bs s' N (fun m => decide (k ≤ fs_cnt (fun q => E m q) n)) → post (nI (H - n + 1)) (nI (N + 1), nI (H - n + 1), f_root, f_noise, upd a_party N (-1), upd a_threshold N (nI k), upd a_width N (nI n), go, po, upd a_stack (H - n) (nI N), a_share, a_part, a_known, a_coefficient, a_chosen, s', al)) : wpX_gate post (nI N, nI H, f_root, f_noise, a_party, a_threshold, a_width, a_gateOf, a_placeOf, a_stack, a_share, a_part, a_known, a_coefficient, a_chosen, a_sets, a_atLeast) (nI k) (nI n) := by
  have hv : vp_in (nI N) 24 := vp_in_nI hN (by omega)
  unfold wpX_gate
  dsimp only
  rw [nI_clamp (n := N) (by omega)]
  refine br_f (nI_nlt (b := 1) (by omega) (by omega)) (br_f (nI_nlt (a := 5) (by omega) (by omega)) (br_f (nI_nlt (b := 1) (by omega) (by omega)) (br_t (nI_le (by omega) (by omega)) (br_t (nI_lt (b := 24) (by omega) (by omega)) (br_t (nI_le (by omega) (by omega)) ?_)))))
  refine ⟨hv, nm_e ⟨hv, nm_e ⟨hv, nm_e ⟨hv, nm_e (nm_r (nI_1 N) (nm_r (pk_sub hnH) ⟨25, ?_⟩))⟩⟩⟩⟩
  refine fx_g102 (fun al hal => ⟨n + 1, ?_⟩) 24 0 a_atLeast rfl (fun x hx => absurd hx (Nat.not_lt_zero _))
  refine fx_g138 (E := E) (c := c) hn (by omega) (fun q hq => Nat.lt_trans (hc q hq) hN) hi hst hs n 0 _ _ al (Nat.zero_add n) (fx_T0 hn hal) (fun go po al' hl hT => ⟨5, ?_⟩)
  refine fx_g193 (by omega) hN (by omega) 4 0 a_sets rfl (fun s' h1 h2 => h go po s' al' hl h1 (fun w hw b hb => ?_))
  rw [h2 w (Nat.zero_le _) hw]
  exact hT k hkn w hw b hb
end
end
section
/-! ===== the component: splitting ===== -/
theorem fx_mac (a b c : Nat) : (a % 251 * b + c) % 251 = (a * b + c) % 251 := by
  rw [Nat.add_mod, Nat.mod_mul_mod, ← Nat.add_mod]
theorem fx_rem {m : Nat} (h : m < 2 ^ 31) : nI m - nI m / 251 * 251 = nI (m % 251) := pk_rem (d := 251) h (by omega) (by omega)
theorem fx_251 : ¬ (251 : Int32) = 0 := by decide
theorem fx_horner (C : Nat → Nat) (x v i : Nat) : ((v * x + C i) % 251 * x ^ i + fs_P C x i) % 251 = (v * x ^ (i + 1) + fs_P C x (i + 1)) % 251 := by
  rw [fx_mac]
  have e : fs_P C x (i + 1) = fs_P C x i + C i * x ^ i := rfl
  have e2 : (v * x + C i) * x ^ i = v * x ^ (i + 1) + C i * x ^ i := by
    rw [Nat.add_mul, Nat.mul_assoc, Nat.pow_succ, Nat.mul_comm x (x ^ i)]
  rw [e, e2]
  exact congrArg (· % 251) (by omega)
section
variable {f_nodes f_height f_root f_noise : Int32} {a_party a_threshold a_width a_gateOf a_placeOf a_stack a_share a_part a_known a_coefficient a_chosen : Nat → Int32} {a_sets a_atLeast : Nat → Int64}
theorem fx_random {post : Int32 → SX → Prop} (h : ∀ (r : Nat) (nz : Int32), r < 251 → post (nI r) (f_nodes, f_height, f_root, nz, a_party, a_threshold, a_width, a_gateOf, a_placeOf, a_stack, a_share, a_part, a_known, a_coefficient, a_chosen, a_sets, a_atLeast)) : wpX_random post (f_nodes, f_height, f_root, f_noise, a_party, a_threshold, a_width, a_gateOf, a_placeOf, a_stack, a_share, a_part, a_known, a_coefficient, a_chosen, a_sets, a_atLeast) := by
  unfold wpX_random
  dsimp only
  refine nm_e ⟨fx_251, ?_⟩
  obtain ⟨m, hm, e⟩ := nx_mask (((f_noise * 1103515245 + 12345).toUInt32 >>> ((8 : Int32).toUInt32 &&& Int32.toUInt32 31)).toInt32)
  rw [e, fx_rem (by omega)]
  exact h _ _ (Nat.mod_lt _ (by omega))
theorem fx_poly_l {post : Int32 → Prop} {C : Nat → Nat} {x : Nat} (hx : x ≤ 5) : ∀ (i v : Nat), i ≤ 5 → (∀ d, d < i → a_coefficient d = nI (C d) ∧ C d < 251) → v < 251 → post (nI ((v * x ^ i + fs_P C x i) % 251)) → wX_polynomial_7 post (nI x) f_nodes f_height f_root f_noise a_party a_threshold a_width a_gateOf a_placeOf a_stack a_share a_part a_known a_coefficient a_chosen a_sets a_atLeast (i + 1) (nI v) (nI i + (-1)) := by
  intro i
  induction i with
  | zero =>
    intro v _ _ hv h
    have e : (v * x ^ 0 + fs_P C x 0) % 251 = v := by
      show (v * 1 + 0) % 251 = v
      omega
    rw [e] at h
    exact br_t (by decide) h
  | succ i ih =>
    intro v hi hC hv h
    have hc := hC i (by omega)
    have hb : v * x ≤ 250 * 5 := Nat.mul_le_mul (by omega) hx
    unfold wX_polynomial_7
    rw [pk_m1, nI_clamp (n := i) (by omega), hc.1, pk_mul, nI_add, fx_rem (by omega)]
    refine br_f (nI_pos (by omega)) ⟨vp_in_nI (by omega) (by omega), fx_251, nm_e (nm_e (ih _ (by omega) (fun d hd => hC d (by omega)) (Nat.mod_lt _ (by omega)) ?_))⟩
    rw [fx_horner]
    exact h
theorem fx_poly {post : Int32 → Prop} {C : Nat → Nat} {x k : Nat} (hx : x ≤ 5) (hk : k ≤ 5) (hC : ∀ d, d < k → a_coefficient d = nI (C d) ∧ C d < 251) (h : post (nI (fs_P C x k % 251))) : wpX_polynomial post (f_nodes, f_height, f_root, f_noise, a_party, a_threshold, a_width, a_gateOf, a_placeOf, a_stack, a_share, a_part, a_known, a_coefficient, a_chosen, a_sets, a_atLeast) (nI k) (nI x) := by
  have e : nI k - 1 = nI k + (-1) := Int32.sub_eq_add_neg _ _
  refine nm_r e ⟨k + 1, ?_⟩
  refine fx_poly_l hx k 0 hk hC (by omega) ?_
  rw [Nat.zero_mul, Nat.zero_add]
  exact h
theorem fx_sg42 {post : SX → Prop} {C pl : Nat → Nat} {k g : Nat} (hg : g < 24) (hk : k ≤ 5) (ht : a_threshold g = nI k) (hpl : ∀ x, x < g → a_gateOf x = nI g → a_placeOf x = nI (pl x) ∧ pl x ≤ 5) (hC : ∀ d, d < k → a_coefficient d = nI (C d) ∧ C d < 251) : ∀ (d c : Nat) (a_part : Nat → Int32), c + d = g → (∀ pt : Nat → Int32, (∀ x, c ≤ x → x < g → a_gateOf x = nI g → pt x = nI (fs_P C (pl x) k % 251)) → (∀ x, ¬ (c ≤ x ∧ x < g ∧ a_gateOf x = nI g) → pt x = a_part x) → post (f_nodes, f_height, f_root, f_noise, a_party, a_threshold, a_width, a_gateOf, a_placeOf, a_stack, a_share, pt, a_known, a_coefficient, a_chosen, a_sets, a_atLeast)) → wX_splitGate_42 post (nI g) f_nodes f_height f_root f_noise (d + 1) (nI c) a_party a_threshold a_width a_gateOf a_placeOf a_stack a_share a_part a_known a_coefficient a_chosen a_sets a_atLeast := by
  intro d
  induction d with
  | zero =>
    intro c a_part hd h
    have e : c = g := hd
    subst e
    exact br_t (nI_le (Nat.le_refl _) (by omega)) (h a_part (fun x h1 h2 => absurd h1 (by omega)) (fun _ _ => rfl))
  | succ d ih =>
    intro c a_part hd h
    have hv : vp_in (nI c) 24 := vp_in_nI (by omega) (by omega)
    unfold wX_splitGate_42
    rw [nI_clamp (n := c) (by omega), nI_clamp (n := g) (by omega)]
    refine br_f (nI_ge (by omega) (by omega)) ⟨hv, br_c (fun z => ?_) (fun z => ?_)⟩
    · have hp := hpl c (by omega) z
      rw [ht, hp.1]
      refine ⟨vp_in_nI hg (by omega), hv, fx_poly hp.2 hk hC ⟨hv, nm_e (nm_r (nI_1 c) (ih (c + 1) _ (by omega) (fun pt h1 h2 => h pt (fun x h3 h4 h5 => ?_) (fun x h3 => ?_))))⟩⟩
      · by_cases y : x = c
        · subst y
          rw [h2 x (by omega), pk_us]
        · exact h1 x (by omega) h4 h5
      · rw [h2 x (fun y => h3 ⟨by omega, y.2⟩), pk_un (fun y => h3 (by subst y; exact ⟨Nat.le_refl _, by omega, z⟩))]
    · refine nm_r (nI_1 c) (ih (c + 1) _ (by omega) (fun pt h1 h2 => h pt (fun x h3 h4 h5 => ?_) (fun x h3 => ?_)))
      · by_cases y : x = c
        · subst y
          exact absurd h5 z
        · exact h1 x (by omega) h4 h5
      · exact h2 x (fun y => h3 ⟨by omega, y.2⟩)
theorem fx_sg14 {post : SX → Prop} {k g : Nat} (hg : g < 24) (hk : k ≤ 5) (ht : a_threshold g = nI k) : ∀ (d i : Nat) (f_noise : Int32) (a_coefficient : Nat → Int32) (C : Nat → Nat), 1 ≤ i → i + d = k → (∀ e, e < i → a_coefficient e = nI (C e) ∧ C e < 251) → (∀ (nz : Int32) (co : Nat → Int32) (C' : Nat → Nat), (∀ e, e < k → co e = nI (C' e) ∧ C' e < 251) → C' 0 = C 0 → ∃ n42 : Nat, wX_splitGate_42 post (nI g) f_nodes f_height f_root nz n42 0 a_party a_threshold a_width a_gateOf a_placeOf a_stack a_share a_part a_known co a_chosen a_sets a_atLeast) → wX_splitGate_14 post (nI g) (d + 1) (nI i) f_nodes f_height f_root f_noise a_party a_threshold a_width a_gateOf a_placeOf a_stack a_share a_part a_known a_coefficient a_chosen a_sets a_atLeast := by
  intro d
  induction d with
  | zero =>
    intro i f_noise a_coefficient C h1 hd hC h
    have e : i = k := hd
    subst e
    unfold wX_splitGate_14
    rw [nI_clamp (n := g) (by omega), ht]
    exact ⟨vp_in_nI hg (by omega), br_t (nI_le (Nat.le_refl _) (by omega)) (h _ _ C hC rfl)⟩
  | succ d ih =>
    intro i f_noise a_coefficient C h1 hd hC h
    unfold wX_splitGate_14
    rw [nI_clamp (n := g) (by omega), ht]
    refine ⟨vp_in_nI hg (by omega), br_f (nI_ge (by omega) (by omega)) (fx_random (fun r nz hr => ?_))⟩
    dsimp only
    rw [nI_clamp (n := i) (by omega)]
    refine ⟨vp_in_nI (by omega) (by omega), nm_e (nm_r (nI_1 i) (ih (i + 1) nz _ (fun e => if e = i then r else C e) (by omega) (by omega) (fun e he => ?_) (fun nz' co C' h2 h3 => h nz' co C' h2 ?_)))⟩
    · by_cases y : e = i
      · subst y
        rw [pk_us, if_pos rfl]
        exact ⟨rfl, hr⟩
      · rw [pk_un y, if_neg y]
        exact hC e (by omega)
    · rw [h3]
      exact if_neg (by omega)
theorem fx_splitGate {post : SX → Prop} {pl : Nat → Nat} {k g v : Nat} (hg : g < 24) (hk1 : 1 ≤ k) (hk : k ≤ 5) (ht : a_threshold g = nI k) (hpl : ∀ x, x < g → a_gateOf x = nI g → a_placeOf x = nI (pl x) ∧ pl x ≤ 5) (hv : a_part g = nI v) (hv' : v < 251) (h : ∀ (nz : Int32) (co pt : Nat → Int32) (C : Nat → Nat), C 0 = v → (∀ x, x < g → a_gateOf x = nI g → pt x = nI (fs_P C (pl x) k % 251)) → (∀ x, ¬ (x < g ∧ a_gateOf x = nI g) → pt x = a_part x) → post (f_nodes, f_height, f_root, nz, a_party, a_threshold, a_width, a_gateOf, a_placeOf, a_stack, a_share, pt, a_known, co, a_chosen, a_sets, a_atLeast)) : wpX_splitGate post (f_nodes, f_height, f_root, f_noise, a_party, a_threshold, a_width, a_gateOf, a_placeOf, a_stack, a_share, a_part, a_known, a_coefficient, a_chosen, a_sets, a_atLeast) (nI g) := by
  unfold wpX_splitGate
  dsimp only
  rw [nI_clamp (n := g) (by omega), hv]
  refine ⟨vp_in_nI hg (by omega), nm_e ⟨k - 1 + 1, ?_⟩⟩
  refine fx_sg14 hg hk ht (k - 1) 1 f_noise _ (fun _ => v) (Nat.le_refl _) (by omega) (fun e he => ?_) (fun nz co C' h2 h3 => ⟨g + 1, ?_⟩)
  · have e0 : e = 0 := by omega
    subst e0
    exact ⟨pk_us, hv'⟩
  · refine fx_sg42 hg hk ht hpl h2 g 0 a_part (Nat.zero_add g) (fun pt h4 h5 => h nz co pt C' h3 (fun x => h4 x (Nat.zero_le _)) (fun x hx => h5 x (fun y => hx y.2)))
end
/-- the component's links over the first N nodes -/
def fx_Str (kk nn : Nat → Nat) (N : Nat) (a_party a_threshold a_gateOf a_placeOf : Nat → Int32) : Prop := (∀ g, g < N → kk g = 0 → a_party g = nI (nn g)) ∧ (∀ g, g < N → ¬ kk g = 0 → a_party g = -1 ∧ a_threshold g = nI (kk g)) ∧ (∀ g, g < N → ¬ kk g = 0 → ∀ q, q < nn g → a_gateOf (fs_ch kk nn g q) = nI g ∧ a_placeOf (fs_ch kk nn g q) = nI (q + 1)) ∧ (∀ g, g < N → ∀ c, c < g → a_gateOf c = nI g → ¬ kk g = 0 ∧ ∃ q, q < nn g ∧ c = fs_ch kk nn g q)
theorem fx_Str_le {kk nn : Nat → Nat} {N M : Nat} {a_party a_threshold a_gateOf a_placeOf : Nat → Int32} (h : fx_Str kk nn N a_party a_threshold a_gateOf a_placeOf) (hM : M ≤ N) : fx_Str kk nn M a_party a_threshold a_gateOf a_placeOf := ⟨fun g hg => h.1 g (by omega), fun g hg => h.2.1 g (by omega), fun g hg => h.2.2.1 g (by omega), fun g hg => h.2.2.2 g (by omega)⟩
section
variable {f_nodes f_height f_root f_noise : Int32} {a_party a_threshold a_width a_gateOf a_placeOf a_stack a_share a_part a_known a_coefficient a_chosen : Nat → Int32} {a_sets a_atLeast : Nat → Int64} {kk nn : Nat → Nat} {R : Nat}
/-- what the splitting has done when the gates from i on are split -/
def fx_SP (kk nn : Nat → Nat) (R i sv : Nat) (pt : Nat → Int32) (V : Nat → Nat) (C : Nat → Nat → Nat) : Prop := (∀ x, x < 24 → pt x = nI (V x)) ∧ (∀ x, V x < 251) ∧ V R = sv ∧ ∀ g, i ≤ g → g ≤ R → ¬ kk g = 0 → V g = C g 0 % 251 ∧ ∀ q, q < nn g → V (fs_ch kk nn g q) = fs_P (C g) (q + 1) (kk g) % 251
theorem fx_SP_step {sv g : Nat} {a_part pt : Nat → Int32} {V : Nat → Nat} {C : Nat → Nat → Nat} {D : Nat → Nat} (hR : R < 24) (wf : fs_WF kk nn (R + 1)) (st : fx_Str kk nn (R + 1) a_party a_threshold a_gateOf a_placeOf) (hg : g ≤ R) (hk : ¬ kk g = 0) (sp : fx_SP kk nn R (g + 1) sv a_part V C) (h0 : D 0 = V g) (h1 : ∀ x, x < g → a_gateOf x = nI g → pt x = nI (fs_P D (a_placeOf x).toNatClampNeg (kk g) % 251)) (h2 : ∀ x, ¬ (x < g ∧ a_gateOf x = nI g) → pt x = a_part x) : ∃ V' C', fx_SP kk nn R g sv pt V' C' := by
  have hd : ∀ x, x < g ∧ a_gateOf x = nI g ∨ ¬ (x < g ∧ a_gateOf x = nI g) := fun x => Classical.em _
  refine ⟨fun x => if x < g ∧ a_gateOf x = nI g then fs_P D (a_placeOf x).toNatClampNeg (kk g) % 251 else V x, fun g' => if g' = g then D else C g', ?_, ?_, ?_, ?_⟩
  · intro x hx
    rcases hd x with z | z
    · rw [h1 x z.1 z.2]; exact congrArg nI (if_pos z).symm
    · rw [h2 x z, sp.1 x hx]; exact congrArg nI (if_neg z).symm
  · intro x
    rcases hd x with z | z
    · exact Nat.lt_of_le_of_lt (Nat.le_of_eq (if_pos z)) (Nat.mod_lt _ (by omega))
    · exact Nat.lt_of_le_of_lt (Nat.le_of_eq (if_neg z)) (sp.2.1 x)
  · exact (if_neg (fun z => absurd z.1 (by omega))).trans sp.2.2.1
  · intro g' hg1 hg2 hk'
    dsimp only
    rw [if_neg (fun z => absurd z.1 (by omega))]
    have hw : nn g' ≤ fs_tp kk nn g' := by rcases wf g' (by omega) with w | w <;> omega
    by_cases y : g' = g
    · subst y
      rw [if_pos rfl]
      refine ⟨?_, fun q hq => ?_⟩
      · rw [h0, Nat.mod_eq_of_lt (sp.2.1 g')]
      · have h3 := st.2.2.1 g' (by omega) hk' q hq
        have h4 := fs_ch_lt hq hw
        have hn5 : nn g' ≤ 5 := by rcases wf g' (by omega) with w | w <;> omega
        rw [if_pos ⟨h4, h3.1⟩, h3.2, nI_clamp (by omega)]
    · rw [if_neg y]
      have h5 := sp.2.2.2 g' (by omega) hg2 hk'
      refine ⟨h5.1, fun q hq => ?_⟩
      have h3 := st.2.2.1 g' (by omega) hk' q hq
      rw [if_neg (fun z => y ((nI_eq (by omega) (by omega)).mp (h3.1.symm.trans z.2)))]
      exact h5.2 q hq
theorem fx_split_l {post : SX → Prop} {sv : Nat} (hR : R < 24) (wf : fs_WF kk nn (R + 1)) (st : fx_Str kk nn (R + 1) a_party a_threshold a_gateOf a_placeOf) (h : ∀ (nz : Int32) (co pt : Nat → Int32) (V : Nat → Nat) (C : Nat → Nat → Nat), fx_SP kk nn R 0 sv pt V C → post (f_nodes, f_height, f_root, nz, a_party, a_threshold, a_width, a_gateOf, a_placeOf, a_stack, a_share, pt, a_known, co, a_chosen, a_sets, a_atLeast)) : ∀ (i : Nat) (f_noise : Int32) (a_coefficient a_part : Nat → Int32) (V : Nat → Nat) (C : Nat → Nat → Nat), i ≤ R + 1 → fx_SP kk nn R i sv a_part V C → wX_split_15 post (i + 1) (nI i + (-1)) f_nodes f_height f_root f_noise a_party a_threshold a_width a_gateOf a_placeOf a_stack a_share a_part a_known a_coefficient a_chosen a_sets a_atLeast := by
  intro i
  induction i with
  | zero =>
    intro f_noise a_coefficient a_part V C _ sp
    exact br_t (by decide) (h _ _ _ V C sp)
  | succ i ih =>
    intro f_noise a_coefficient a_part V C hi sp
    unfold wX_split_15
    rw [pk_m1, nI_clamp (n := i) (by omega)]
    refine br_f (nI_pos (by omega)) ⟨vp_in_nI (by omega) (by omega), ?_⟩
    rcases wf i (by omega) with ⟨h0, h1, h2⟩ | ⟨h0, h1, h2, h3⟩
    · rw [st.1 i (by omega) h0]
      refine br_t (nI_pos' (by omega)) (nm_e (ih _ _ _ V C (by omega) ⟨sp.1, sp.2.1, sp.2.2.1, fun g hg1 hg2 hk => sp.2.2.2 g ?_ hg2 hk⟩))
      have : ¬ g = i := fun z => hk (by rw [z]; exact h0)
      omega
    · have hk : ¬ kk i = 0 := by omega
      have hg := st.2.1 i (by omega) hk
      rw [hg.1]
      refine br_f (by decide) (fx_splitGate (pl := fun x => (a_placeOf x).toNatClampNeg) (v := V i) (by omega) h0 (by omega) hg.2 (fun x hx hgx => ?_) (sp.1 i (by omega)) (sp.2.1 i) (fun nz co pt D h4 h5 h6 => ?_))
      · obtain ⟨_, q, hq, rfl⟩ := st.2.2.2 i (by omega) x hx hgx
        have h7 := st.2.2.1 i (by omega) hk q hq
        rw [h7.2, nI_clamp (by omega)]
        exact ⟨rfl, by omega⟩
      · obtain ⟨V', C', sp'⟩ := fx_SP_step hR wf st (by omega) hk sp h4 h5 h6
        exact nm_e (ih nz co pt V' C' (by omega) sp')
/-- a splitting of sv: the numbers at the nodes lie on polynomials -/
theorem fx_split {post : SX → Prop} {sv : Nat} (hR : R < 24) (wf : fs_WF kk nn (R + 1)) (st : fx_Str kk nn (R + 1) a_party a_threshold a_gateOf a_placeOf) (hsv : sv < 251) (hp : ∀ x, x < 24 → a_part x = 0) (h : ∀ (nz : Int32) (co pt : Nat → Int32) (V : Nat → Nat) (C : Nat → Nat → Nat), (∀ x, x < 24 → pt x = nI (V x)) → (∀ x, V x < 251) → V R = sv → fs_PO kk nn R V C → post (f_nodes, f_height, nI R, nz, a_party, a_threshold, a_width, a_gateOf, a_placeOf, a_stack, a_share, pt, a_known, co, a_chosen, a_sets, a_atLeast)) : wpX_split post (f_nodes, f_height, nI R, f_noise, a_party, a_threshold, a_width, a_gateOf, a_placeOf, a_stack, a_share, a_part, a_known, a_coefficient, a_chosen, a_sets, a_atLeast) (nI sv) := by
  unfold wpX_split
  dsimp only
  rw [nI_clamp (n := R) (by omega)]
  refine ⟨vp_in_nI hR (by omega), nm_e ⟨R + 1 + 1, ?_⟩⟩
  have h1 := fx_split_l (post := post) (f_nodes := f_nodes) (f_height := f_height) (f_root := nI R) (a_width := a_width) (a_stack := a_stack) (a_share := a_share) (a_known := a_known) (a_chosen := a_chosen) (a_sets := a_sets) (a_atLeast := a_atLeast) (sv := sv) hR wf st (fun nz co pt V C sp => h nz co pt V C sp.1 sp.2.1 sp.2.2.1 (fun g hg hk => sp.2.2.2 g (Nat.zero_le _) hg hk)) (R + 1) f_noise a_coefficient (upd a_part R (nI sv)) (fun x => if x = R then sv else 0) (fun _ _ => 0) (Nat.le_refl _) ⟨fun x hx => ?_, fun x => ?_, if_pos rfl, fun g h1 h2 => absurd h1 (by omega)⟩
  · rw [pk_m1] at h1
    exact h1
  · dsimp only
    by_cases y : x = R
    · subst y; rw [pk_us, if_pos rfl]
    · rw [pk_un y, if_neg y, hp x hx]; rfl
  · dsimp only
    by_cases y : x = R
    · rw [if_pos y]; exact hsv
    · rw [if_neg y]; omega
/-! === wipe === -/
def fx_Rg (a : Nat → Int32) : Prop := ∀ x, ∃ s, s < 251 ∧ a x = nI s
theorem fx_Rg_u {a : Nat → Int32} {k s : Nat} (h : fx_Rg a) (hs : s < 251) : fx_Rg (upd a k (nI s)) := by
  intro x
  by_cases y : x = k
  · exact ⟨s, hs, if_pos y⟩
  · obtain ⟨t, ht, e⟩ := h x
    exact ⟨t, ht, (if_neg y).trans e⟩
theorem fx_wipe_l {post : SX → Prop} {sh0 : Nat → Int32} (h : ∀ sh pt : Nat → Int32, (∀ x, x < 24 → pt x = 0) → (∀ x, 0 ≤ a_party x → sh x = sh0 x) → fx_Rg sh → post (f_nodes, f_height, f_root, f_noise, a_party, a_threshold, a_width, a_gateOf, a_placeOf, a_stack, sh, pt, a_known, a_coefficient, a_chosen, a_sets, a_atLeast)) : ∀ (d i : Nat) (a_share a_part : Nat → Int32), i + d = 24 → (∀ x, x < i → a_part x = 0) → (∀ x, 0 ≤ a_party x → a_share x = sh0 x) → fx_Rg a_share → wX_wipe_2 post f_nodes f_height f_root f_noise (d + 1) (nI i) a_party a_threshold a_width a_gateOf a_placeOf a_stack a_share a_part a_known a_coefficient a_chosen a_sets a_atLeast := by
  intro d
  induction d with
  | zero =>
    intro i a_share a_part hd h1 h2 h3
    have e : i = 24 := hd
    subst e
    exact br_t (by decide) (h _ _ h1 h2 h3)
  | succ d ih =>
    intro i a_share a_part hd h1 h2 h3
    have hv : vp_in (nI i) 24 := vp_in_nI (by omega) (by omega)
    unfold wX_wipe_2
    rw [nI_clamp (n := i) (by omega)]
    have h4 : ∀ x, x < i + 1 → upd a_part i 0 x = 0 := by
      intro x hx
      by_cases y : x = i
      · subst y; exact pk_us
      · rw [pk_un y]; exact h1 x (by omega)
    refine br_f (nI_ge (b := 24) (by omega) (by omega)) ⟨hv, nm_e ⟨hv, br_c (fun z => ?_) (fun z => ?_)⟩⟩
    · exact nm_r (nI_1 i) (ih (i + 1) _ _ (by omega) h4 h2 h3)
    · refine ⟨hv, nm_e (nm_r (nI_1 i) (ih (i + 1) _ _ (by omega) h4 (fun x hx => ?_) (fx_Rg_u (s := 0) h3 (by omega))))⟩
      rw [pk_un (fun y => z (by rw [← y]; exact hx))]
      exact h2 x hx
theorem fx_wipe {post : SX → Prop} (hr : fx_Rg a_share) (h : ∀ sh pt : Nat → Int32, (∀ x, x < 24 → pt x = 0) → (∀ x, 0 ≤ a_party x → sh x = a_share x) → fx_Rg sh → post (f_nodes, f_height, f_root, f_noise, a_party, a_threshold, a_width, a_gateOf, a_placeOf, a_stack, sh, pt, a_known, a_coefficient, a_chosen, a_sets, a_atLeast)) : wpX_wipe post (f_nodes, f_height, f_root, f_noise, a_party, a_threshold, a_width, a_gateOf, a_placeOf, a_stack, a_share, a_part, a_known, a_coefficient, a_chosen, a_sets, a_atLeast) := ⟨25, fx_wipe_l h 24 0 a_share a_part rfl (fun x hx => absurd hx (Nat.not_lt_zero _)) (fun _ _ => rfl) hr⟩
/-! === share, refresh, add, scale === -/
theorem fx_share_l {post : Int32 → SX → Prop} {V : Nat → Nat} (hR : R < 24) (hV : ∀ x, V x < 251) (hp : ∀ x, x < 24 → a_part x = nI (V x)) (h : ∀ sh pt : Nat → Int32, (∀ x, x < 24 → pt x = 0) → (∀ x, x ≤ R → 0 ≤ a_party x → sh x = nI (V x)) → fx_Rg sh → post 0 (f_nodes, f_height, nI R, f_noise, a_party, a_threshold, a_width, a_gateOf, a_placeOf, a_stack, sh, pt, a_known, a_coefficient, a_chosen, a_sets, a_atLeast)) : ∀ (d i : Nat) (a_share : Nat → Int32), i + d = R + 1 → (∀ x, x < i → a_share x = nI (V x)) → fx_Rg a_share → wX_share_42 post f_nodes f_height (nI R) f_noise (d + 1) (nI i) a_party a_threshold a_width a_gateOf a_placeOf a_stack a_share a_part a_known a_coefficient a_chosen a_sets a_atLeast := by
  intro d
  induction d with
  | zero =>
    intro i a_share hd h1 h2
    have e : i = R + 1 := hd
    subst e
    exact br_t (nI_lt (by omega) (by omega)) (fx_wipe h2 (fun sh pt h3 h4 h5 => h sh pt h3 (fun x hx hy => (h4 x hy).trans (h1 x (by omega))) h5))
  | succ d ih =>
    intro i a_share hd h1 h2
    have hv : vp_in (nI i) 24 := vp_in_nI (by omega) (by omega)
    unfold wX_share_42
    rw [nI_clamp (n := i) (by omega), hp i (by omega)]
    refine br_f (nI_nlt (by omega) (by omega)) ⟨hv, hv, nm_e (nm_r (nI_1 i) (ih (i + 1) _ (by omega) (fun x hx => ?_) (fx_Rg_u h2 (hV i))))⟩
    by_cases y : x = i
    · subst y; exact pk_us
    · rw [pk_un y]; exact h1 x (by omega)
theorem fx_refresh_l {post : Int32 → SX → Prop} {V S : Nat → Nat} (hR : R < 24) (hV : ∀ x, V x < 251) (hS : ∀ x, S x < 251) (hp : ∀ x, x < 24 → a_part x = nI (V x)) (h : ∀ sh pt : Nat → Int32, (∀ x, x < 24 → pt x = 0) → (∀ x, x ≤ R → 0 ≤ a_party x → sh x = nI ((S x + V x) % 251)) → fx_Rg sh → post 0 (f_nodes, f_height, nI R, f_noise, a_party, a_threshold, a_width, a_gateOf, a_placeOf, a_stack, sh, pt, a_known, a_coefficient, a_chosen, a_sets, a_atLeast)) : ∀ (d i : Nat) (a_share : Nat → Int32), i + d = R + 1 → (∀ x, x < i → a_share x = nI ((S x + V x) % 251)) → (∀ x, i ≤ x → a_share x = nI (S x)) → fx_Rg a_share → wX_refresh_17 post f_nodes f_height (nI R) f_noise (d + 1) (nI i) a_party a_threshold a_width a_gateOf a_placeOf a_stack a_share a_part a_known a_coefficient a_chosen a_sets a_atLeast := by
  intro d
  induction d with
  | zero =>
    intro i a_share hd h1 h1' h2
    have e : i = R + 1 := hd
    subst e
    exact br_t (nI_lt (by omega) (by omega)) (fx_wipe h2 (fun sh pt h3 h4 h5 => h sh pt h3 (fun x hx hy => (h4 x hy).trans (h1 x (by omega))) h5))
  | succ d ih =>
    intro i a_share hd h1 h1' h2
    have hv : vp_in (nI i) 24 := vp_in_nI (by omega) (by omega)
    have hSi := hS i
    have hVi := hV i
    unfold wX_refresh_17
    rw [nI_clamp (n := i) (by omega), hp i (by omega), h1' i (Nat.le_refl _), nI_add, fx_rem (by omega)]
    refine br_f (nI_nlt (by omega) (by omega)) ⟨hv, hv, fx_251, hv, nm_e (nm_r (nI_1 i) (ih (i + 1) _ (by omega) (fun x hx => ?_) (fun x hx => ?_) (fx_Rg_u h2 (Nat.mod_lt _ (by omega)))))⟩
    · by_cases y : x = i
      · subst y; exact pk_us
      · rw [pk_un y]; exact h1 x (by omega)
    · rw [pk_un (by omega)]; exact h1' x (by omega)
theorem fx_add_l {post : Int32 → SX → Prop} {S : Nat → Nat} {m : Nat} (hR : R < 24) (hm : m < 251) (hS : ∀ x, S x < 251) (h : ∀ sh : Nat → Int32, (∀ x, x ≤ R → 0 ≤ a_party x → sh x = nI ((S x + m) % 251)) → fx_Rg sh → post 0 (f_nodes, f_height, nI R, f_noise, a_party, a_threshold, a_width, a_gateOf, a_placeOf, a_stack, sh, a_part, a_known, a_coefficient, a_chosen, a_sets, a_atLeast)) : ∀ (d i : Nat) (a_share : Nat → Int32), i + d = R + 1 → (∀ x, x < i → 0 ≤ a_party x → a_share x = nI ((S x + m) % 251)) → (∀ x, i ≤ x → a_share x = nI (S x)) → fx_Rg a_share → wX_add_26 post (nI m) f_nodes f_height (nI R) f_noise (d + 1) (nI i) a_party a_threshold a_width a_gateOf a_placeOf a_stack a_share a_part a_known a_coefficient a_chosen a_sets a_atLeast := by
  intro d
  induction d with
  | zero =>
    intro i a_share hd h1 h1' h2
    have e : i = R + 1 := hd
    subst e
    exact br_t (nI_lt (by omega) (by omega)) (h a_share (fun x hx hy => h1 x (by omega) hy) h2)
  | succ d ih =>
    intro i a_share hd h1 h1' h2
    have hv : vp_in (nI i) 24 := vp_in_nI (by omega) (by omega)
    have hSi := hS i
    have hb : S i + m ≤ 62500 := by omega
    unfold wX_add_26
    rw [nI_clamp (n := i) (by omega), h1' i (Nat.le_refl _), nI_add, fx_rem (by omega)]
    refine br_f (nI_nlt (by omega) (by omega)) ⟨hv, br_c (fun z => ?_) (fun z => ?_)⟩
    · refine nm_r (nI_1 i) (ih (i + 1) _ (by omega) (fun x hx hy => ?_) (fun x hx => h1' x (by omega)) h2)
      by_cases y : x = i
      · subst y; exact absurd z (Int32.not_lt.mpr hy)
      · exact h1 x (by omega) hy
    · refine ⟨hv, fx_251, hv, nm_e (nm_r (nI_1 i) (ih (i + 1) _ (by omega) (fun x hx hy => ?_) (fun x hx => ?_) (fx_Rg_u h2 (Nat.mod_lt _ (by omega)))))⟩
      · by_cases y : x = i
        · subst y; exact pk_us
        · rw [pk_un y]; exact h1 x (by omega) hy
      · rw [pk_un (by omega)]; exact h1' x (by omega)
theorem fx_scale_l {post : Int32 → SX → Prop} {S : Nat → Nat} {m : Nat} (hR : R < 24) (hm : m < 251) (hS : ∀ x, S x < 251) (h : ∀ sh : Nat → Int32, (∀ x, x ≤ R → 0 ≤ a_party x → sh x = nI (S x * m % 251)) → fx_Rg sh → post 0 (f_nodes, f_height, nI R, f_noise, a_party, a_threshold, a_width, a_gateOf, a_placeOf, a_stack, sh, a_part, a_known, a_coefficient, a_chosen, a_sets, a_atLeast)) : ∀ (d i : Nat) (a_share : Nat → Int32), i + d = R + 1 → (∀ x, x < i → 0 ≤ a_party x → a_share x = nI (S x * m % 251)) → (∀ x, i ≤ x → a_share x = nI (S x)) → fx_Rg a_share → wX_scale_26 post (nI m) f_nodes f_height (nI R) f_noise (d + 1) (nI i) a_party a_threshold a_width a_gateOf a_placeOf a_stack a_share a_part a_known a_coefficient a_chosen a_sets a_atLeast := by
  intro d
  induction d with
  | zero =>
    intro i a_share hd h1 h1' h2
    have e : i = R + 1 := hd
    subst e
    exact br_t (nI_lt (by omega) (by omega)) (h a_share (fun x hx hy => h1 x (by omega) hy) h2)
  | succ d ih =>
    intro i a_share hd h1 h1' h2
    have hv : vp_in (nI i) 24 := vp_in_nI (by omega) (by omega)
    have hSi := hS i
    have hb : S i * m ≤ 250 * 250 := Nat.mul_le_mul (by omega) (by omega)
    unfold wX_scale_26
    rw [nI_clamp (n := i) (by omega), h1' i (Nat.le_refl _), pk_mul, fx_rem (by omega)]
    refine br_f (nI_nlt (by omega) (by omega)) ⟨hv, br_c (fun z => ?_) (fun z => ?_)⟩
    · refine nm_r (nI_1 i) (ih (i + 1) _ (by omega) (fun x hx hy => ?_) (fun x hx => h1' x (by omega)) h2)
      by_cases y : x = i
      · subst y; exact absurd z (Int32.not_lt.mpr hy)
      · exact h1 x (by omega) hy
    · refine ⟨hv, fx_251, hv, nm_e (nm_r (nI_1 i) (ih (i + 1) _ (by omega) (fun x hx hy => ?_) (fun x hx => ?_) (fx_Rg_u h2 (Nat.mod_lt _ (by omega)))))⟩
      · by_cases y : x = i
        · subst y; exact pk_us
        · rw [pk_un y]; exact h1 x (by omega) hy
      · rw [pk_un (by omega)]; exact h1' x (by omega)
end
end
section
/-! ===== the component: putting together ===== -/
theorem fs_pow_lt : ∀ (f v b e : Nat), v < 251 → fs_pow f v b e < 251 := by
  intro f
  induction f with
  | zero => intro v b e hv; exact hv
  | succ f ih =>
    intro v b e hv
    show (if e = 0 then v else fs_pow f (if e % 2 = 1 then v * b % 251 else v) (b * b % 251) (e / 2)) < 251
    by_cases z : e = 0
    · rw [if_pos z]; exact hv
    · rw [if_neg z]
      refine ih _ _ _ ?_
      by_cases y : e % 2 = 1
      · rw [if_pos y]; exact Nat.mod_lt _ (by omega)
      · rw [if_neg y]; exact hv
theorem fs_top_lt (y : Nat → Nat) (i : Nat) : ∀ j, fs_top y i j < 251 := by
  intro j
  induction j with
  | zero => show 1 < 251; omega
  | succ j ih =>
    show (if j = i then fs_top y i j else fs_top y i j * y j % 251) < 251
    by_cases z : j = i
    · rw [if_pos z]; exact ih
    · rw [if_neg z]; exact Nat.mod_lt _ (by omega)
theorem fs_bot_lt (y : Nat → Nat) (i : Nat) : ∀ j, fs_bot y i j < 251 := by
  intro j
  induction j with
  | zero => show 1 < 251; omega
  | succ j ih =>
    show (if j = i then fs_bot y i j else fs_bot y i j * (y j + 251 - y i) % 251) < 251
    by_cases z : j = i
    · rw [if_pos z]; exact ih
    · rw [if_neg z]; exact Nat.mod_lt _ (by omega)
theorem fx_p28 {post : Int32 → Prop} {J7 : Int32 → Int32 → Int32 → Prop} {v b e : Nat} (hb : b < 251) (he : e < 2 ^ 31) (h : J7 (nI v) (nI (b * b % 251)) (nI (e / 2))) : wX_power_28 post J7 (nI v) (nI b) (nI e) := by
  have hbb : b * b ≤ 250 * 250 := Nat.mul_le_mul (by omega) (by omega)
  unfold wX_power_28
  rw [pk_mul, fx_rem (by omega), pk_shrN he ((1 : Int32) &&& 31) 1 (by decide)]
  exact ⟨fx_251, nm_e (nm_e h)⟩
theorem fx_pow_l {post : Int32 → Prop} : ∀ (f v b e : Nat), f ≤ 20 → e < 2 ^ f → v < 251 → b < 251 → post (nI (fs_pow f v b e)) → wX_power_7 post (f + 1) (nI v) (nI b) (nI e) := by
  intro f
  induction f with
  | zero =>
    intro v b e _ he hv hb h
    have e0 : e = 0 := by
      have : e < 1 := he
      omega
    subst e0
    exact br_t (by decide) h
  | succ f ih =>
    intro v b e hf he hv hb h
    have h20 : 2 ^ (f + 1) ≤ 2 ^ 20 := Nat.pow_le_pow_right (by omega) hf
    have h2 : (2 : Nat) ^ (f + 1) = 2 ^ f * 2 := Nat.pow_succ 2 f
    have he31 : e < 2 ^ 31 := Nat.lt_trans (Nat.lt_of_lt_of_le he h20) (by decide)
    have hd : e / 2 < 2 ^ f := by omega
    have h' : post (nI (if e = 0 then v else fs_pow f (if e % 2 = 1 then v * b % 251 else v) (b * b % 251) (e / 2))) := h
    by_cases z : e = 0
    · rw [if_pos z] at h'
      subst z
      exact br_t (by decide) h'
    · rw [if_neg z] at h'
      have hvb : v * b ≤ 250 * 250 := Nat.mul_le_mul (by omega) (by omega)
      unfold wX_power_7
      rw [pk_andN (by omega) (m := 1) 1 (by decide), pk_mul, fx_rem (by omega)]
      refine br_f (nI_nle (by omega) he31) (pk_eq (e % 2 ^ 1) 1 (fun y => ?_) (fun y => ?_))
      · rw [if_pos y] at h'
        exact ⟨fx_251, nm_e (fx_p28 hb he31 (ih _ _ _ (by omega) hd (Nat.mod_lt _ (by omega)) (Nat.mod_lt _ (by omega)) h'))⟩
      · rw [if_neg y] at h'
        exact fx_p28 hb he31 (ih _ _ _ (by omega) hd hv (Nat.mod_lt _ (by omega)) h')
theorem fx_power {post : Int32 → Prop} {b : Nat} (hb : b < 251) (h : post (nI (fs_pow 8 1 b 249))) : wpX_power post (nI b) 249 := ⟨9, fx_pow_l 8 1 b 249 (by omega) (by decide) (by omega) hb h⟩
theorem fx_dif {a b : Nat} (h : b ≤ a + 251) : nI a - nI b + 251 = nI (a + 251 - b) := by
  show nI a - nI b + nI 251 = _
  rw [Int32.sub_eq_add_neg, Int32.add_assoc, Int32.add_comm (-nI b), ← Int32.add_assoc, nI_add, ← Int32.sub_eq_add_neg, pk_sub h]
section
variable {f_nodes f_height f_root f_noise : Int32} {a_party a_threshold a_width a_gateOf a_placeOf a_stack a_share a_part a_known a_coefficient a_chosen : Nat → Int32} {a_sets a_atLeast : Nat → Int64}
theorem fx_wt_l {post : Int32 → Prop} {y c : Nat → Nat} {k i : Nat} (hk : k ≤ 5) (hi : i < k) (hch : ∀ j, j < k → a_chosen j = nI (c j) ∧ c j < 24 ∧ a_placeOf (c j) = nI (y j) ∧ y j ≤ 5) (h : post (nI (fs_wt y k i))) : ∀ d j : Nat, j + d = k → wX_weightOf_21 post (nI i) (nI k) (nI (y i)) f_nodes f_height f_root f_noise a_party a_threshold a_width a_gateOf a_placeOf a_stack a_share a_part a_known a_coefficient a_chosen a_sets a_atLeast (d + 1) (nI (fs_top y i j)) (nI (fs_bot y i j)) (nI j) := by
  intro d
  induction d with
  | zero =>
    intro j hd
    have e : j = k := hd
    subst e
    refine br_t (nI_le (Nat.le_refl _) (by omega)) (fx_power (fs_bot_lt y i j) ⟨fx_251, ?_⟩)
    have h1 := fs_top_lt y i j
    have h2 := fs_pow_lt 8 1 (fs_bot y i j) 249 (by omega)
    have h3 : fs_top y i j * fs_pow 8 1 (fs_bot y i j) 249 ≤ 250 * 250 := Nat.mul_le_mul (by omega) (by omega)
    rw [pk_mul, fx_rem (by omega)]
    exact h
  | succ d ih =>
    intro j hd
    have h1 := fs_top_lt y i j
    have h2 := fs_bot_lt y i j
    have hj := hch j (by omega)
    have hyi := (hch i hi).2.2.2
    have hyj := hj.2.2.2
    have h3 : fs_top y i j * y j ≤ 250 * 5 := Nat.mul_le_mul (by omega) hyj
    have h4 : fs_bot y i j * (y j + 251 - y i) ≤ 250 * 256 := Nat.mul_le_mul (by omega) (by omega)
    have hnx := ih (j + 1) (by omega)
    have et : fs_top y i (j + 1) = if j = i then fs_top y i j else fs_top y i j * y j % 251 := rfl
    have eb : fs_bot y i (j + 1) = if j = i then fs_bot y i j else fs_bot y i j * (y j + 251 - y i) % 251 := rfl
    rw [et, eb] at hnx
    unfold wX_weightOf_21
    refine br_f (nI_ge (by omega) (by omega)) (pk_eq j i (fun z => ?_) (fun z => ?_))
    · rw [if_pos z, if_pos z] at hnx
      exact nm_r (nI_1 j) hnx
    · rw [if_neg z, if_neg z] at hnx
      rw [nI_clamp (n := j) (by omega), hj.1]
      refine ⟨vp_in_nI (by omega) (by omega), vp_in_nI hj.2.1 (by omega), ?_⟩
      rw [nI_clamp (n := c j) (by omega), hj.2.2.1]
      refine nm_e ⟨fx_251, ?_⟩
      rw [pk_mul, fx_rem (by omega), fx_dif (by omega), pk_mul, fx_rem (by omega)]
      exact nm_e ⟨fx_251, nm_e (nm_r (nI_1 j) hnx)⟩
theorem fx_weight {post : Int32 → Prop} {y c : Nat → Nat} {k i : Nat} (hk : k ≤ 5) (hi : i < k) (hch : ∀ j, j < k → a_chosen j = nI (c j) ∧ c j < 24 ∧ a_placeOf (c j) = nI (y j) ∧ y j ≤ 5) (h : post (nI (fs_wt y k i))) : wpX_weightOf post (f_nodes, f_height, f_root, f_noise, a_party, a_threshold, a_width, a_gateOf, a_placeOf, a_stack, a_share, a_part, a_known, a_coefficient, a_chosen, a_sets, a_atLeast) (nI i) (nI k) := by
  have hj := hch i hi
  unfold wpX_weightOf
  dsimp only
  rw [nI_clamp (n := i) (by omega), hj.1]
  refine ⟨vp_in_nI (by omega) (by omega), vp_in_nI hj.2.1 (by omega), ?_⟩
  rw [nI_clamp (n := c i) (by omega), hj.2.2.1]
  exact nm_e ⟨k + 1, fx_wt_l hk hi hch h k 0 (Nat.zero_add k)⟩
/-- the loop that sums the weighted inputs up -/
theorem fx_j84 {post : SX → Prop} {y c W : Nat → Nat} {g k : Nat} (hg : g < 24) (hk : k ≤ 5) (hkn : ¬ a_known g = 0) (hch : ∀ j, j < k → a_chosen j = nI (c j) ∧ c j < 24 ∧ a_placeOf (c j) = nI (y j) ∧ y j ≤ 5) (hcg : ∀ j, j < k → ¬ c j = g) (hW : ∀ j, j < k → W j < 251) : ∀ (d i : Nat) (a_part : Nat → Int32), i + d = k → (∀ j, j < k → a_part (c j) = nI (W j)) → a_part g = nI (fs_sum (fun j => W j * fs_wt y k j) i % 251) → (∀ pt : Nat → Int32, (∀ x, ¬ x = g → pt x = a_part x) → pt g = nI (fs_sum (fun j => W j * fs_wt y k j) k % 251) → post (f_nodes, f_height, f_root, f_noise, a_party, a_threshold, a_width, a_gateOf, a_placeOf, a_stack, a_share, pt, a_known, a_coefficient, a_chosen, a_sets, a_atLeast)) → wX_joinGate_84 post (nI g) (nI k) f_nodes f_height f_root f_noise (d + 1) (nI i) a_party a_threshold a_width a_gateOf a_placeOf a_stack a_share a_part a_known a_coefficient a_chosen a_sets a_atLeast := by
  intro d
  induction d with
  | zero =>
    intro i a_part hd h1 h2 h
    have e : i = k := hd
    subst e
    exact br_t (nI_le (Nat.le_refl _) (by omega)) (h a_part (fun _ _ => rfl) h2)
  | succ d ih =>
    intro i a_part hd h1 h2 h
    have hi : i < k := by omega
    have hj := hch i hi
    have hvg : vp_in (nI g) 24 := vp_in_nI hg (by omega)
    have hwt : fs_wt y k i < 251 := Nat.mod_lt _ (by omega)
    have hWi := hW i hi
    have h3 : W i * fs_wt y k i ≤ 250 * 250 := Nat.mul_le_mul (by omega) (by omega)
    have h4 : fs_sum (fun j => W j * fs_wt y k j) i % 251 < 251 := Nat.mod_lt _ (by omega)
    have es : (fs_sum (fun j => W j * fs_wt y k j) i % 251 + W i * fs_wt y k i) % 251 = fs_sum (fun j => W j * fs_wt y k j) (i + 1) % 251 := fs_m2 _ _
    unfold wX_joinGate_84
    rw [nI_clamp (n := g) (by omega), nI_clamp (n := i) (by omega), hj.1]
    refine br_f (nI_ge (by omega) (by omega)) ⟨hvg, br_f hkn (fx_weight hk hi hch ⟨hvg, vp_in_nI (by omega) (by omega), vp_in_nI hj.2.1 (by omega), fx_251, hvg, ?_⟩)⟩
    rw [nI_clamp (n := c i) (by omega), h1 i hi, h2, pk_mul, nI_add, fx_rem (by omega), es]
    refine nm_e (nm_r (nI_1 i) (ih (i + 1) _ (by omega) (fun j hj' => ?_) pk_us (fun pt h5 h6 => h pt (fun x hx => ?_) h6)))
    · rw [pk_un (hcg j hj')]; exact h1 j hj'
    · rw [h5 x hx, pk_un hx]
end
section
variable {f_nodes f_height f_root f_noise : Int32} {a_party a_threshold a_width a_gateOf a_placeOf a_stack a_share a_part a_known a_coefficient a_chosen : Nat → Int32} {a_sets a_atLeast : Nat → Int64} {kk nn : Nat → Nat}
theorem fx_getD_app (l : List Nat) (Q i : Nat) : (l ++ [Q]).getD i 0 = if i < l.length then l.getD i 0 else if i = l.length then Q else 0 := by
  by_cases h : i < l.length
  · rw [if_pos h, List.getD_eq_getElem?_getD, List.getD_eq_getElem?_getD, List.getElem?_append_left h]
  · rw [if_neg h, List.getD_eq_getElem?_getD, List.getElem?_append_right (by omega)]
    by_cases z : i = l.length
    · rw [if_pos z, z, Nat.sub_self]; rfl
    · rw [if_neg z]
      obtain ⟨e, he⟩ : ∃ e, i - l.length = e + 1 := ⟨i - l.length - 1, by omega⟩
      rw [he]; rfl
/-- the loop that chooses -/
theorem fx_j4 {post : SX → Prop} {b : Nat → Bool} {g k w : Nat} {ch : Nat → Nat} (hg : g < 24) (hk5 : k ≤ 5) (ht : a_threshold g = nI k) (hlt : ∀ q, q < w → ch q < g) (hmo : ∀ q q', q < q' → q' < w → ch q < ch q') (hgo : ∀ q, q < w → a_gateOf (ch q) = nI g) (hog : ∀ c, c < g → a_gateOf c = nI g → ∃ q, q < w ∧ c = ch q) (hkn : ∀ q, q < w → a_known (ch q) = fy_b (b q)) (h : ∀ (Q : Nat) (cho : Nat → Int32), Q ≤ w → ((List.filter b (List.range Q)).length = k ∨ ((List.filter b (List.range Q)).length < k ∧ Q = w)) → (∀ i, i < (List.filter b (List.range Q)).length → cho i = nI (ch ((List.filter b (List.range Q)).getD i 0))) → wX_joinGate_54 post (nI g) (nI (List.filter b (List.range Q)).length) f_nodes f_height f_root f_noise a_party a_threshold a_width a_gateOf a_placeOf a_stack a_share a_part a_known a_coefficient cho a_sets a_atLeast) : ∀ (d c Q : Nat) (a_chosen : Nat → Int32), c + d = g → Q ≤ w → (∀ q, q < Q → ch q < c) → (∀ q, Q ≤ q → q < w → c ≤ ch q) → (List.filter b (List.range Q)).length ≤ k → (∀ i, i < (List.filter b (List.range Q)).length → a_chosen i = nI (ch ((List.filter b (List.range Q)).getD i 0))) → wX_joinGate_4 post (nI g) f_nodes f_height f_root f_noise (d + 1) (nI (List.filter b (List.range Q)).length) (nI c) a_party a_threshold a_width a_gateOf a_placeOf a_stack a_share a_part a_known a_coefficient a_chosen a_sets a_atLeast := by
  intro d
  induction d with
  | zero =>
    intro c Q a_chosen hd hQ h1 h2 h3 h4
    have e : c = g := hd
    subst e
    have hQw : Q = w := by
      refine Nat.le_antisymm hQ (Nat.le_of_not_lt (fun z => ?_))
      have h5 := h2 Q (Nat.le_refl _) z
      have h6 := hlt Q z
      omega
    exact br_t (nI_le (Nat.le_refl _) (by omega)) (h Q a_chosen hQ (by omega) h4)
  | succ d ih =>
    intro c Q a_chosen hd hQ h1 h2 h3 h4
    have hv : vp_in (nI c) 24 := vp_in_nI (by omega) (by omega)
    unfold wX_joinGate_4
    rw [nI_clamp (n := g) (by omega), nI_clamp (n := c) (by omega), ht, nI_clamp (n := (List.filter b (List.range Q)).length) (by omega)]
    refine br_f (nI_ge (by omega) (by omega)) ⟨vp_in_nI hg (by omega), pk_le k (List.filter b (List.range Q)).length (fun z => h Q a_chosen hQ (by omega) h4) (fun z => ⟨hv, br_c (fun y => ?_) (fun y => ?_)⟩)⟩
    · obtain ⟨q, hq, hcq⟩ := hog c (by omega) y
      have hqQ : q = Q := by
        rcases Nat.lt_trichotomy q Q with v | v | v
        · have := h1 q v; omega
        · exact v
        · have h5 := h2 Q (Nat.le_refl _) (by omega)
          have h6 := hmo Q q v hq
          omega
      subst hqQ
      subst hcq
      have h1' : ∀ q', q' < q + 1 → ch q' < ch q + 1 := by
        intro q' hq'
        by_cases v : q' = q
        · subst v; omega
        · have := h1 q' (by omega); omega
      have h2' : ∀ q', q + 1 ≤ q' → q' < w → ch q + 1 ≤ ch q' := fun q' v1 v2 => hmo q q' (by omega) v2
      rw [hkn q hq]
      refine ⟨hv, fy_b0 (fun v => ?_) (fun v => ?_)⟩
      · have hn := ih (ch q + 1) (q + 1) a_chosen (by omega) (by omega) h1' h2'
        rw [fs_sel_f v] at hn
        exact nm_r (nI_1 (ch q)) (hn h3 h4)
      · have hn := ih (ch q + 1) (q + 1) (upd a_chosen (List.filter b (List.range q)).length (nI (ch q))) (by omega) (by omega) h1' h2'
        rw [fs_sel_t v, List.length_append] at hn
        refine ⟨vp_in_nI (by omega) (by omega), nm_e (nm_r (nI_1 _) (nm_r (nI_1 (ch q)) (hn ?_ (fun i hi => ?_))))⟩
        · show (List.filter b (List.range q)).length + 1 ≤ k
          omega
        · have hi' : i < (List.filter b (List.range q)).length + 1 := hi
          rw [fx_getD_app]
          by_cases u : i < (List.filter b (List.range q)).length
          · rw [if_pos u, pk_un (by omega)]; exact h4 i u
          · have u' : i = (List.filter b (List.range q)).length := by omega
            rw [if_neg u, if_pos u', u', pk_us]
    · refine nm_r (nI_1 c) (ih (c + 1) Q a_chosen (by omega) hQ (fun q hq => Nat.lt_succ_of_lt (h1 q hq)) (fun q h5 h6 => ?_) h3 h4)
      have h7 := h2 q h5 h6
      have h8 : ¬ c = ch q := fun v => y (by rw [v]; exact hgo q h6)
      omega
/-- a gate's number out of its inputs -/
theorem fx_joinGate {post : SX → Prop} {E : Nat → Bool} {V : Nat → Nat} {C : Nat → Nat} {g k w : Nat} {ch : Nat → Nat} (hg : g < 24) (hk1 : 1 ≤ k) (hkw : k ≤ w) (hw5 : w ≤ 5) (ht : a_threshold g = nI k) (hlt : ∀ q, q < w → ch q < g) (hmo : ∀ q q', q < q' → q' < w → ch q < ch q') (hgo : ∀ q, q < w → a_gateOf (ch q) = nI g ∧ a_placeOf (ch q) = nI (q + 1)) (hog : ∀ c, c < g → a_gateOf c = nI g → ∃ q, q < w ∧ c = ch q) (hkn : ∀ x, x < g → a_known x = fy_b (E x) ∧ (E x = true → a_part x = nI (V x))) (hV : ∀ x, V x < 251) (hP : ∀ q, q < w → V (ch q) = fs_P C (q + 1) k % 251) (h : ∀ cho kn pt : Nat → Int32, (∀ x, ¬ x = g → kn x = a_known x ∧ pt x = a_part x) → kn g = fy_b (decide (k ≤ fs_cnt (fun q => E (ch q)) w)) → (k ≤ fs_cnt (fun q => E (ch q)) w → pt g = nI (C 0 % 251)) → post (f_nodes, f_height, f_root, f_noise, a_party, a_threshold, a_width, a_gateOf, a_placeOf, a_stack, a_share, pt, kn, a_coefficient, cho, a_sets, a_atLeast)) : wpX_joinGate post (f_nodes, f_height, f_root, f_noise, a_party, a_threshold, a_width, a_gateOf, a_placeOf, a_stack, a_share, a_part, a_known, a_coefficient, a_chosen, a_sets, a_atLeast) (nI g) := by
  have hvg : vp_in (nI g) 24 := vp_in_nI hg (by omega)
  refine ⟨g + 1, fx_j4 (b := fun q => E (ch q)) hg (by omega) ht hlt hmo (fun q hq => (hgo q hq).1) hog (fun q hq => (hkn _ (hlt q hq)).1) (fun Q cho hQ hl hch => ?_) g 0 0 a_chosen (Nat.zero_add g) (Nat.zero_le _) (fun q hq => absurd hq (Nat.not_lt_zero _)) (fun q _ _ => Nat.zero_le _) (Nat.zero_le _) (fun i hi => absurd hi (Nat.not_lt_zero _))⟩
  have hlen := fs_sel_len (fun q => E (ch q)) Q
  have hup := fs_cnt_up (fun q => E (ch q)) hQ
  have hmem : ∀ i, i < (List.filter (fun q => E (ch q)) (List.range Q)).length → (List.filter (fun q => E (ch q)) (List.range Q)).getD i 0 < Q ∧ E (ch ((List.filter (fun q => E (ch q)) (List.range Q)).getD i 0)) = true := fun i hi => fs_sel_mem hi
  generalize hL : List.filter (fun q => E (ch q)) (List.range Q) = l at hl hch hlen hmem ⊢
  unfold wX_joinGate_54
  rw [nI_clamp (n := g) (by omega), ht]
  refine ⟨hvg, pk_eq l.length k (fun z => ?_) (fun z => ?_)⟩
  · have hle : k ≤ fs_cnt (fun q => E (ch q)) w := by omega
    unfold wX_joinGate_74
    rw [nI_clamp (n := g) (by omega)]
    refine ⟨hvg, nm_e ⟨hvg, nm_e ⟨l.length + 1, ?_⟩⟩⟩
    refine fx_j84 (y := fs_y l) (c := fun i => ch (l.getD i 0)) (W := fun i => V (ch (l.getD i 0))) hg (by omega) ?_ (fun j hj => ?_) (fun j hj => ?_) (fun j _ => hV _) l.length 0 _ (Nat.zero_add _) (fun j hj => ?_) ?_ (fun pt h5 h6 => h cho _ pt (fun x hx => ⟨pk_un hx, ?_⟩) ?_ (fun _ => ?_))
    · rw [pk_us]; decide
    · have hm := hmem j hj
      have hgq := hgo (l.getD j 0) (by omega)
      have hlq := hlt (l.getD j 0) (by omega)
      refine ⟨hch j hj, by omega, hgq.2, ?_⟩
      show l.getD j 0 + 1 ≤ 5
      omega
    · have hm := hmem j hj
      have hlq := hlt (l.getD j 0) (by omega)
      show ¬ ch (l.getD j 0) = g
      omega
    · have hm := hmem j hj
      have hlq := hlt (l.getD j 0) (by omega)
      show upd a_part g 0 (ch (l.getD j 0)) = _
      rw [pk_un (by omega)]
      exact (hkn _ hlq).2 hm.2
    · rw [pk_us]; rfl
    · rw [h5 x hx, pk_un hx]
    · rw [pk_us, decide_eq_true hle]; rfl
    · rw [h6]
      obtain ⟨k', hk'⟩ : ∃ k', l.length = k' + 1 := ⟨l.length - 1, by omega⟩
      refine congrArg nI (fs_lagrange (fun q => E (ch q)) Q (by omega) l hL.symm k' hk' C (fun i => V (ch (l.getD i 0))) (fun i hi => ?_))
      have hm := hmem i hi
      show V (ch (l.getD i 0)) % 251 = fs_P C (l.getD i 0 + 1) l.length % 251
      rw [Nat.mod_eq_of_lt (hV _), hP (l.getD i 0) (by omega), z]
  · have hnl : ¬ k ≤ fs_cnt (fun q => E (ch q)) w := by
      rcases hl with hl | hl
      · exact absurd hl z
      · rw [← hl.2]; omega
    unfold wX_joinGate_74
    rw [nI_clamp (n := g) (by omega)]
    refine ⟨hvg, nm_e ⟨hvg, nm_e ⟨1, ?_⟩⟩⟩
    have hpost : post (f_nodes, f_height, f_root, f_noise, a_party, a_threshold, a_width, a_gateOf, a_placeOf, a_stack, a_share, upd a_part g 0, upd a_known g (vp_nar .boolean 0), a_coefficient, cho, a_sets, a_atLeast) := by
      refine h cho _ _ (fun x hx => ⟨pk_un hx, pk_un hx⟩) ?_ (fun y => absurd y hnl)
      rw [pk_us, decide_eq_false hnl]; rfl
    unfold wX_joinGate_84
    rw [nI_clamp (n := g) (by omega)]
    refine br_c (fun _ => hpost) (fun _ => ⟨hvg, br_t ?_ hpost⟩)
    rw [pk_us]; rfl
/-! === a set put together === -/
/-- the numbers and marks of the first i nodes when the set is put together -/
def fx_OI (E : Nat → Bool) (V : Nat → Nat) (i : Nat) (a_known a_part : Nat → Int32) : Prop := ∀ x, x < i → a_known x = fy_b (E x) ∧ (E x = true → a_part x = nI (V x))
theorem fx_OI_s {E : Nat → Bool} {V : Nat → Nat} {i : Nat} {a_known a_part kn pt : Nat → Int32} (hI : fx_OI E V i a_known a_part) (h1 : ∀ x, ¬ x = i → kn x = a_known x ∧ pt x = a_part x) (h2 : kn i = fy_b (E i)) (h3 : E i = true → pt i = nI (V i)) : fx_OI E V (i + 1) kn pt := by
  intro x hx
  by_cases y : x = i
  · subst y; exact ⟨h2, h3⟩
  · rw [(h1 x y).1, (h1 x y).2]; exact hI x (by omega)
theorem fx_o61 {post : Int32 → SX → Prop} {J12 : Int32 → Int32 → Int32 → Int32 → Int32 → (Nat → Int32) → (Nat → Int32) → (Nat → Int32) → (Nat → Int32) → (Nat → Int32) → (Nat → Int32) → (Nat → Int32) → (Nat → Int32) → (Nat → Int32) → (Nat → Int32) → (Nat → Int32) → (Nat → Int64) → (Nat → Int64) → Prop} {x1 : Int32} {E : Nat → Bool} {V : Nat → Nat} {i : Nat} {z : Bool} (hi : i < 24) (hz : E i = z) (hs : a_share i = nI (V i)) (hI : fx_OI E V i a_known a_part) (h : ∀ kn pt : Nat → Int32, fx_OI E V (i + 1) kn pt → J12 (nI (i + 1)) f_nodes f_height f_root f_noise a_party a_threshold a_width a_gateOf a_placeOf a_stack a_share pt kn a_coefficient a_chosen a_sets a_atLeast) : wX_open_61 post J12 x1 (nI i) (fy_b z) (nI i) f_nodes f_height f_root f_noise a_party a_threshold a_width a_gateOf a_placeOf a_stack a_share a_part a_known a_coefficient a_chosen a_sets a_atLeast := by
  have hv : vp_in (nI i) 24 := vp_in_nI hi (by omega)
  unfold wX_open_61
  rw [nI_clamp (n := i) (by omega), fy_nar]
  refine ⟨hv, nm_e ⟨hv, ?_⟩⟩
  rw [pk_us]
  refine fy_b0 (fun y => ⟨hv, nm_e (nm_r (nI_1 i) (h _ _ (fx_OI_s hI (fun x hx => ⟨pk_un hx, pk_un hx⟩) ?_ (fun v => ?_))))⟩) (fun y => ⟨hv, hv, nm_e (nm_r (nI_1 i) (h _ _ (fx_OI_s hI (fun x hx => ⟨pk_un hx, pk_un hx⟩) ?_ (fun v => ?_))))⟩)
  · rw [pk_us, hz]
  · exact absurd (v.symm.trans (hz.trans y)) (by decide)
  · rw [pk_us, hz]
  · rw [pk_us, hs]
theorem fx_open_l {post : Int32 → SX → Prop} {x1 : Int32} {R : Nat} {V : Nat → Nat} {C : Nat → Nat → Nat} (hR : R < 24) (wf : fs_WF kk nn (R + 1)) (st : fx_Str kk nn (R + 1) a_party a_threshold a_gateOf a_placeOf) (hV : ∀ x, V x < 251) (hS : ∀ x, x ≤ R → kk x = 0 → a_share x = nI (V x)) (hr : fx_Rg a_share) (po : fs_PO kk nn R V C) (h : ∀ sh pt kn cho : Nat → Int32, (∀ x, x < 24 → pt x = 0) → (∀ x, 0 ≤ a_party x → sh x = a_share x) → fx_Rg sh → post (if fs_ev kk nn (fy_m x1) R = true then nI (V R) else -9) (f_nodes, f_height, nI R, f_noise, a_party, a_threshold, a_width, a_gateOf, a_placeOf, a_stack, sh, pt, kn, a_coefficient, cho, a_sets, a_atLeast)) : ∀ (d i : Nat) (a_part a_known a_chosen : Nat → Int32), i + d = R + 1 → fx_OI (fs_ev kk nn (fy_m x1)) V i a_known a_part → wX_open_12 post x1 (d + 1) (nI i) f_nodes f_height (nI R) f_noise a_party a_threshold a_width a_gateOf a_placeOf a_stack a_share a_part a_known a_coefficient a_chosen a_sets a_atLeast := by
  intro d
  induction d with
  | zero =>
    intro i a_part a_known a_chosen hd hI
    have e : i = R + 1 := hd
    subst e
    have hIR := hI R (by omega)
    unfold wX_open_12
    rw [nI_clamp (n := R) (by omega), hIR.1]
    refine br_t (nI_lt (by omega) (by omega)) ⟨vp_in_nI hR (by omega), fy_b0 (fun z => ?_) (fun z => ⟨vp_in_nI hR (by omega), ?_⟩)⟩
    · refine fx_wipe hr (fun sh pt h1 h2 h3 => ?_)
      have h4 := h sh pt a_known a_chosen h1 h2 h3
      rw [z] at h4
      exact h4
    · rw [hIR.2 z]
      refine fx_wipe hr (fun sh pt h1 h2 h3 => ?_)
      have h4 := h sh pt a_known a_chosen h1 h2 h3
      rw [z] at h4
      exact h4
  | succ d ih =>
    intro i a_part a_known a_chosen hd hI
    have hv : vp_in (nI i) 24 := vp_in_nI (by omega) (by omega)
    unfold wX_open_12
    rw [nI_clamp (n := i) (by omega)]
    refine br_f (nI_nlt (by omega) (by omega)) ⟨hv, ?_⟩
    rcases wf i (by omega) with ⟨h0, h1, h2⟩ | ⟨h0, h1, h2, h3⟩
    · rw [st.1 i (by omega) h0]
      refine br_t (nI_pos' (by omega)) ⟨hv, br_c (fun z => ?_) (fun z => ?_)⟩
      · exact fx_o61 (z := true) (by omega) ((fs_ev_leaf h0).trans (decide_eq_true z)) (hS i (by omega) h0) hI (fun kn pt hI' => ih (i + 1) pt kn a_chosen (by omega) hI')
      · exact fx_o61 (z := false) (by omega) ((fs_ev_leaf h0).trans (decide_eq_false z)) (hS i (by omega) h0) hI (fun kn pt hI' => ih (i + 1) pt kn a_chosen (by omega) hI')
    · have hk : ¬ kk i = 0 := by omega
      have hg := st.2.1 i (by omega) hk
      have hp := po i (by omega) hk
      rw [hg.1]
      refine br_f (by decide) (fx_joinGate (E := fs_ev kk nn (fy_m x1)) (V := V) (C := C i) (k := kk i) (w := nn i) (ch := fs_ch kk nn i) (by omega) h0 h1 h2 hg.2 (fun q hq => fs_ch_lt hq h3) (fun q q' hq hq' => fs_ch_mono hq hq' h3) (st.2.2.1 i (by omega) hk) (fun c hc hgc => (st.2.2.2 i (by omega) c hc hgc).2) hI hV hp.2 (fun cho kn pt h4 h5 h6 => ?_))
      refine nm_r (nI_1 i) (ih (i + 1) pt kn cho (by omega) (fx_OI_s hI h4 ?_ (fun v => ?_)))
      · rw [h5, fs_ev_gate hk h3]
      · rw [fs_ev_gate hk h3] at v
        rw [h6 (of_decide_eq_true v), hp.1]
theorem fx_open {post : Int32 → SX → Prop} {x1 : Int32} {R : Nat} {V : Nat → Nat} {C : Nat → Nat → Nat} (hR : R < 24) (wf : fs_WF kk nn (R + 1)) (st : fx_Str kk nn (R + 1) a_party a_threshold a_gateOf a_placeOf) (hV : ∀ x, V x < 251) (hS : ∀ x, x ≤ R → kk x = 0 → a_share x = nI (V x)) (hr : fx_Rg a_share) (po : fs_PO kk nn R V C) (h : ∀ sh pt kn cho : Nat → Int32, (∀ x, x < 24 → pt x = 0) → (∀ x, 0 ≤ a_party x → sh x = a_share x) → fx_Rg sh → post (if fs_ev kk nn (fy_m x1) R = true then nI (V R) else -9) (f_nodes, f_height, nI R, f_noise, a_party, a_threshold, a_width, a_gateOf, a_placeOf, a_stack, sh, pt, kn, a_coefficient, cho, a_sets, a_atLeast)) : wpX_open post (f_nodes, f_height, nI R, f_noise, a_party, a_threshold, a_width, a_gateOf, a_placeOf, a_stack, a_share, a_part, a_known, a_coefficient, a_chosen, a_sets, a_atLeast) x1 := br_t (nI_pos' (by omega)) ⟨R + 1 + 1, fx_open_l hR wf st hV hS hr po h (R + 1) 0 a_part a_known a_chosen (Nat.zero_add _) (fun x hx => absurd hx (Nat.not_lt_zero _))⟩
end
end
section
/-! ===== the component: questions over the words of sets ===== -/
theorem fx_lbit {n j : Nat} (hj : j < 64) : (lN n).toBitVec.getLsbD j = n.testBit j := by
  rw [wb_tb, BitVec.getLsbD_ofNat, decide_eq_true hj, Bool.true_and]
theorem fx_bit64 (w : Int64) {j : Nat} (hj : j < 64) : ((w.toUInt64 >>> ((nI j).toInt64.toUInt64 &&& Int64.toUInt64 63)).toInt64 &&& 1) = if w.toBitVec.getLsbD j = true then 1 else 0 := by
  obtain ⟨n, hn, rfl⟩ := wb_of w
  rw [wb_bit hn hj, fx_lbit hj, Nat.testBit_eq_decide_div_mod_eq]
  rcases (by omega : n / 2 ^ j % 2 = 0 ∨ n / 2 ^ j % 2 = 1) with h | h <;> rw [h] <;> rfl
theorem fx_b64 {b : Bool} {A B : Prop} (f : b = true → A) (g : b = false → B) : ((if b = true then (1 : Int64) else 0) = 1 → A) ∧ (¬ (if b = true then (1 : Int64) else 0) = 1 → B) := by
  cases b
  · exact br_f (by decide) (g rfl)
  · exact br_t rfl (f rfl)
theorem fx_zero (a : Int64) : a = 0 ↔ ∀ b, b < 64 → a.toBitVec.getLsbD b = false := by
  refine ⟨fun h b _ => by rw [h]; exact fx_z0 b, fun h => Int64.toBitVec_inj.mp (BitVec.eq_of_getLsbD_eq (fun i hi => ?_))⟩
  rw [h i hi]; exact (fx_z0 i).symm
theorem fx_pcw (a : Int64) (f : Nat → Bool) (h : ∀ b, b < 64 → a.toBitVec.getLsbD b = f b) : ∃ v, v < 2 ^ 64 ∧ a = lN v ∧ fs_pc v 64 = fs_cnt f 64 := by
  obtain ⟨v, hv, rfl⟩ := wb_of a
  exact ⟨v, hv, rfl, fs_cnt_cg 64 (fun q hq => (fx_lbit hq).symm.trans (h q hq))⟩
theorem fx_ones_l {post : Int32 → Prop} {T : Nat} (hT : T ≤ 64) (h : post (nI T)) : ∀ d i v : Nat, i + d = 64 → v < 2 ^ 64 → fs_pc v 64 + i = T → wX_ones_7 post (d + 1) (nI i) (lN v) (nI i) := by
  intro d
  induction d with
  | zero =>
    intro i v hd hv ht
    have e : i = 64 := hd
    have e2 : i = T := by omega
    subst e2
    subst e
    exact br_t (by decide) h
  | succ d ih =>
    intro i v hd hv ht
    unfold wX_ones_7
    refine br_f (nI_ge (b := 64) (by omega) (by omega)) (br_c (fun z => ?_) (fun z => ?_))
    · have e0 : v = 0 := by
        have h1 := wb_tn hv
        rw [z] at h1
        exact h1.symm
      rw [e0, fs_pc_0, Nat.zero_add] at ht
      rw [ht]; exact h
    · have hp : 0 < v := by
        refine Nat.pos_of_ne_zero (fun y => z ?_)
        rw [y]; rfl
      have e1 : lN v &&& (lN v - 1) = lN (v &&& (v - 1)) := by
        show lN v &&& (lN v - lN 1) = _
        rw [lN_sub hp, wb_and hv (by omega)]
      have h2 := fs_pc_kern hp hv
      exact nm_r e1 (nm_r (nI_1 i) (nm_r (nI_1 i) (ih (i + 1) (v &&& (v - 1)) (by omega) (Nat.lt_of_le_of_lt Nat.and_le_left hv) (by omega))))
theorem fx_ones {post : Int32 → Prop} {v : Nat} (hv : v < 2 ^ 64) (h : post (nI (fs_pc v 64))) : wpX_ones post (lN v) := ⟨65, fx_ones_l (fs_cnt_le _ 64) h 64 0 v rfl hv (Nat.add_zero _)⟩
theorem fx_sh1 : ∀ x, x < 8 → (1 : Int32) <<< (nI x &&& 31) = nI (2 ^ x) := by decide +kernel
theorem fx_tbp {s x : Nat} (h : s.testBit x = true) : 2 ^ x ≤ s := by
  refine Nat.le_of_not_lt (fun z => ?_)
  rw [Nat.testBit_lt_two_pow z] at h
  exact absurd h (by decide)
section
variable {f_nodes f_height f_root f_noise : Int32} {a_party a_threshold a_width a_gateOf a_placeOf a_stack a_share a_part a_known a_coefficient a_chosen : Nat → Int32} {a_sets a_atLeast : Nat → Int64} {R : Nat} {f : Nat → Bool}
theorem fx_ful {post : Int32 → Prop} {s : Nat} (hR : R < 24) (hs : s < 256) (hb : fx_Bs a_sets R f) (h : post (fy_b (f s))) : wpX_fulfils post (f_nodes, f_height, nI R, f_noise, a_party, a_threshold, a_width, a_gateOf, a_placeOf, a_stack, a_share, a_part, a_known, a_coefficient, a_chosen, a_sets, a_atLeast) (nI s) := by
  have h1 := hb (s / 64) (by omega) (s % 64) (by omega)
  rw [Nat.div_add_mod] at h1
  have e1 : nI s >>> ((6 : Int32) &&& 31) = nI (s / 64) := pk_shrN (by omega) _ 6 (by decide)
  have e2 : nI s &&& 63 = nI (s % 64) := pk_andN (by omega) 6 (by decide)
  unfold wpX_fulfils
  dsimp only
  rw [e1, e2, fx_ix, nI_clamp (n := R * 4 + s / 64) (by omega), fx_bit64 _ (by omega), h1]
  refine ⟨vp_in_nI (by omega) (by omega), fx_b64 (fun z => ?_) (fun z => ?_)⟩
  · rw [z] at h; exact h
  · rw [z] at h; exact h
theorem fx_qual_l {post : Int32 → Prop} (hR : R < 24) (hb : fx_Bs a_sets R f) (h : post (nI (fs_cnt f 256))) : ∀ d w : Nat, w + d = 4 → wX_qualified_14 post f_nodes f_height (nI R) f_noise a_party a_threshold a_width a_gateOf a_placeOf a_stack a_share a_part a_known a_coefficient a_chosen a_sets a_atLeast (d + 1) (nI (fs_cnt f (64 * w))) (nI w) := by
  intro d
  induction d with
  | zero =>
    intro w hd
    have e : w = 4 := hd
    subst e
    exact br_t (by decide) h
  | succ d ih =>
    intro w hd
    obtain ⟨v, hv, e1, e2⟩ := fx_pcw (a_sets (R * 4 + w)) (fun b => f (64 * w + b)) (hb w (by omega))
    unfold wX_qualified_14
    rw [fx_ix, nI_clamp (n := R * 4 + w) (by omega), e1]
    refine br_f (nI_ge (b := 4) (by omega) (by omega)) ⟨vp_in_nI (by omega) (by omega), fx_ones hv ?_⟩
    have e3 : nI (fs_cnt f (64 * w)) + nI (fs_pc v 64) = nI (fs_cnt f (64 * (w + 1))) := by
      rw [nI_add, e2, ← fs_cnt_add]; rfl
    exact nm_r e3 (nm_r (nI_1 w) (ih (w + 1) (by omega)))
theorem fx_qual {post : Int32 → Prop} (hR : R < 24) (hb : fx_Bs a_sets R f) (h : post (nI (fs_cnt f 256))) : wpX_qualified post (f_nodes, f_height, nI R, f_noise, a_party, a_threshold, a_width, a_gateOf, a_placeOf, a_stack, a_share, a_part, a_known, a_coefficient, a_chosen, a_sets, a_atLeast) := br_t (nI_pos' (by omega)) ⟨5, fx_qual_l hR hb h 4 0 rfl⟩
theorem fx_min_l {post : Int32 → Prop} {s : Nat} (hR : R < 24) (hs : s < 256) (hb : fx_Bs a_sets R f) : ∀ d x : Nat, x + d = 8 → post (fy_b (fs_min f s d)) → wX_minimal_30 post (nI s) f_nodes f_height (nI R) f_noise a_party a_threshold a_width a_gateOf a_placeOf a_stack a_share a_part a_known a_coefficient a_chosen a_sets a_atLeast (d + 1) (nI x) := by
  intro d
  induction d with
  | zero =>
    intro x hd h
    have e : x = 8 := hd
    subst e
    exact br_t (by decide) h
  | succ d ih =>
    intro x hd h
    have e7 : 7 - d = x := by omega
    have hmx := fy_m_nI s hs x (by omega)
    have h' : post (fy_b (if s.testBit (7 - d) = true ∧ f (s - 2 ^ (7 - d)) = true then false else fs_min f s d)) := h
    rw [e7] at h'
    unfold wX_minimal_30
    refine br_f (nI_ge (b := 8) (by omega) (by omega)) (br_c (fun z => ?_) (fun z => ?_))
    · have hbx : s.testBit x = true := by rw [← hmx]; exact decide_eq_true z
      rw [fx_sh1 x (by omega), pk_sub (fx_tbp hbx)]
      refine fx_ful hR (Nat.lt_of_le_of_lt (Nat.sub_le _ _) hs) hb (fy_b0 (fun y => ?_) (fun y => ?_))
      · rw [if_neg (fun v => absurd (y.symm.trans v.2) (by decide))] at h'
        exact nm_r (nI_1 x) (ih (x + 1) (by omega) h')
      · rw [if_pos ⟨hbx, y⟩] at h'
        exact h'
    · have hbx : s.testBit x = false := by rw [← hmx]; exact decide_eq_false z
      rw [if_neg (fun v => absurd (hbx.symm.trans v.1) (by decide))] at h'
      exact nm_r (nI_1 x) (ih (x + 1) (by omega) h')
theorem fx_min {post : Int32 → Prop} {s : Nat} {x1 : Int32} (hR : R < 24) (hs : s < 256) (hx : x1 &&& 255 = nI s) (hb : fx_Bs a_sets R f) (h : post (fy_b (f s && fs_min f s 8))) : wpX_minimal post (f_nodes, f_height, nI R, f_noise, a_party, a_threshold, a_width, a_gateOf, a_placeOf, a_stack, a_share, a_part, a_known, a_coefficient, a_chosen, a_sets, a_atLeast) x1 := by
  refine br_t (nI_pos' (by omega)) (nm_r hx (fx_ful hR hs hb (fy_b0 (fun y => ?_) (fun y => ?_))))
  · rw [y] at h; exact h
  · rw [y] at h
    exact ⟨9, fx_min_l hR hs hb 8 0 rfl h⟩
theorem fx_few_l {post : Int32 → Prop} (hR : R < 24) (hb : fx_Bs a_sets R f) (h : post (nI (fs_few f 256))) : ∀ d s : Nat, s + d = 256 → wX_fewest_15 post f_nodes f_height (nI R) f_noise a_party a_threshold a_width a_gateOf a_placeOf a_stack a_share a_part a_known a_coefficient a_chosen a_sets a_atLeast (d + 1) (nI (fs_few f s)) (nI s) := by
  intro d
  induction d with
  | zero =>
    intro s hd
    have e : s = 256 := hd
    subst e
    exact br_t (by decide) h
  | succ d ih =>
    intro s hd
    have h8 := fs_few_8 f s
    have hp : fs_pc s 8 ≤ 8 := fs_cnt_le (fun i => s.testBit i) 8
    have h1 := ih (s + 1) (by omega)
    have e : fs_few f (s + 1) = if f s = true ∧ fs_pc s 8 < fs_few f s then fs_pc s 8 else fs_few f s := rfl
    rw [e] at h1
    unfold wX_fewest_15
    rw [nI_l (n := s) (by omega)]
    refine br_f (nI_ge (b := 256) (by omega) (by omega)) (fx_ones (by omega) ?_)
    rw [fs_pc_8 (by omega)]
    refine pk_le (fs_few f s) (fs_pc s 8) (fun v => ?_) (fun v => fx_ful hR (by omega) hb (fy_b0 (fun y => ?_) (fun y => ?_)))
    · rw [if_neg (fun y => absurd y.2 (by omega))] at h1
      exact nm_r (nI_1 s) h1
    · rw [if_neg (fun w => absurd (y.symm.trans w.1) (by decide))] at h1
      exact nm_r (nI_1 s) h1
    · rw [if_pos ⟨y, v⟩] at h1
      exact nm_r (nI_1 s) h1
theorem fx_few {post : Int32 → Prop} (hR : R < 24) (hb : fx_Bs a_sets R f) (h : post (nI (fs_few f 256))) : wpX_fewest post (f_nodes, f_height, nI R, f_noise, a_party, a_threshold, a_width, a_gateOf, a_placeOf, a_stack, a_share, a_part, a_known, a_coefficient, a_chosen, a_sets, a_atLeast) := br_t (nI_pos' (by omega)) ⟨257, fx_few_l hR hb h 256 0 rfl⟩
/-- no set below n that fulfils lacks x -/
def fx_Z (f : Nat → Bool) (x n : Nat) (a : Int64) : Prop := a = 0 ↔ ∀ s, s < n → f s = true → s.testBit x = true
theorem fx_Z_s {x w : Nat} {a c r : Int64} (hc : ∀ b, b < 64 → c.toBitVec.getLsbD b = f (64 * w + b)) (hr : ∀ b, b < 64 → r.toBitVec.getLsbD b = (64 * w + b).testBit x) (hZ : fx_Z f x (64 * w) a) : fx_Z f x (64 * (w + 1)) (a ||| (c &&& (r ^^^ (-1)))) := by
  have h1 : a ||| (c &&& (r ^^^ (-1))) = 0 ↔ a = 0 ∧ ∀ b, b < 64 → f (64 * w + b) = true → (64 * w + b).testBit x = true := by
    rw [fx_zero, fx_zero a]
    have hbit : ∀ b, b < 64 → (a ||| (c &&& (r ^^^ (-1)))).toBitVec.getLsbD b = (a.toBitVec.getLsbD b || (f (64 * w + b) && !((64 * w + b).testBit x))) := by
      intro b hb
      rw [Int64.toBitVec_or, Int64.toBitVec_and, Int64.toBitVec_xor, BitVec.getLsbD_or, BitVec.getLsbD_and, BitVec.getLsbD_xor, hc b hb, hr b hb, fx_m1 b hb, Bool.xor_true]
    refine ⟨fun h => ⟨fun b hb => ?_, fun b hb hf => ?_⟩, fun h b hb => ?_⟩
    · have h2 := h b hb
      rw [hbit b hb] at h2
      revert h2
      cases a.toBitVec.getLsbD b
      · intro _; rfl
      · intro h2; exact h2
    · have h2 := h b hb
      rw [hbit b hb, hf] at h2
      revert h2
      cases (64 * w + b).testBit x
      · cases a.toBitVec.getLsbD b
        · intro h2; exact absurd h2 (by decide)
        · intro h2; exact absurd h2 (by decide)
      · intro _; rfl
    · rw [hbit b hb, h.1 b hb]
      cases hf : f (64 * w + b)
      · rfl
      · rw [h.2 b hb hf]; rfl
  have hZ' : a = 0 ↔ ∀ s, s < 64 * w → f s = true → s.testBit x = true := hZ
  unfold fx_Z
  rw [h1, hZ']
  refine ⟨fun h s hs hf => ?_, fun h => ⟨fun s hs => h s (by omega), fun b hb => h (64 * w + b) (by omega)⟩⟩
  by_cases z : s < 64 * w
  · exact h.1 s z hf
  · have h2 := h.2 (s - 64 * w) (by omega)
    rw [show 64 * w + (s - 64 * w) = s from by omega] at h2
    exact h2 hf
theorem fx_need_i {post : Int32 → Prop} {J14 : Int32 → Int32 → Prop} {x : Nat} (hR : R < 24) (hx : x < 8) (hb : fx_Bs a_sets R f) (h : J14 (nI (fs_cnt (fun x => fs_nd f x 256) (x + 1))) (nI (x + 1))) : ∀ (d w : Nat) (a : Int64), w + d = 4 → fx_Z f x (64 * w) a → wX_needed_25 post J14 (nI (fs_cnt (fun x => fs_nd f x 256) x)) (nI x) f_nodes f_height (nI R) f_noise a_party a_threshold a_width a_gateOf a_placeOf a_stack a_share a_part a_known a_coefficient a_chosen a_sets a_atLeast (d + 1) a (nI w) := by
  intro d
  induction d with
  | zero =>
    intro w a hd hZ
    have e : w = 4 := hd
    subst e
    have hn := fs_nd_iff f x 256
    refine br_t (by decide) (br_c (fun z => ?_) (fun z => ?_))
    · rw [fs_cnt_t (b := fun x => fs_nd f x 256) (n := x) (hn.mpr (hZ.mp z))] at h
      exact nm_r (nI_1 _) (nm_r (nI_1 x) h)
    · rw [fs_cnt_f (b := fun x => fs_nd f x 256) (n := x) (ts_nt (fun y => z (hZ.mpr (hn.mp y))))] at h
      exact nm_r (nI_1 x) h
  | succ d ih =>
    intro w a hd hZ
    unfold wX_needed_25
    rw [fx_ix, nI_clamp (n := R * 4 + w) (by omega)]
    refine br_f (nI_ge (b := 4) (by omega) (by omega)) ⟨vp_in_nI (by omega) (by omega), fx_pw hx (by omega) (fun r hr => ?_)⟩
    exact nm_e (nm_r (nI_1 w) (ih (w + 1) _ (by omega) (fx_Z_s (hb w (by omega)) hr hZ)))
theorem fx_need_l {post : Int32 → Prop} (hR : R < 24) (hb : fx_Bs a_sets R f) (h : post (nI (fs_cnt (fun x => fs_nd f x 256) 8))) : ∀ d x : Nat, x + d = 8 → wX_needed_14 post f_nodes f_height (nI R) f_noise a_party a_threshold a_width a_gateOf a_placeOf a_stack a_share a_part a_known a_coefficient a_chosen a_sets a_atLeast (d + 1) (nI (fs_cnt (fun x => fs_nd f x 256) x)) (nI x) := by
  intro d
  induction d with
  | zero =>
    intro x hd
    have e : x = 8 := hd
    subst e
    exact br_t (by decide) h
  | succ d ih =>
    intro x hd
    exact br_f (nI_ge (b := 8) (by omega) (by omega)) ⟨5, fx_need_i hR (by omega) hb (ih (x + 1) (by omega)) 4 0 0 rfl ⟨fun _ s hs => absurd hs (Nat.not_lt_zero _), fun _ => rfl⟩⟩
theorem fx_need {post : Int32 → Prop} (hR : R < 24) (hb : fx_Bs a_sets R f) (h : post (nI (fs_cnt (fun x => fs_nd f x 256) 8))) : wpX_needed post (f_nodes, f_height, nI R, f_noise, a_party, a_threshold, a_width, a_gateOf, a_placeOf, a_stack, a_share, a_part, a_known, a_coefficient, a_chosen, a_sets, a_atLeast) := br_t (nI_pos' (by omega)) ⟨9, fx_need_l hR hb h 8 0 rfl⟩
end
end
section
/-! ===== the relation ===== -/
/-- the formula of N nodes, in both -/
def fr_A (kk nn : Nat → Nat) (N : Nat) (a_party a_threshold a_gateOf a_placeOf a_stack : Nat → Int32) (a_sets : Nat → Int64) (b_k b_n : Nat → Int32) : Prop := N ≤ 24 ∧ fs_WF kk nn N ∧ fx_Str kk nn N a_party a_threshold a_gateOf a_placeOf ∧ (∀ j, j < fs_tp kk nn N → a_stack j = nI (fs_st kk nn N j)) ∧ (∀ c, c < N → ∀ g, N ≤ g → g < 24 → ¬ a_gateOf c = nI g) ∧ (∀ i, i < N → fx_Bs a_sets i (fun s => fs_ev kk nn (fun p => s.testBit p) i)) ∧ (∀ i, i < N → b_k i = nI (kk i) ∧ b_n i = nI (nn i))
/-- what is shared: V the numbers at the nodes, C the polynomials -/
def fr_H (kk nn : Nat → Nat) (R : Nat) (V : Nat → Nat) (C : Nat → Nat → Nat) (a_share : Nat → Int32) (b_secret : Int32) (b_sK b_sN : Nat → Int32) : Prop := fs_tp kk nn (R + 1) = 1 ∧ (∀ i, i < R + 1 → b_sK i = nI (kk i) ∧ b_sN i = nI (nn i)) ∧ (∀ x, V x < 251) ∧ (∀ x, x ≤ R → kk x = 0 → a_share x = nI (V x)) ∧ b_secret = nI (V R) ∧ fs_PO kk nn R V C
def fr_S (kk nn : Nat → Nat) (N : Nat) (f_root : Int32) (a_share : Nat → Int32) (b_shared b_secret : Int32) (b_sK b_sN : Nat → Int32) : Prop := (f_root = -1 ∧ b_shared = 0) ∨ ∃ (R : Nat) (V : Nat → Nat) (C : Nat → Nat → Nat), R < N ∧ f_root = nI R ∧ b_shared = nI (R + 1) ∧ fr_H kk nn R V C a_share b_secret b_sK b_sN
def fr_R (kk nn : Nat → Nat) (N : Nat) (u : SX) (v : SY) : Prop := match u with
  | (f_nodes, f_height, f_root, f_noise, a_party, a_threshold, a_width, a_gateOf, a_placeOf, a_stack, a_share, a_part, a_known, a_coefficient, a_chosen, a_sets, a_atLeast) => match v with
    | (b_nodes, b_high, b_shared, b_secret, b_k, b_n, b_sK, b_sN, _) => f_nodes = nI N ∧ b_nodes = nI N ∧ f_height = nI (fs_tp kk nn N) ∧ b_high = nI (fs_tp kk nn N) ∧ (∀ x, x < 24 → a_part x = 0) ∧ fx_Rg a_share ∧ fr_A kk nn N a_party a_threshold a_gateOf a_placeOf a_stack a_sets b_k b_n ∧ fr_S kk nn N f_root a_share b_shared b_secret b_sK b_sN
/-- the relation at the head of a turn whose first cell is k -/
def i_Rel (_ : Nat) (u : SX) (v : SY) : Prop := ∃ (kk nn : Nat → Nat) (N : Nat), fr_R kk nn N u v
theorem i_up {k : Nat} {u : SX} {v : SY} (h : i_Rel k u v) : i_Rel (k + 3) u v := h
section
variable {f_nodes f_height f_root f_noise : Int32} {a_party a_threshold a_width a_gateOf a_placeOf a_stack a_share a_part a_known a_coefficient a_chosen : Nat → Int32} {a_sets a_atLeast : Nat → Int64} {b_nodes b_high b_shared b_secret : Int32} {b_k b_n b_sK b_sN b_stack : Nat → Int32} {kk nn : Nat → Nat} {N : Nat}
theorem fr_in {k : Nat} (e1 : f_nodes = nI N) (e2 : b_nodes = nI N) (e3 : f_height = nI (fs_tp kk nn N)) (e4 : b_high = nI (fs_tp kk nn N)) (h5 : ∀ x, x < 24 → a_part x = 0) (h6 : fx_Rg a_share) (hA : fr_A kk nn N a_party a_threshold a_gateOf a_placeOf a_stack a_sets b_k b_n) (hS : fr_S kk nn N f_root a_share b_shared b_secret b_sK b_sN) : i_Rel k (f_nodes, f_height, f_root, f_noise, a_party, a_threshold, a_width, a_gateOf, a_placeOf, a_stack, a_share, a_part, a_known, a_coefficient, a_chosen, a_sets, a_atLeast) (b_nodes, b_high, b_shared, b_secret, b_k, b_n, b_sK, b_sN, b_stack) := Exists.intro kk (Exists.intro nn (Exists.intro N (And.intro e1 (And.intro e2 (And.intro e3 (And.intro e4 (And.intro h5 (And.intro h6 (And.intro hA hS)))))))))
end
theorem fr_el {P : SX → SY → Prop} (h : ∀ (kk nn : Nat → Nat) (N : Nat) (f_root f_noise : Int32) (a_party a_threshold a_width a_gateOf a_placeOf a_stack a_share a_part a_known a_coefficient a_chosen : Nat → Int32) (a_sets a_atLeast : Nat → Int64) (b_shared b_secret : Int32) (b_k b_n b_sK b_sN b_stack : Nat → Int32), (∀ x, x < 24 → a_part x = 0) → fx_Rg a_share → fr_A kk nn N a_party a_threshold a_gateOf a_placeOf a_stack a_sets b_k b_n → fr_S kk nn N f_root a_share b_shared b_secret b_sK b_sN → P (nI N, nI (fs_tp kk nn N), f_root, f_noise, a_party, a_threshold, a_width, a_gateOf, a_placeOf, a_stack, a_share, a_part, a_known, a_coefficient, a_chosen, a_sets, a_atLeast) (nI N, nI (fs_tp kk nn N), b_shared, b_secret, b_k, b_n, b_sK, b_sN, b_stack)) {k : Nat} {u : SX} {v : SY} (I : i_Rel k u v) : P u v := by
  obtain ⟨kk, nn, N, I⟩ := I
  obtain ⟨f_nodes, f_height, f_root, f_noise, a_party, a_threshold, a_width, a_gateOf, a_placeOf, a_stack, a_share, a_part, a_known, a_coefficient, a_chosen, a_sets, a_atLeast⟩ := u
  obtain ⟨b_nodes, b_high, b_shared, b_secret, b_k, b_n, b_sK, b_sN, b_stack⟩ := v
  obtain ⟨e1, e2, e3, e4, h5, h6, hA, hS⟩ := I
  subst e1
  subst e2
  subst e3
  subst e4
  exact h kk nn N f_root f_noise a_party a_threshold a_width a_gateOf a_placeOf a_stack a_share a_part a_known a_coefficient a_chosen a_sets a_atLeast b_shared b_secret b_k b_n b_sK b_sN b_stack h5 h6 hA hS
/-! === one more node === -/
def fs_u (f : Nat → Nat) (N v : Nat) : Nat → Nat := fun i => if i = N then v else f i
theorem fs_u_s {f : Nat → Nat} {N v : Nat} : fs_u f N v N = v := if_pos rfl
theorem fs_u_n {f : Nat → Nat} {N v i : Nat} (h : ¬ i = N) : fs_u f N v i = f i := if_neg h
theorem fs_u_c (kk nn : Nat → Nat) (N k n : Nat) : ∀ i, i < N → kk i = fs_u kk N k i ∧ nn i = fs_u nn N n i := fun i hi => ⟨(fs_u_n (by omega)).symm, (fs_u_n (by omega)).symm⟩
theorem fr_m1 {g : Nat} (h : g < 2 ^ 31) : ¬ (-1 : Int32) = nI g := by
  intro z
  have h1 := nI_pos' h
  rw [← z] at h1
  exact absurd h1 (by decide)
section
variable {f_root b_shared b_secret : Int32} {a_party a_threshold a_gateOf a_placeOf a_stack a_share b_k b_n b_sK b_sN : Nat → Int32} {a_sets : Nat → Int64} {kk nn : Nat → Nat} {N : Nat}
theorem fr_S_ext {k n : Nat} (hS : fr_S kk nn N f_root a_share b_shared b_secret b_sK b_sN) : fr_S (fs_u kk N k) (fs_u nn N n) (N + 1) f_root a_share b_shared b_secret b_sK b_sN := by
  rcases hS with hS | ⟨R, V, C, hR, e1, e2, hT, hK, hV, hL, hs, po⟩
  · exact Or.inl hS
  · have hc : ∀ i, i < R + 1 → kk i = fs_u kk N k i ∧ nn i = fs_u nn N n i := fun i hi => fs_u_c kk nn N k n i (by omega)
    refine Or.inr ⟨R, V, C, by omega, e1, e2, ?_, fun i hi => ?_, hV, fun x hx hk => ?_, hs, fs_PO_cg hc po⟩
    · rw [← fs_tp_cg (R + 1) hc]; exact hT
    · rw [← (hc i hi).1, ← (hc i hi).2]; exact hK i hi
    · rw [← (hc x (by omega)).1] at hk
      exact hL x hx hk
theorem fr_A_leaf {p : Nat} {s' : Nat → Int64} (hA : fr_A kk nn N a_party a_threshold a_gateOf a_placeOf a_stack a_sets b_k b_n) (hN : N < 24) (hH : fs_tp kk nn N < 6) (hp : p < 8) (hs : ∀ x, (x < N * 4 ∨ N * 4 + 4 ≤ x) → s' x = a_sets x) (hb : fx_Bs s' N (fun s => s.testBit p)) : fr_A (fs_u kk N 0) (fs_u nn N p) (N + 1) (upd a_party N (nI p)) (upd a_threshold N 0) (upd a_gateOf N (-1)) a_placeOf (upd a_stack (fs_tp kk nn N) (nI N)) s' (upd b_k N 0) (upd b_n N (nI p)) ∧ fs_tp (fs_u kk N 0) (fs_u nn N p) (N + 1) = fs_tp kk nn N + 1 := by
  obtain ⟨_, wf, st, hst, hgo, hse, hy⟩ := hA
  have hc := fs_u_c kk nn N 0 p
  have eT := fs_tp_cg N hc
  have eS := fs_st_cg N hc
  have e0 : fs_u kk N 0 N = 0 := fs_u_s
  have eT1 : fs_tp (fs_u kk N 0) (fs_u nn N p) (N + 1) = fs_tp kk nn N + 1 := by rw [fs_tp_leaf e0, ← eT]
  have wf' : fs_WF (fs_u kk N 0) (fs_u nn N p) (N + 1) := by
    intro i hi
    by_cases y : i = N
    · subst y
      exact Or.inl ⟨e0, by rw [fs_u_s]; exact hp, by rw [← eT]; exact hH⟩
    · exact fs_WF_cg hc wf i (by omega)
  refine ⟨⟨by omega, wf', ⟨fun g hg hk => ?_, fun g hg hk => ?_, fun g hg hk q hq => ?_, fun g hg c hcg hgc => ?_⟩, fun j hj => ?_, fun c hcN g hg hg24 => ?_, fun i hi => ?_, fun i hi => ?_⟩, eT1⟩
  · by_cases y : g = N
    · subst y; rw [pk_us, fs_u_s]
    · rw [pk_un y, ← (hc g (by omega)).2]
      exact st.1 g (by omega) (by rw [(hc g (by omega)).1]; exact hk)
  · have y : ¬ g = N := fun y => hk (by rw [y]; exact e0)
    rw [pk_un y, pk_un y, ← (hc g (by omega)).1]
    exact st.2.1 g (by omega) (by rw [(hc g (by omega)).1]; exact hk)
  · have y : ¬ g = N := fun y => hk (by rw [y]; exact e0)
    have hg' : g < N := by omega
    rw [← fs_ch_cg hg' hc]
    rw [← (hc g hg').2] at hq
    have hk' : ¬ kk g = 0 := by rw [(hc g hg').1]; exact hk
    have hw : nn g ≤ fs_tp kk nn g := by rcases wf g hg' with w | w <;> omega
    have h1 := fs_ch_lt hq hw
    rw [pk_un (by omega)]
    exact st.2.2.1 g hg' hk' q hq
  · rw [pk_un (by omega)] at hgc
    by_cases y : g = N
    · subst y; exact absurd hgc (hgo c hcg g (Nat.le_refl _) hN)
    · have hg' : g < N := by omega
      rw [← (hc g hg').1, ← (hc g hg').2, ← fs_ch_cg hg' hc]
      exact st.2.2.2 g hg' c hcg hgc
  · rw [eT1] at hj
    by_cases y : j = fs_tp kk nn N
    · subst y
      rw [pk_us, fs_st_top eT1.symm]
    · rw [pk_un y, fs_st_low (by rw [eT1]; omega), ← eS]
      exact hst j (by omega)
  · by_cases y : c = N
    · subst y; rw [pk_us]; exact fr_m1 (by omega)
    · rw [pk_un y]; exact hgo c (by omega) g (by omega) hg24
  · intro w hw b hb'
    by_cases y : i = N
    · subst y
      rw [hb w hw b hb']
      dsimp only
      rw [fs_ev_leaf e0, fs_u_s]
    · rw [hs (i * 4 + w) (by omega), hse i (by omega) w hw b hb']
      dsimp only
      rw [fs_ev_cg wf hc (i + 1) i (by omega) (by omega)]
  · by_cases y : i = N
    · subst y; rw [pk_us, pk_us, fs_u_s, fs_u_s]; exact ⟨rfl, rfl⟩
    · rw [pk_un y, pk_un y, ← (hc i (by omega)).1, ← (hc i (by omega)).2]
      exact hy i (by omega)
theorem fr_A_gate {k n : Nat} {go po : Nat → Int32} {s' : Nat → Int64} (hA : fr_A kk nn N a_party a_threshold a_gateOf a_placeOf a_stack a_sets b_k b_n) (hN : N < 24) (hk1 : 1 ≤ k) (hkn : k ≤ n) (hn : n ≤ 5) (hnH : n ≤ fs_tp kk nn N) (hl : fx_Lk (fun q => fs_st kk nn N (fs_tp kk nn N - n + q)) N n 0 (upd a_gateOf N (-1)) a_placeOf go po) (hs : ∀ x, (x < N * 4 ∨ N * 4 + 4 ≤ x) → s' x = a_sets x) (hb : fx_Bs s' N (fun m => decide (k ≤ fs_cnt (fun q => fs_ev kk nn (fun p => m.testBit p) (fs_st kk nn N (fs_tp kk nn N - n + q))) n))) : fr_A (fs_u kk N k) (fs_u nn N n) (N + 1) (upd a_party N (-1)) (upd a_threshold N (nI k)) go po (upd a_stack (fs_tp kk nn N - n) (nI N)) s' (upd b_k N (nI k)) (upd b_n N (nI n)) ∧ fs_tp (fs_u kk N k) (fs_u nn N n) (N + 1) = fs_tp kk nn N - n + 1 := by
  obtain ⟨_, wf, st, hst, hgo, hse, hy⟩ := hA
  have hc := fs_u_c kk nn N k n
  have eT := fs_tp_cg N hc
  have eS := fs_st_cg N hc
  have ek : fs_u kk N k N = k := fs_u_s
  have en : fs_u nn N n N = n := fs_u_s
  have e0 : ¬ fs_u kk N k N = 0 := by rw [ek]; omega
  have eT1 : fs_tp (fs_u kk N k) (fs_u nn N n) (N + 1) = fs_tp kk nn N - n + 1 := by rw [fs_tp_gate e0, ← eT, en]
  have eC : ∀ q, fs_ch (fs_u kk N k) (fs_u nn N n) N q = fs_st kk nn N (fs_tp kk nn N - n + q) := by
    intro q
    unfold fs_ch
    rw [← eT, ← eS, en]
  have hclt : ∀ q, q < n → fs_st kk nn N (fs_tp kk nn N - n + q) < N := fun q hq => fs_st_lt N _ (by omega)
  have hl1 : ∀ q, q < n → go (fs_st kk nn N (fs_tp kk nn N - n + q)) = nI N ∧ po (fs_st kk nn N (fs_tp kk nn N - n + q)) = nI (q + 1) := fun q hq => hl.1 q (Nat.zero_le _) hq
  have hl2 : ∀ x, (∀ q, q < n → ¬ x = fs_st kk nn N (fs_tp kk nn N - n + q)) → go x = upd a_gateOf N (-1) x ∧ po x = a_placeOf x := fun x hx => hl.2 x (fun q _ hq => hx q hq)
  have wf' : fs_WF (fs_u kk N k) (fs_u nn N n) (N + 1) := by
    intro i hi
    by_cases y : i = N
    · subst y
      exact Or.inr ⟨by rw [ek]; exact hk1, by rw [ek, en]; exact hkn, by rw [en]; exact hn, by rw [en, ← eT]; exact hnH⟩
    · exact fs_WF_cg hc wf i (by omega)
  have hdec : ∀ c, (∃ q, q < n ∧ c = fs_st kk nn N (fs_tp kk nn N - n + q)) ∨ (∀ q, q < n → ¬ c = fs_st kk nn N (fs_tp kk nn N - n + q)) := by
    intro c
    rcases Classical.em (∃ q, q < n ∧ c = fs_st kk nn N (fs_tp kk nn N - n + q)) with z | z
    · exact Or.inl z
    · exact Or.inr (fun q hq e => z ⟨q, hq, e⟩)
  refine ⟨⟨by omega, wf', ⟨fun g hg hk => ?_, fun g hg hk => ?_, fun g hg hk q hq => ?_, fun g hg c hcg hgc => ?_⟩, fun j hj => ?_, fun c hcN g hg hg24 => ?_, fun i hi => ?_, fun i hi => ?_⟩, eT1⟩
  · have y : ¬ g = N := fun y => e0 (by rw [y] at hk; exact hk)
    rw [pk_un y, ← (hc g (by omega)).2]
    exact st.1 g (by omega) (by rw [(hc g (by omega)).1]; exact hk)
  · by_cases y : g = N
    · subst y; rw [pk_us, pk_us, ek]; exact ⟨rfl, rfl⟩
    · rw [pk_un y, pk_un y, ← (hc g (by omega)).1]
      exact st.2.1 g (by omega) (by rw [(hc g (by omega)).1]; exact hk)
  · by_cases y : g = N
    · subst y
      rw [eC q]
      rw [en] at hq
      exact hl1 q hq
    · have hg' : g < N := by omega
      rw [← fs_ch_cg hg' hc]
      rw [← (hc g hg').2] at hq
      have hk' : ¬ kk g = 0 := by rw [(hc g hg').1]; exact hk
      have hw : nn g ≤ fs_tp kk nn g := by rcases wf g hg' with w | w <;> omega
      have h1 := fs_ch_lt hq hw
      have h2 := hl2 (fs_ch kk nn g q) (fun q' hq' e => fs_gone' hk' hq hw hg' (by omega) e.symm)
      rw [h2.1, h2.2, pk_un (by omega)]
      exact st.2.2.1 g hg' hk' q hq
  · rcases hdec c with ⟨q, hq, e⟩ | hne
    · have h1 := (hl1 q hq).1
      rw [← e, hgc] at h1
      have y : g = N := (nI_eq (by omega) (by omega)).mp h1
      subst y
      exact ⟨e0, q, by rw [en]; exact hq, by rw [eC q]; exact e⟩
    · rw [(hl2 c hne).1, pk_un (by omega)] at hgc
      by_cases y : g = N
      · subst y; exact absurd hgc (hgo c hcg g (Nat.le_refl _) hN)
      · have hg' : g < N := by omega
        rw [← (hc g hg').1, ← (hc g hg').2, ← fs_ch_cg hg' hc]
        exact st.2.2.2 g hg' c hcg hgc
  · rw [eT1] at hj
    by_cases y : j = fs_tp kk nn N - n
    · subst y
      rw [pk_us, fs_st_top eT1.symm]
    · rw [pk_un y, fs_st_low (by rw [eT1]; omega), ← eS]
      exact hst j (by omega)
  · rcases hdec c with ⟨q, hq, e⟩ | hne
    · rw [e, (hl1 q hq).1]
      intro z
      have := (nI_eq (by omega) (by omega)).mp z
      omega
    · rw [(hl2 c hne).1]
      by_cases y : c = N
      · subst y; rw [pk_us]; exact fr_m1 (by omega)
      · rw [pk_un y]; exact hgo c (by omega) g (by omega) hg24
  · intro w hw b hb'
    by_cases y : i = N
    · subst y
      rw [hb w hw b hb']
      dsimp only
      rw [fs_ev_gate (nn := fs_u nn i n) e0 (by rw [en, ← eT]; exact hnH), ek, en]
      have e1 : fs_cnt (fun q => fs_ev kk nn (fun p => (64 * w + b).testBit p) (fs_st kk nn i (fs_tp kk nn i - n + q))) n = fs_cnt (fun q => fs_ev (fs_u kk i k) (fs_u nn i n) (fun p => (64 * w + b).testBit p) (fs_ch (fs_u kk i k) (fs_u nn i n) i q)) n := by
        refine fs_cnt_cg n (fun q hq => ?_)
        show fs_ev kk nn _ _ = fs_ev _ _ _ (fs_ch (fs_u kk i k) (fs_u nn i n) i q)
        rw [eC q, fs_ev_cg wf hc _ _ (Nat.lt_succ_self _) (hclt q hq)]
      exact congrArg (fun z => decide (k ≤ z)) e1
    · rw [hs (i * 4 + w) (by omega), hse i (by omega) w hw b hb']
      dsimp only
      rw [fs_ev_cg wf hc (i + 1) i (by omega) (by omega)]
  · by_cases y : i = N
    · subst y; rw [pk_us, pk_us, ek, en]; exact ⟨rfl, rfl⟩
    · rw [pk_un y, pk_un y, ← (hc i (by omega)).1, ← (hc i (by omega)).2]
      exact hy i (by omega)
end
end
section
/-! ===== what is owed ===== -/
section
variable {f_nodes f_high f_sharedNodes f_secret : Int32} {a_k a_n a_sharedK a_sharedN a_stack : Nat → Int32}
theorem fy_node {post : Int32 → SY → Prop} {N : Nat} {p0 p1 : Int32} (hN : N < 24) (h : post f_high (nI (N + 1), f_high, f_sharedNodes, f_secret, upd a_k N p0, upd a_n N p1, a_sharedK, a_sharedN, a_stack)) : wpY_node post (nI N, f_high, f_sharedNodes, f_secret, a_k, a_n, a_sharedK, a_sharedN, a_stack) p0 p1 := by
  have hv : vp_in (nI N) 24 := vp_in_nI hN (by omega)
  unfold wpY_node
  dsimp only
  rw [nI_clamp (n := N) (by omega)]
  exact ⟨hv, nm_e ⟨hv, nm_e (nm_r (nI_1 N) h)⟩⟩
theorem fy_share_l {post : Int32 → SY → Prop} {x1 : Int32} (h : ∀ sK sN : Nat → Int32, (∀ x, x < 24 → sK x = a_k x ∧ sN x = a_n x) → post 0 (f_nodes, f_high, f_nodes, x1, a_k, a_n, sK, sN, a_stack)) : ∀ (d i : Nat) (a_sharedK a_sharedN : Nat → Int32), i + d = 24 → (∀ x, x < i → a_sharedK x = a_k x ∧ a_sharedN x = a_n x) → wY_share_27 post x1 f_nodes f_high f_sharedNodes f_secret (d + 1) (nI i) a_k a_n a_sharedK a_sharedN a_stack := by
  intro d
  induction d with
  | zero =>
    intro i a_sharedK a_sharedN hd hI
    have e : i = 24 := hd
    subst e
    exact br_t (by decide) (h _ _ hI)
  | succ d ih =>
    intro i a_sharedK a_sharedN hd hI
    have hv : vp_in (nI i) 24 := vp_in_nI (by omega) (by omega)
    unfold wY_share_27
    rw [nI_clamp (n := i) (by omega)]
    refine br_f (nI_ge (b := 24) (by omega) (by omega)) ⟨hv, hv, nm_e ⟨hv, hv, nm_e (nm_r (nI_1 i) (ih (i + 1) _ _ (by omega) (fun x hx => ?_)))⟩⟩
    by_cases y : x = i
    · subst y; rw [pk_us, pk_us]; exact ⟨rfl, rfl⟩
    · rw [pk_un y, pk_un y]; exact hI x (by omega)
end
theorem fr_24 {N : Nat} (h : N < 24) : ¬ nI N = 24 := fun z => absurd ((nI_eq (b := 24) (by omega) (by omega)).mp z) (by omega)
theorem fr_Rg {a : Nat → Int32} (h : fx_Rg a) (x : Nat) : a x = nI (a x).toNatClampNeg ∧ (a x).toNatClampNeg < 251 := by
  obtain ⟨s, hs, e⟩ := h x
  rw [e, nI_clamp (by omega)]
  exact ⟨rfl, hs⟩
section
variable {f_nodes f_high b_shared b_secret : Int32} {a_party a_threshold a_gateOf a_placeOf a_stack a_share b_k b_n b_sK b_sN : Nat → Int32} {a_sets : Nat → Int64} {kk nn : Nat → Nat} {N R : Nat}
theorem fr_wf (hA : fr_A kk nn N a_party a_threshold a_gateOf a_placeOf a_stack a_sets b_k b_n) (hR : R < N) : fs_WF kk nn (R + 1) := fun i hi => hA.2.1 i (by omega)
theorem fr_st (hA : fr_A kk nn N a_party a_threshold a_gateOf a_placeOf a_stack a_sets b_k b_n) (hR : R < N) : fx_Str kk nn (R + 1) a_party a_threshold a_gateOf a_placeOf := fx_Str_le hA.2.2.1 (by omega)
theorem fr_24' (hA : fr_A kk nn N a_party a_threshold a_gateOf a_placeOf a_stack a_sets b_k b_n) (hR : R < N) : R < 24 := Nat.lt_of_lt_of_le hR hA.1
theorem fr_pos (hA : fr_A kk nn N a_party a_threshold a_gateOf a_placeOf a_stack a_sets b_k b_n) {x : Nat} (hx : x < N) (hk : kk x = 0) : 0 ≤ a_party x := by
  have h24 := hA.1
  have h8 : nn x < 8 := by rcases hA.2.1 x hx with w | w <;> omega
  rw [hA.2.2.1.1 x hx hk]
  exact nI_pos' (by omega)
theorem fr_hF (hA : fr_A kk nn N a_party a_threshold a_gateOf a_placeOf a_stack a_sets b_k b_n) (hR : R < N) (hT : fs_tp kk nn (R + 1) = 1) (hK : ∀ i, i < R + 1 → b_sK i = nI (kk i) ∧ b_sN i = nI (nn i)) : fy_F (fun x => fs_ev kk nn (fy_m x) R) f_nodes f_high (nI (R + 1)) b_secret b_k b_n b_sK b_sN := fun post x s h => fy_fulfils (fr_wf hA hR) (Nat.le_trans (by omega) hA.1) rfl (fun i hi => (hK i hi).1) (fun i hi => (hK i hi).2) hT h
theorem fr_hc (hA : fr_A kk nn N a_party a_threshold a_gateOf a_placeOf a_stack a_sets b_k b_n) (hR : R < N) : fy_Gc (fun x => fs_ev kk nn (fy_m x) R) := fun x x' h => fs_ev_m hA.2.1 h (R + 1) R (by omega) hR
theorem fr_hb (hA : fr_A kk nn N a_party a_threshold a_gateOf a_placeOf a_stack a_sets b_k b_n) (hR : R < N) : fx_Bs a_sets R (fun s => (fun x => fs_ev kk nn (fy_m x) R) (nI s)) := by
  intro w hw b hb
  rw [hA.2.2.2.2.2.1 R hR w hw b hb]
  exact fs_ev_m hA.2.1 (fun p hp => (fy_m_nI (64 * w + b) (by omega) p hp).symm) (R + 1) R (by omega) hR
theorem fr_A0 : fr_A kk nn 0 a_party a_threshold a_gateOf a_placeOf a_stack a_sets b_k b_n := ⟨by omega, fun i hi => absurd hi (Nat.not_lt_zero _), ⟨fun g hg => absurd hg (Nat.not_lt_zero _), fun g hg => absurd hg (Nat.not_lt_zero _), fun g hg => absurd hg (Nat.not_lt_zero _), fun g hg => absurd hg (Nat.not_lt_zero _)⟩, fun j hj => absurd hj (Nat.not_lt_zero _), fun c hc => absurd hc (Nat.not_lt_zero _), fun i hi => absurd hi (Nat.not_lt_zero _), fun i hi => absurd hi (Nat.not_lt_zero _)⟩
end
theorem i_vc0 (k0 : Int32) : wpX_init (fun u => wpY_init (fun v => i_Rel 1 u v) k0) k0 := fr_in (k := 1) (kk := fun _ => 0) (nn := fun _ => 0) (N := 0) nI_0.symm nI_0.symm nI_0.symm nI_0.symm (fun _ _ => rfl) (fun _ => ⟨0, by omega, rfl⟩) fr_A0 (Or.inl ⟨rfl, rfl⟩)
theorem i_vc_leaf {k : Nat} {u : SX} {v : SY} (I : i_Rel k u v) (hk : k + 3 ≤ 1537) (v1 : Int32) : wpX_leaf (fun r u' => wpY_leaf (fun r' v' => r' = r ∧ i_Rel (k + 3) u' v') v v1) u v1 := by
  refine fr_el (P := fun u v => wpX_leaf (fun r u' => wpY_leaf (fun r' v' => r' = r ∧ i_Rel (k + 3) u' v') v v1) u v1) ?_ I
  intro kk nn N f_root f_noise a_party a_threshold a_width a_gateOf a_placeOf a_stack a_share a_part a_known a_coefficient a_chosen a_sets a_atLeast b_shared b_secret b_k b_n b_sK b_sN b_stack hp hr hA hS
  have K : ∀ r : Int32, r = r ∧ i_Rel (k + 3) (nI N, nI (fs_tp kk nn N), f_root, f_noise, a_party, a_threshold, a_width, a_gateOf, a_placeOf, a_stack, a_share, a_part, a_known, a_coefficient, a_chosen, a_sets, a_atLeast) (nI N, nI (fs_tp kk nn N), b_shared, b_secret, b_k, b_n, b_sK, b_sN, b_stack) := fun r => ⟨rfl, fr_in rfl rfl rfl rfl hp hr hA hS⟩
  have h24 := hA.1
  have h6 := fs_tp_6 hA.2.1 N (Nat.le_refl _)
  by_cases h0 : v1 < 0
  · exact br_t h0 (br_t h0 (K _))
  · by_cases h7 : v1 ≤ 7
    · obtain ⟨p, hp8, rfl⟩ := nI_of2 (M := 7) (n := 7) (by decide) h0 h7
      by_cases hN : N < 24
      · by_cases hH : fs_tp kk nn N < 6
        · refine fx_leaf (by omega) hN hH (fun s' h1 h2 => ?_)
          obtain ⟨hA', eT⟩ := fr_A_leaf hA hN hH (by omega) h1 h2
          have h66 : ¬ nI (fs_tp kk nn N) = 6 := fun z => absurd ((nI_eq (b := 6) (by omega) (by omega)).mp z) (by omega)
          exact br_f h0 (br_t h7 (br_f (fr_24 hN) (br_f h66 (nm_r (nI_1 _) (fy_node hN (And.intro rfl (fr_in rfl rfl (congrArg nI eT.symm) (congrArg nI eT.symm) hp hr hA' (fr_S_ext hS))))))))
        · have h66 : nI (fs_tp kk nn N) = 6 := congrArg nI (show fs_tp kk nn N = 6 by omega)
          exact br_f h0 (br_t h7 (br_t (nI_lt (b := 24) hN (by omega)) (br_f (nI_nlt (b := 6) (by omega) (by omega)) (br_f h0 (br_t h7 (br_f (fr_24 hN) (br_t h66 (K _))))))))
      · have hN' : nI N = 24 := congrArg nI (show N = 24 by omega)
        exact br_f h0 (br_t h7 (br_f (nI_nlt (b := 24) (by omega) (by omega)) (br_f h0 (br_t h7 (br_t hN' (K _))))))
    · exact br_f h0 (br_f h7 (br_f h0 (br_f h7 (K _))))
theorem i_vc_gate {k : Nat} {u : SX} {v : SY} (I : i_Rel k u v) (hk : k + 3 ≤ 1537) (v1 : Int32) (v2 : Int32) : wpX_gate (fun r u' => wpY_gate (fun r' v' => r' = r ∧ i_Rel (k + 3) u' v') v v1 v2) u v1 v2 := by
  refine fr_el (P := fun u v => wpX_gate (fun r u' => wpY_gate (fun r' v' => r' = r ∧ i_Rel (k + 3) u' v') v v1 v2) u v1 v2) ?_ I
  intro kk nn N f_root f_noise a_party a_threshold a_width a_gateOf a_placeOf a_stack a_share a_part a_known a_coefficient a_chosen a_sets a_atLeast b_shared b_secret b_k b_n b_sK b_sN b_stack hp hr hA hS
  have K : ∀ r : Int32, r = r ∧ i_Rel (k + 3) (nI N, nI (fs_tp kk nn N), f_root, f_noise, a_party, a_threshold, a_width, a_gateOf, a_placeOf, a_stack, a_share, a_part, a_known, a_coefficient, a_chosen, a_sets, a_atLeast) (nI N, nI (fs_tp kk nn N), b_shared, b_secret, b_k, b_n, b_sK, b_sN, b_stack) := fun r => ⟨rfl, fr_in rfl rfl rfl rfl hp hr hA hS⟩
  have h24 := hA.1
  have h6 := fs_tp_6 hA.2.1 N (Nat.le_refl _)
  by_cases h1 : v2 < 1
  · exact br_t h1 (br_t h1 (K _))
  by_cases h5 : 5 < v2
  · exact br_f h1 (br_t h5 (br_f h1 (br_t h5 (K _))))
  by_cases h3 : v1 < 1
  · exact br_f h1 (br_f h5 (br_t h3 (br_f h1 (br_f h5 (br_t h3 (K _))))))
  by_cases h4 : v1 ≤ v2
  · have h01 : (0 : Int32) < 1 := by decide
    obtain ⟨n, hn5, rfl⟩ := nI_of2 (x := v2) (M := 5) (n := 5) (by decide) (fun z => h1 (Int32.lt_trans z h01)) (Int32.not_lt.mp h5)
    obtain ⟨q, hq31, rfl⟩ := nI_of (x := v1) (fun z => h3 (Int32.lt_trans z h01))
    have hqn : q ≤ n := (nI_leI hq31 (by omega)).mp h4
    have hq1 : 1 ≤ q := Nat.le_of_not_lt (fun z => h3 (nI_lt (b := 1) z (by omega)))
    by_cases hN : N < 24
    · by_cases hH : n ≤ fs_tp kk nn N
      · refine fx_gate (E := fun m q => fs_ev kk nn (fun p => m.testBit p) (fs_st kk nn N (fs_tp kk nn N - n + q))) (c := fun q => fs_st kk nn N (fs_tp kk nn N - n + q)) hN hq1 hqn hn5 hH h6 (fun j hj => fs_st_lt N _ (by omega)) (fun j j' hj hj' e => ?_) (fun j hj => hA.2.2.2.1 _ (by omega)) (fun j hj => hA.2.2.2.2.2.1 _ (fs_st_lt N _ (by omega))) (fun go po s' al hl h7 h8 => ?_)
        · have := fs_st_inj N _ _ (by omega) (by omega) e
          omega
        · obtain ⟨hA', eT⟩ := fr_A_gate hA hN hq1 hqn hn5 hH hl h7 h8
          have e9 : nI (fs_tp kk nn N) - nI n + 1 = nI (fs_tp kk nn N - n + 1) := by rw [pk_sub hH, nI_1]
          exact br_f h1 (br_f h5 (br_f h3 (br_t h4 (br_f (fr_24 hN) (br_t (nI_le hH (by omega)) (nm_r e9 (fy_node hN (And.intro rfl (fr_in rfl rfl (congrArg nI eT.symm) (congrArg nI eT.symm) hp hr hA' (fr_S_ext hS))))))))))
      · have hH' : ¬ nI n ≤ nI (fs_tp kk nn N) := nI_ge (by omega) (by omega)
        exact br_f h1 (br_f h5 (br_f h3 (br_t h4 (br_t (nI_lt (b := 24) hN (by omega)) (br_f hH' (br_f h1 (br_f h5 (br_f h3 (br_t h4 (br_f (fr_24 hN) (br_f hH' (K _))))))))))))
    · have hN' : nI N = 24 := congrArg nI (show N = 24 by omega)
      exact br_f h1 (br_f h5 (br_f h3 (br_t h4 (br_f (nI_nlt (b := 24) (by omega) (by omega)) (br_f h1 (br_f h5 (br_f h3 (br_t h4 (br_t hN' (K _))))))))))
  · exact br_f h1 (br_f h5 (br_f h3 (br_f h4 (br_f h1 (br_f h5 (br_f h3 (br_f h4 (K _))))))))
theorem i_vc_clear {k : Nat} {u : SX} {v : SY} (I : i_Rel k u v) (hk : k + 3 ≤ 1537) : wpX_clear (fun u' => wpY_clear (fun v' => i_Rel (k + 3) u' v') v) u := by
  refine fr_el (P := fun u v => wpX_clear (fun u' => wpY_clear (fun v' => i_Rel (k + 3) u' v') v) u) ?_ I
  intro kk nn N f_root f_noise a_party a_threshold a_width a_gateOf a_placeOf a_stack a_share a_part a_known a_coefficient a_chosen a_sets a_atLeast b_shared b_secret b_k b_n b_sK b_sN b_stack hp hr hA hS
  exact fr_in (k := k + 3) (kk := kk) (nn := nn) (N := 0) nI_0.symm nI_0.symm nI_0.symm nI_0.symm hp hr fr_A0 (Or.inl ⟨rfl, rfl⟩)
theorem i_vc_share {k : Nat} {u : SX} {v : SY} (I : i_Rel k u v) (hk : k + 3 ≤ 1537) (v1 : Int32) : wpX_share (fun r u' => wpY_share (fun r' v' => r' = r ∧ i_Rel (k + 3) u' v') v v1) u v1 := by
  refine fr_el (P := fun u v => wpX_share (fun r u' => wpY_share (fun r' v' => r' = r ∧ i_Rel (k + 3) u' v') v v1) u v1) ?_ I
  intro kk nn N f_root f_noise a_party a_threshold a_width a_gateOf a_placeOf a_stack a_share a_part a_known a_coefficient a_chosen a_sets a_atLeast b_shared b_secret b_k b_n b_sK b_sN b_stack hp hr hA hS
  have K : ∀ r : Int32, r = r ∧ i_Rel (k + 3) (nI N, nI (fs_tp kk nn N), f_root, f_noise, a_party, a_threshold, a_width, a_gateOf, a_placeOf, a_stack, a_share, a_part, a_known, a_coefficient, a_chosen, a_sets, a_atLeast) (nI N, nI (fs_tp kk nn N), b_shared, b_secret, b_k, b_n, b_sK, b_sN, b_stack) := fun r => ⟨rfl, fr_in rfl rfl rfl rfl hp hr hA hS⟩
  have h24 := hA.1
  have h6 := fs_tp_6 hA.2.1 N (Nat.le_refl _)
  by_cases hT : fs_tp kk nn N = 1
  · have h1 : nI (fs_tp kk nn N) = 1 := congrArg nI hT
    by_cases h0 : v1 < 0
    · exact br_t h1 (br_t h0 (br_t h1 (br_t h0 (K _))))
    · obtain ⟨j, hj31, rfl⟩ := nI_of h0
      by_cases hj : j < 251
      · obtain ⟨R, rfl⟩ : ∃ R, N = R + 1 := by
          cases N with
          | zero => exact absurd hT (by show ¬ 0 = 1; omega)
          | succ R => exact ⟨R, rfl⟩
        have hst0 : a_stack 0 = nI R := by
          rw [hA.2.2.2.1 0 (by omega), fs_st_top (by rw [hT])]
        refine br_t h1 (br_f h0 (br_t (nI_lt (b := 251) hj (by omega)) (nm_r hst0 (fx_split (by omega) hA.2.1 hA.2.2.1 hj hp (fun nz co pt V C h2 h3 h4 po => Exists.intro (R + 1 + 1) (fx_share_l (by omega) h3 h2 (fun sh pt' h5 h6 h7 => ?_) (R + 1) 0 a_share (Nat.zero_add _) (fun x hx => absurd hx (Nat.not_lt_zero _)) hr))))))
        refine br_t h1 (br_f h0 (br_t (nI_le (b := 250) (by omega) (by omega)) ⟨25, fy_share_l (fun sK sN h8 => ?_) 24 0 b_sK b_sN rfl (fun x hx => absurd hx (Nat.not_lt_zero _))⟩))
        refine And.intro rfl (fr_in rfl rfl rfl rfl h5 h7 hA (Or.inr ⟨R, V, C, Nat.lt_succ_self R, rfl, rfl, hT, fun i hi => ?_, h3, fun x hx hkx => h6 x hx (fr_pos hA (by omega) hkx), congrArg nI h4.symm, po⟩))
        rw [(h8 i (by omega)).1, (h8 i (by omega)).2]
        exact hA.2.2.2.2.2.2 i hi
      · have h251 : ¬ nI j < 251 := nI_nlt (b := 251) (by omega) hj31
        have h250 : ¬ nI j ≤ 250 := fun z => absurd ((nI_leI (b := 250) hj31 (by omega)).mp z) (by omega)
        exact br_t h1 (br_f h0 (br_f h251 (br_t h1 (br_f h0 (br_f h250 (K _))))))
  · have h1 : ¬ nI (fs_tp kk nn N) = 1 := fun z => hT ((nI_eq (b := 1) (by omega) (by omega)).mp z)
    exact br_f h1 (br_f h1 (K _))
theorem i_vc_add {k : Nat} {u : SX} {v : SY} (I : i_Rel k u v) (hk : k + 3 ≤ 1537) (v1 : Int32) : wpX_add (fun r u' => wpY_add (fun r' v' => r' = r ∧ i_Rel (k + 3) u' v') v v1) u v1 := by
  refine fr_el (P := fun u v => wpX_add (fun r u' => wpY_add (fun r' v' => r' = r ∧ i_Rel (k + 3) u' v') v v1) u v1) ?_ I
  intro kk nn N f_root f_noise a_party a_threshold a_width a_gateOf a_placeOf a_stack a_share a_part a_known a_coefficient a_chosen a_sets a_atLeast b_shared b_secret b_k b_n b_sK b_sN b_stack hp hr hA hS
  have K : ∀ r : Int32, r = r ∧ i_Rel (k + 3) (nI N, nI (fs_tp kk nn N), f_root, f_noise, a_party, a_threshold, a_width, a_gateOf, a_placeOf, a_stack, a_share, a_part, a_known, a_coefficient, a_chosen, a_sets, a_atLeast) (nI N, nI (fs_tp kk nn N), b_shared, b_secret, b_k, b_n, b_sK, b_sN, b_stack) := fun r => ⟨rfl, fr_in rfl rfl rfl rfl hp hr hA hS⟩
  have h24 := hA.1
  by_cases h0 : v1 < 0
  · exact br_t h0 (br_t h0 (K _))
  · obtain ⟨j, hj31, rfl⟩ := nI_of h0
    by_cases hj : j < 251
    · have h251 : nI j < 251 := nI_lt (b := 251) hj (by omega)
      have h250 : nI j ≤ 250 := nI_le (b := 250) (by omega) (by omega)
      rcases hS with ⟨e1, e2⟩ | ⟨R, V, C, hRN, e1, e2, hT, hK, hV, hL, hs, po⟩
      · subst e1
        subst e2
        exact br_f h0 (br_t h251 (br_f (by decide) (br_f h0 (br_t h250 (br_t rfl (K _))))))
      · subst e1
        subst e2
        subst hs
        refine br_f h0 (br_t h251 (br_t (nI_pos' (by omega)) ⟨R + 1 + 1, fx_add_l (S := fun x => (a_share x).toNatClampNeg) (by omega) hj (fun x => (fr_Rg hr x).2) (fun sh h1 h2 => ?_) (R + 1) 0 a_share (Nat.zero_add _) (fun x hx => absurd hx (Nat.not_lt_zero _)) (fun x _ => (fr_Rg hr x).1) hr⟩))
        have hVR := hV R
        have e : nI (V R) + nI j - (nI (V R) + nI j) / 251 * 251 = nI ((V R + j) % 251) := by rw [nI_add, fx_rem (by omega)]
        refine br_f h0 (br_t h250 (br_f (nI_ne0 (by omega) (by omega)) (And.intro fx_251 (nm_r e (And.intro rfl (fr_in rfl rfl rfl rfl hp h2 hA (Or.inr ⟨R, fun i => (V i + j) % 251, _, hRN, rfl, rfl, hT, hK, fun x => Nat.mod_lt _ (by omega), fun x hx hkx => ?_, rfl, fs_PO_add po (fs_PO_const kk nn R j hj)⟩)))))))
        have hVx := hV x
        rw [h1 x hx (fr_pos hA (by omega) hkx), hL x hx hkx, nI_clamp (by omega)]
    · have h251 : ¬ nI j < 251 := nI_nlt (b := 251) (by omega) hj31
      have h250 : ¬ nI j ≤ 250 := fun z => absurd ((nI_leI (b := 250) hj31 (by omega)).mp z) (by omega)
      exact br_f h0 (br_f h251 (br_f h0 (br_f h250 (K _))))
theorem i_vc_scale {k : Nat} {u : SX} {v : SY} (I : i_Rel k u v) (hk : k + 3 ≤ 1537) (v1 : Int32) : wpX_scale (fun r u' => wpY_scale (fun r' v' => r' = r ∧ i_Rel (k + 3) u' v') v v1) u v1 := by
  refine fr_el (P := fun u v => wpX_scale (fun r u' => wpY_scale (fun r' v' => r' = r ∧ i_Rel (k + 3) u' v') v v1) u v1) ?_ I
  intro kk nn N f_root f_noise a_party a_threshold a_width a_gateOf a_placeOf a_stack a_share a_part a_known a_coefficient a_chosen a_sets a_atLeast b_shared b_secret b_k b_n b_sK b_sN b_stack hp hr hA hS
  have K : ∀ r : Int32, r = r ∧ i_Rel (k + 3) (nI N, nI (fs_tp kk nn N), f_root, f_noise, a_party, a_threshold, a_width, a_gateOf, a_placeOf, a_stack, a_share, a_part, a_known, a_coefficient, a_chosen, a_sets, a_atLeast) (nI N, nI (fs_tp kk nn N), b_shared, b_secret, b_k, b_n, b_sK, b_sN, b_stack) := fun r => ⟨rfl, fr_in rfl rfl rfl rfl hp hr hA hS⟩
  have h24 := hA.1
  by_cases h0 : v1 < 0
  · exact br_t h0 (br_t h0 (K _))
  · obtain ⟨j, hj31, rfl⟩ := nI_of h0
    by_cases hj : j < 251
    · have h251 : nI j < 251 := nI_lt (b := 251) hj (by omega)
      have h250 : nI j ≤ 250 := nI_le (b := 250) (by omega) (by omega)
      rcases hS with ⟨e1, e2⟩ | ⟨R, V, C, hRN, e1, e2, hT, hK, hV, hL, hs, po⟩
      · subst e1
        subst e2
        exact br_f h0 (br_t h251 (br_f (by decide) (br_f h0 (br_t h250 (br_t rfl (K _))))))
      · subst e1
        subst e2
        subst hs
        refine br_f h0 (br_t h251 (br_t (nI_pos' (by omega)) ⟨R + 1 + 1, fx_scale_l (S := fun x => (a_share x).toNatClampNeg) (by omega) hj (fun x => (fr_Rg hr x).2) (fun sh h1 h2 => ?_) (R + 1) 0 a_share (Nat.zero_add _) (fun x hx => absurd hx (Nat.not_lt_zero _)) (fun x _ => (fr_Rg hr x).1) hr⟩))
        have hVR := hV R
        have hb : V R * j ≤ 250 * 250 := Nat.mul_le_mul (by omega) (by omega)
        have e : nI (V R) * nI j - (nI (V R) * nI j) / 251 * 251 = nI (V R * j % 251) := by rw [pk_mul, fx_rem (by omega)]
        refine br_f h0 (br_t h250 (br_f (nI_ne0 (by omega) (by omega)) (And.intro fx_251 (nm_r e (And.intro rfl (fr_in rfl rfl rfl rfl hp h2 hA (Or.inr ⟨R, fun i => V i * j % 251, _, hRN, rfl, rfl, hT, hK, fun x => Nat.mod_lt _ (by omega), fun x hx hkx => ?_, rfl, fs_PO_mul po j⟩)))))))
        have hVx := hV x
        rw [h1 x hx (fr_pos hA (by omega) hkx), hL x hx hkx, nI_clamp (by omega)]
    · have h251 : ¬ nI j < 251 := nI_nlt (b := 251) (by omega) hj31
      have h250 : ¬ nI j ≤ 250 := fun z => absurd ((nI_leI (b := 250) hj31 (by omega)).mp z) (by omega)
      exact br_f h0 (br_f h251 (br_f h0 (br_f h250 (K _))))
theorem i_vc_refresh {k : Nat} {u : SX} {v : SY} (I : i_Rel k u v) (hk : k + 3 ≤ 1537) : wpX_refresh (fun r u' => wpY_refresh (fun r' => r' = r ∧ i_Rel (k + 3) u' v) v) u := by
  refine fr_el (P := fun u v => wpX_refresh (fun r u' => wpY_refresh (fun r' => r' = r ∧ i_Rel (k + 3) u' v) v) u) ?_ I
  intro kk nn N f_root f_noise a_party a_threshold a_width a_gateOf a_placeOf a_stack a_share a_part a_known a_coefficient a_chosen a_sets a_atLeast b_shared b_secret b_k b_n b_sK b_sN b_stack hp hr hA hS
  have K : ∀ r : Int32, r = r ∧ i_Rel (k + 3) (nI N, nI (fs_tp kk nn N), f_root, f_noise, a_party, a_threshold, a_width, a_gateOf, a_placeOf, a_stack, a_share, a_part, a_known, a_coefficient, a_chosen, a_sets, a_atLeast) (nI N, nI (fs_tp kk nn N), b_shared, b_secret, b_k, b_n, b_sK, b_sN, b_stack) := fun r => ⟨rfl, fr_in rfl rfl rfl rfl hp hr hA hS⟩
  have h24 := hA.1
  rcases hS with ⟨e1, e2⟩ | ⟨R, V, C, hRN, e1, e2, hT, hK, hV, hL, hs, po⟩
  · subst e1
    subst e2
    exact br_f (by decide) (br_t rfl (K _))
  · subst e1
    subst e2
    refine br_t (nI_pos' (by omega)) (fx_split (sv := 0) (by omega) (fr_wf hA hRN) (fr_st hA hRN) (by omega) hp (fun nz co pt W D h2 h3 h4 po' => Exists.intro (R + 1 + 1) (fx_refresh_l (S := fun x => (a_share x).toNatClampNeg) (by omega) h3 (fun x => (fr_Rg hr x).2) h2 (fun sh pt' h5 h6 h7 => ?_) (R + 1) 0 a_share (Nat.zero_add _) (fun x hx => absurd hx (Nat.not_lt_zero _)) (fun x _ => (fr_Rg hr x).1) hr)))
    refine br_f (nI_ne0 (by omega) (by omega)) (And.intro rfl (fr_in rfl rfl rfl rfl h5 h7 hA (Or.inr ⟨R, fun i => (V i + W i) % 251, _, hRN, rfl, rfl, hT, hK, fun x => Nat.mod_lt _ (by omega), fun x hx hkx => ?_, ?_, fs_PO_add po po'⟩)))
    · have hVx := hV x
      rw [h6 x hx (fr_pos hA (by omega) hkx), hL x hx hkx, nI_clamp (by omega)]
    · rw [hs]
      refine congrArg nI ?_
      show V R = (V R + W R) % 251
      rw [h4, Nat.add_zero, Nat.mod_eq_of_lt (hV R)]
theorem i_vc_open {k : Nat} {u : SX} {v : SY} (I : i_Rel k u v) (hk : k + 3 ≤ 1537) (v1 : Int32) : wpX_open (fun r u' => wpY_open (fun r' v' => r' = r ∧ i_Rel (k + 3) u' v') v v1) u v1 := by
  refine fr_el (P := fun u v => wpX_open (fun r u' => wpY_open (fun r' v' => r' = r ∧ i_Rel (k + 3) u' v') v v1) u v1) ?_ I
  intro kk nn N f_root f_noise a_party a_threshold a_width a_gateOf a_placeOf a_stack a_share a_part a_known a_coefficient a_chosen a_sets a_atLeast b_shared b_secret b_k b_n b_sK b_sN b_stack hp hr hA hS
  have K : ∀ r : Int32, r = r ∧ i_Rel (k + 3) (nI N, nI (fs_tp kk nn N), f_root, f_noise, a_party, a_threshold, a_width, a_gateOf, a_placeOf, a_stack, a_share, a_part, a_known, a_coefficient, a_chosen, a_sets, a_atLeast) (nI N, nI (fs_tp kk nn N), b_shared, b_secret, b_k, b_n, b_sK, b_sN, b_stack) := fun r => ⟨rfl, fr_in rfl rfl rfl rfl hp hr hA hS⟩
  have h24 := hA.1
  rcases hS with ⟨e1, e2⟩ | ⟨R, V, C, hRN, e1, e2, hT, hK, hV, hL, hs, po⟩
  · subst e1
    subst e2
    exact br_f (by decide) (br_t rfl (K _))
  · subst e1
    subst e2
    subst hs
    refine fx_open (fr_24' hA hRN) (fr_wf hA hRN) (fr_st hA hRN) hV hL hr po (fun sh pt kn cho h1 h2 h3 => ?_)
    refine fy_open (fr_hF hA hRN hT hK) (nI_ne0 (by omega) (by omega)) (fun s' => ?_)
    exact And.intro rfl (fr_in rfl rfl rfl rfl h1 h3 hA (Or.inr ⟨R, V, C, hRN, rfl, rfl, hT, hK, hV, fun x hx hkx => (h2 x (fr_pos hA (by omega) hkx)).trans (hL x hx hkx), rfl, po⟩))
theorem i_vc_qualified {k : Nat} {u : SX} {v : SY} (I : i_Rel k u v) (hk : k + 3 ≤ 1537) : wpX_qualified (fun r => wpY_qualified (fun r' v' => r' = r ∧ i_Rel (k + 3) u v') v) u := by
  refine fr_el (P := fun u v => wpX_qualified (fun r => wpY_qualified (fun r' v' => r' = r ∧ i_Rel (k + 3) u v') v) u) ?_ I
  intro kk nn N f_root f_noise a_party a_threshold a_width a_gateOf a_placeOf a_stack a_share a_part a_known a_coefficient a_chosen a_sets a_atLeast b_shared b_secret b_k b_n b_sK b_sN b_stack hp hr hA hS
  have K : ∀ (r : Int32) (b_stack : Nat → Int32), r = r ∧ i_Rel (k + 3) (nI N, nI (fs_tp kk nn N), f_root, f_noise, a_party, a_threshold, a_width, a_gateOf, a_placeOf, a_stack, a_share, a_part, a_known, a_coefficient, a_chosen, a_sets, a_atLeast) (nI N, nI (fs_tp kk nn N), b_shared, b_secret, b_k, b_n, b_sK, b_sN, b_stack) := fun r _ => ⟨rfl, fr_in rfl rfl rfl rfl hp hr hA hS⟩
  have h24 := hA.1
  rcases hS with ⟨e1, e2⟩ | ⟨R, V, C, hRN, e1, e2, hT, hK, hV, hL, hs, po⟩
  · subst e1
    subst e2
    exact br_f (by decide) (br_t rfl (K _ _))
  · subst e1
    subst e2
    exact fx_qual (fr_24' hA hRN) (fr_hb hA hRN) (fy_qual (fr_hF hA hRN hT hK) (nI_ne0 (by omega) (by omega)) (fun s' => K _ s'))
theorem i_vc_minimal {k : Nat} {u : SX} {v : SY} (I : i_Rel k u v) (hk : k + 3 ≤ 1537) (v1 : Int32) : wpX_minimal (fun r => wpY_minimal (fun r' v' => r' = r ∧ i_Rel (k + 3) u v') v v1) u v1 := by
  refine fr_el (P := fun u v => wpX_minimal (fun r => wpY_minimal (fun r' v' => r' = r ∧ i_Rel (k + 3) u v') v v1) u v1) ?_ I
  intro kk nn N f_root f_noise a_party a_threshold a_width a_gateOf a_placeOf a_stack a_share a_part a_known a_coefficient a_chosen a_sets a_atLeast b_shared b_secret b_k b_n b_sK b_sN b_stack hp hr hA hS
  have K : ∀ (r : Int32) (b_stack : Nat → Int32), r = r ∧ i_Rel (k + 3) (nI N, nI (fs_tp kk nn N), f_root, f_noise, a_party, a_threshold, a_width, a_gateOf, a_placeOf, a_stack, a_share, a_part, a_known, a_coefficient, a_chosen, a_sets, a_atLeast) (nI N, nI (fs_tp kk nn N), b_shared, b_secret, b_k, b_n, b_sK, b_sN, b_stack) := fun r _ => ⟨rfl, fr_in rfl rfl rfl rfl hp hr hA hS⟩
  have h24 := hA.1
  rcases hS with ⟨e1, e2⟩ | ⟨R, V, C, hRN, e1, e2, hT, hK, hV, hL, hs, po⟩
  · subst e1
    subst e2
    exact br_f (by decide) (br_t rfl (K _ _))
  · subst e1
    subst e2
    obtain ⟨s, hs256, e, hm⟩ := fy_set v1
    exact fx_min (fr_24' hA hRN) hs256 e (fr_hb hA hRN) (fy_min hs256 hm (fr_hc hA hRN) (fr_hF hA hRN hT hK) (nI_ne0 (by omega) (by omega)) (fun s' => K _ s'))
theorem i_vc_fewest {k : Nat} {u : SX} {v : SY} (I : i_Rel k u v) (hk : k + 3 ≤ 1537) : wpX_fewest (fun r => wpY_fewest (fun r' v' => r' = r ∧ i_Rel (k + 3) u v') v) u := by
  refine fr_el (P := fun u v => wpX_fewest (fun r => wpY_fewest (fun r' v' => r' = r ∧ i_Rel (k + 3) u v') v) u) ?_ I
  intro kk nn N f_root f_noise a_party a_threshold a_width a_gateOf a_placeOf a_stack a_share a_part a_known a_coefficient a_chosen a_sets a_atLeast b_shared b_secret b_k b_n b_sK b_sN b_stack hp hr hA hS
  have K : ∀ (r : Int32) (b_stack : Nat → Int32), r = r ∧ i_Rel (k + 3) (nI N, nI (fs_tp kk nn N), f_root, f_noise, a_party, a_threshold, a_width, a_gateOf, a_placeOf, a_stack, a_share, a_part, a_known, a_coefficient, a_chosen, a_sets, a_atLeast) (nI N, nI (fs_tp kk nn N), b_shared, b_secret, b_k, b_n, b_sK, b_sN, b_stack) := fun r _ => ⟨rfl, fr_in rfl rfl rfl rfl hp hr hA hS⟩
  have h24 := hA.1
  rcases hS with ⟨e1, e2⟩ | ⟨R, V, C, hRN, e1, e2, hT, hK, hV, hL, hs, po⟩
  · subst e1
    subst e2
    exact br_f (by decide) (br_t rfl (K _ _))
  · subst e1
    subst e2
    exact fx_few (fr_24' hA hRN) (fr_hb hA hRN) (fy_few (fr_hF hA hRN hT hK) (nI_ne0 (by omega) (by omega)) (fun s' => K _ s'))
theorem i_vc_needed {k : Nat} {u : SX} {v : SY} (I : i_Rel k u v) (hk : k + 3 ≤ 1537) : wpX_needed (fun r => wpY_needed (fun r' v' => r' = r ∧ i_Rel (k + 3) u v') v) u := by
  refine fr_el (P := fun u v => wpX_needed (fun r => wpY_needed (fun r' v' => r' = r ∧ i_Rel (k + 3) u v') v) u) ?_ I
  intro kk nn N f_root f_noise a_party a_threshold a_width a_gateOf a_placeOf a_stack a_share a_part a_known a_coefficient a_chosen a_sets a_atLeast b_shared b_secret b_k b_n b_sK b_sN b_stack hp hr hA hS
  have K : ∀ (r : Int32) (b_stack : Nat → Int32), r = r ∧ i_Rel (k + 3) (nI N, nI (fs_tp kk nn N), f_root, f_noise, a_party, a_threshold, a_width, a_gateOf, a_placeOf, a_stack, a_share, a_part, a_known, a_coefficient, a_chosen, a_sets, a_atLeast) (nI N, nI (fs_tp kk nn N), b_shared, b_secret, b_k, b_n, b_sK, b_sN, b_stack) := fun r _ => ⟨rfl, fr_in rfl rfl rfl rfl hp hr hA hS⟩
  have h24 := hA.1
  rcases hS with ⟨e1, e2⟩ | ⟨R, V, C, hRN, e1, e2, hT, hK, hV, hL, hs, po⟩
  · subst e1
    subst e2
    exact br_f (by decide) (br_t rfl (K _ _))
  · subst e1
    subst e2
    exact fx_need (fr_24' hA hRN) (fr_hb hA hRN) (fy_need (fr_hF hA hRN hT hK) (nI_ne0 (by omega) (by omega)) (fun s' => K _ s'))
end

section
/-! pure rows to paste: stores, nI and lN arithmetic, masks, shifts, narrowing, branches by naturals (pk_le, pk_lt, pk_eq), loops (lp1 .. lp16: the measure of the state; rp1 ..: recursion), negatives. Take what you need -/
theorem pk_us {f : Nat → Int32} {k : Nat} {x : Int32} : upd f k x k = x := if_pos rfl
theorem pk_un {f : Nat → Int32} {k j : Nat} {x : Int32} (h : j ≠ k) : upd f k x j = f j := if_neg h
theorem pk_uLs {f : Nat → Int64} {k : Nat} {x : Int64} : vp_updL f k x k = x := if_pos rfl
theorem pk_uLn {f : Nat → Int64} {k j : Nat} {x : Int64} (h : j ≠ k) : vp_updL f k x j = f j := if_neg h
theorem pk_sub {a b : Nat} (h : b ≤ a) : nI a - nI b = nI (a - b) := by
  obtain ⟨c, rfl⟩ : ∃ c, a = c + b := ⟨a - b, by omega⟩
  rw [← nI_add, Int32.add_sub_cancel, Nat.add_sub_cancel]
theorem pk_m1 (n : Nat) : nI (n + 1) + (-1) = nI n := by
  rw [← nI_1, Int32.add_assoc, show (1 : Int32) + (-1) = 0 from rfl, Int32.add_zero]
theorem pk_mul (a b : Nat) : nI a * nI b = nI (a * b) := (Int32.ofNat_mul a b).symm
theorem pk_div {a d : Nat} (ha : a < 2 ^ 31) (h0 : 0 < d) (hd : d < 2 ^ 31) : nI a / nI d = nI (a / d) := by
  apply Int32.toInt_inj.mp
  rw [lg_idiv_nonneg (by rw [nI_toInt ha]; omega) (by rw [nI_toInt hd]; omega), nI_toInt ha, nI_toInt hd, nI_toInt (Nat.lt_of_le_of_lt (Nat.div_le_self a d) ha)]
  first | rfl | exact (Int.natCast_ediv _ _).symm
theorem pk_rem {a d : Nat} (ha : a < 2 ^ 31) (h0 : 0 < d) (hd : d < 2 ^ 31) : nI a - nI a / nI d * nI d = nI (a % d) := by
  rw [pk_div ha h0 hd, pk_mul, pk_sub (Nat.div_mul_le_self a d)]
  exact congrArg nI (by have := Nat.div_add_mod' a d; omega)
theorem pk_sub_toInt {a b : Nat} (ha : a < 2 ^ 30) (hb : b < 2 ^ 30) : (nI a - nI b).toInt = (a : Int) - b := by
  rw [Int32.toInt_sub, nI_toInt (by omega), nI_toInt (by omega)]
  exact Int.bmod_eq_of_le (by omega) (by omega)
theorem pk_sneg {a b : Nat} (hb : b < 2 ^ 30) (h : a < b) : nI a - nI b < 0 := by
  rw [Int32.lt_iff_toInt_lt, pk_sub_toInt (by omega) hb, show (0 : Int32).toInt = 0 from by decide]
  omega
theorem pk_ix (x : Int32) {n : Nat} (hn : n < 2 ^ 31) : x < 0 ∨ nI n ≤ x ∨ ∃ j : Nat, j < n ∧ x = nI j := by
  by_cases h : x < 0
  · exact Or.inl h
  · obtain ⟨j, hj, rfl⟩ := nI_of h
    by_cases h2 : j < n
    · exact Or.inr (Or.inr ⟨j, h2, rfl⟩)
    · exact Or.inr (Or.inl (nI_le (by omega) hj))
theorem pk_le {x y : Int32} {A B : Prop} (a b : Nat) (f : a ≤ b → A) (g : b < a → B) (hx : x = nI a := by rfl) (hy : y = nI b := by rfl) (ha : a < 2 ^ 31 := by omega) (hb : b < 2 ^ 31 := by omega) : (x ≤ y → A) ∧ (¬ x ≤ y → B) := by
  subst hx hy
  rw [nI_leI ha hb]
  exact ⟨f, fun z => g (by omega)⟩
theorem pk_lt {x y : Int32} {A B : Prop} (a b : Nat) (f : a < b → A) (g : b ≤ a → B) (hx : x = nI a := by rfl) (hy : y = nI b := by rfl) (ha : a < 2 ^ 31 := by omega) (hb : b < 2 ^ 31 := by omega) : (x < y → A) ∧ (¬ x < y → B) := by
  subst hx hy
  rw [nI_ltI ha hb]
  exact ⟨f, fun z => g (by omega)⟩
theorem pk_eq {x y : Int32} {A B : Prop} (a b : Nat) (f : a = b → A) (g : a ≠ b → B) (hx : x = nI a := by rfl) (hy : y = nI b := by rfl) (ha : a < 2 ^ 31 := by omega) (hb : b < 2 ^ 31 := by omega) : (x = y → A) ∧ (¬ x = y → B) := by
  subst hx hy
  rw [nI_eq ha hb]
  exact ⟨f, g⟩
theorem pk_in {x : Int32} (n N : Nat) (h : n < N) (hx : x = nI n := by rfl) (hN : N < 2 ^ 31 := by omega) : vp_in x N := by
  subst hx
  exact vp_in_nI h hN
theorem pk_cl {x : Int32} (n : Nat) (hx : x = nI n := by rfl) (h : n < 2 ^ 31 := by omega) : x.toNatClampNeg = n := by
  subst hx
  exact nI_clamp h
theorem pk_tn {n : Nat} (h : n < 2 ^ 32) : (nI n).toBitVec.toNat = n := Nat.mod_eq_of_lt h
theorem pk_and (x : Int32) {m : Int32} (k : Nat) (hm : m.toBitVec.toNat = 2 ^ k - 1) : x &&& m = nI (x.toBitVec.toNat % 2 ^ k) := by
  apply Int32.toBitVec_inj.mp
  apply BitVec.eq_of_toNat_eq
  rw [Int32.toBitVec_and, BitVec.toNat_and, hm, Nat.and_two_pow_sub_one_eq_mod]
  show _ = (BitVec.ofNat 32 _).toNat
  rw [BitVec.toNat_ofNat]
  exact (Nat.mod_eq_of_lt (Nat.lt_of_le_of_lt (Nat.mod_le _ _) x.toBitVec.isLt)).symm
theorem pk_andN {n : Nat} (h : n < 2 ^ 32) {m : Int32} (k : Nat) (hm : m.toBitVec.toNat = 2 ^ k - 1) : nI n &&& m = nI (n % 2 ^ k) := by
  rw [pk_and _ k hm, pk_tn h]
theorem pk_andE (x : Int32) {m : Int32} (k : Nat) (hm : m.toBitVec.toNat = 2 ^ k - 1) : ∃ j : Nat, j < 2 ^ k ∧ x &&& m = nI j := ⟨_, Nat.mod_lt _ (Nat.two_pow_pos k), pk_and x k hm⟩
theorem pk_andIn (x : Int32) {m : Int32} (k : Nat) (hm : m.toBitVec.toNat = 2 ^ k - 1) (hk : k ≤ 30) : vp_in (x &&& m) (2 ^ k) := by
  obtain ⟨j, hj, e⟩ := pk_andE x k hm
  rw [e]
  exact vp_in_nI hj (Nat.lt_of_le_of_lt (Nat.pow_le_pow_right (by decide) hk) (by decide))
theorem pk_shl (a s : Int32) (k : Nat) (hs : (s.toBitVec.smod 32).toNat = k) : (a <<< s).toBitVec.toNat = a.toBitVec.toNat * 2 ^ k % 2 ^ 32 := by
  show (a.toBitVec <<< (s.toBitVec.smod 32).toNat).toNat = _
  rw [hs, BitVec.toNat_shiftLeft, Nat.shiftLeft_eq]
theorem pk_shlN {n : Nat} (s : Int32) (k : Nat) (hs : (s.toBitVec.smod 32).toNat = k) (h : n * 2 ^ k < 2 ^ 32) : nI n <<< s = nI (n * 2 ^ k) := by
  apply Int32.toBitVec_inj.mp
  apply BitVec.eq_of_toNat_eq
  have hn : n < 2 ^ 32 := Nat.lt_of_le_of_lt (Nat.le_mul_of_pos_right n (Nat.two_pow_pos k)) h
  rw [pk_shl _ _ k hs, pk_tn hn, pk_tn h, Nat.mod_eq_of_lt h]
theorem pk_shr (a s : Int32) (k : Nat) (hs : (s.toBitVec.smod 32).toNat = k) : (a >>> s).toInt = a.toInt >>> k := by
  show (a.toBitVec.sshiftRight (s.toBitVec.smod 32).toNat).toInt = _
  rw [hs, BitVec.toInt_sshiftRight]
  rfl
theorem pk_shrN {n : Nat} (h : n < 2 ^ 31) (s : Int32) (k : Nat) (hs : (s.toBitVec.smod 32).toNat = k) : nI n >>> s = nI (n / 2 ^ k) := by
  apply Int32.toInt_inj.mp
  have h2 : n / 2 ^ k ≤ n := Nat.div_le_self _ _
  rw [pk_shr _ _ k hs, nI_toInt h, nI_toInt (by omega), Int.shiftRight_eq_div_pow]
  rfl
theorem pk_ushr (x s : Int32) (k : Nat) (hs : ((s.toUInt32 &&& Int32.toUInt32 31).toBitVec % 32).toNat = k) : (x.toUInt32 >>> (s.toUInt32 &&& Int32.toUInt32 31)).toInt32.toBitVec.toNat = x.toBitVec.toNat / 2 ^ k := by
  have e : (x.toUInt32 >>> (s.toUInt32 &&& Int32.toUInt32 31)).toInt32.toBitVec = x.toBitVec >>> k := by
    rw [← hs]
    exact UInt32.toBitVec_shiftRight _ _
  rw [e, BitVec.toNat_ushiftRight, Nat.shiftRight_eq_div_pow]
theorem pk_ushrN {n : Nat} (hn : n < 2 ^ 32) (s : Int32) (k : Nat) (hs : ((s.toUInt32 &&& Int32.toUInt32 31).toBitVec % 32).toNat = k) : ((nI n).toUInt32 >>> (s.toUInt32 &&& Int32.toUInt32 31)).toInt32 = nI (n / 2 ^ k) := by
  apply Int32.toBitVec_inj.mp
  apply BitVec.eq_of_toNat_eq
  rw [pk_ushr _ s k hs, pk_tn hn, pk_tn (Nat.lt_of_le_of_lt (Nat.div_le_self _ _) hn)]
theorem pk_nb (z : Int32) : narrow .byte (.int z.toInt8.toInt32) = .int z.toInt8.toInt32 := congrArg Value.int (by simp)
theorem pk_ns (z : Int32) : narrow .short (.int z.toInt16.toInt32) = .int z.toInt16.toInt32 := congrArg Value.int (by simp)
theorem pk_fb (r : Int32) : fits .byte (.int r.toInt8.toInt32) = true := by
  have ⟨a, b⟩ := lg_i2b_range r
  have h1 : (-128 : Int32).toInt = -128 := by decide
  have h2 : (127 : Int32).toInt = 127 := by decide
  simp only [fits, Bool.and_eq_true, decide_eq_true_eq, Int32.le_iff_toInt_le, h1, h2]
  omega
theorem pk_fs (r : Int32) : fits .short (.int r.toInt16.toInt32) = true := by
  have ⟨a, b⟩ := lg_i2s_range r
  have h1 : (-32768 : Int32).toInt = -32768 := by decide
  have h2 : (32767 : Int32).toInt = 32767 := by decide
  simp only [fits, Bool.and_eq_true, decide_eq_true_eq, Int32.le_iff_toInt_le, h1, h2]
  omega
theorem pk_charN {q : Nat} (hq : q < 65536) : narrow .char (.int (nI q)) = .int (nI q) ∧ fits .char (.int (nI q)) = true := by
  constructor
  · have e : (nI q).toUInt32.toUInt16.toUInt32.toInt32 = nI q := by
      apply Int32.toBitVec_inj.mp
      apply BitVec.eq_of_toNat_eq
      show (nI q).toUInt32.toUInt16.toUInt32.toNat = q % 2 ^ 32
      rw [UInt16.toNat_toUInt32, UInt32.toNat_toUInt16, show (nI q).toUInt32.toNat = q % 2 ^ 32 from rfl]
      omega
    exact congrArg Value.int e
  · have a : (0 : Int32) ≤ nI q := nI_pos' (by omega)
    have b : nI q ≤ 65535 := nI_le (b := 65535) (by omega) (by decide)
    show (decide ((0 : Int32) ≤ nI q) && decide (nI q ≤ 65535)) = true
    rw [decide_eq_true a, decide_eq_true b]
    rfl
theorem pk_char (x : Int32) : (x.toUInt32 % 65536).toInt32 = nI (x.toBitVec.toNat % 65536) := by
  apply Int32.toBitVec_inj.mp
  apply BitVec.eq_of_toNat_eq
  rw [pk_tn (by omega)]
  show (x.toUInt32 % 65536).toNat = _
  rw [UInt32.toNat_mod]
  rfl
theorem pk_nc (x : Int32) : narrow .char (.int (x.toUInt32 % 65536).toInt32) = .int (x.toUInt32 % 65536).toInt32 := by
  rw [pk_char]
  exact (pk_charN (Nat.mod_lt _ (by decide))).1
theorem pk_fc (x : Int32) : fits .char (.int (x.toUInt32 % 65536).toInt32) = true := by
  rw [pk_char]
  exact (pk_charN (Nat.mod_lt _ (by decide))).2
theorem pk_vb (z : Int32) : vp_nar .byte z.toInt8.toInt32 = z.toInt8.toInt32 := by rw [vp_nar_byte]; simp
theorem pk_vs (z : Int32) : vp_nar .short z.toInt16.toInt32 = z.toInt16.toInt32 := by rw [vp_nar_short]; simp
theorem pk_vc (z : Int32) : vp_nar .char (z.toUInt32 % 65536).toInt32 = (z.toUInt32 % 65536).toInt32 := Value.int.inj (pk_nc z)
theorem pk_lT {n : Nat} (h : n < 2 ^ 63) : (lN n).toInt = (n : Int) := lg_ofNat_toInt h
theorem pk_lLT {a b : Nat} (ha : a < 2 ^ 63) (hb : b < 2 ^ 63) : lN a < lN b ↔ a < b := by
  rw [Int64.lt_iff_toInt_lt, pk_lT ha, pk_lT hb]; omega
theorem pk_lLE {a b : Nat} (ha : a < 2 ^ 63) (hb : b < 2 ^ 63) : lN a ≤ lN b ↔ a ≤ b := by
  rw [Int64.le_iff_toInt_le, pk_lT ha, pk_lT hb]; omega
theorem pk_lEQ {a b : Nat} (ha : a < 2 ^ 63) (hb : b < 2 ^ 63) : lN a = lN b ↔ a = b := by
  rw [← Int64.toInt_inj, pk_lT ha, pk_lT hb]; omega
theorem pk_lOf {x : Int64} (h : ¬ x < 0) : ∃ k : Nat, k < 2 ^ 63 ∧ x = lN k := by
  rw [Int64.lt_iff_toInt_lt] at h
  have h0 : (0 : Int64).toInt = 0 := by decide
  have hx := Int64.toInt_lt x
  refine ⟨x.toInt.toNat, by omega, Int64.toInt_inj.mp ?_⟩
  rw [pk_lT (by omega)]
  omega
theorem pk_lDiv {a b : Nat} (ha : a < 2 ^ 63) (h0 : 0 < b) (hb : b < 2 ^ 63) : lN a / lN b = lN (a / b) := by
  apply Int64.toInt_inj.mp
  rw [lg_ldiv_nonneg (by rw [pk_lT ha]; omega) (by rw [pk_lT hb]; omega), pk_lT ha, pk_lT hb, pk_lT (Nat.lt_of_le_of_lt (Nat.div_le_self a b) ha)]
  rfl
theorem pk_lRem {a b : Nat} (ha : a < 2 ^ 63) (h0 : 0 < b) (hb : b < 2 ^ 63) : lN a - lN a / lN b * lN b = lN (a % b) := by
  rw [pk_lDiv ha h0 hb, lN_mul, lN_sub (Nat.div_mul_le_self a b)]
  exact congrArg lN (by have := Nat.div_add_mod' a b; omega)
theorem pk_loop {σ : Type} (W : Nat → Nat → σ → Prop) (I : Nat → σ → Prop) (e i0 : Nat) (s : σ) (hi : i0 ≤ e) (h0 : I i0 s) (hx : ∀ n s, I e s → W (n + 1) e s)
    (hs : ∀ n i s, i < e → I i s → (∀ s', I (i + 1) s' → W n (i + 1) s') → W (n + 1) i s) : ∃ n, W n i0 s :=
  ⟨e + 1, loop_i W I e hx hs (e + 1) i0 s hi (by omega) h0⟩
theorem pk_loopD {σ : Type} (W : Nat → Nat → σ → Prop) (I : Nat → σ → Prop) (hx : ∀ n s, I 0 s → W (n + 1) 0 s)
    (hs : ∀ n i s, I (i + 1) s → (∀ s', I i s' → W n i s') → W (n + 1) (i + 1) s) : ∀ (e : Nat) (s : σ), I e s → W (e + 1) e s := by
  intro e
  induction e with
  | zero => exact fun s h => hx 0 s h
  | succ e ih => exact fun s h => hs (e + 1) e s h (fun s' h' => ih s' h')
theorem lp1 {A1 : Type} (W : Nat → A1 → Prop) (I : A1 → Prop) (μ : A1 → Nat) (hs : ∀ (n : Nat) (a1 : A1), I a1 → (∀ (b1 : A1), I b1 → μ b1 < μ a1 → W n b1) → W (n + 1) a1) (a1 : A1) (h : I a1) : ∃ n, W n a1 :=
  loop_m (σ := A1) (fun n s => W n s) (fun s => I s) (fun s => μ s) (fun n s hI hk => hs n s hI (fun b1 h9 hm => hk b1 h9 hm)) a1 h
theorem lp2 {A1 A2 : Type} (W : Nat → A1 → A2 → Prop) (I : A1 → A2 → Prop) (μ : A1 → A2 → Nat) (hs : ∀ (n : Nat) (a1 : A1) (a2 : A2), I a1 a2 → (∀ (b1 : A1) (b2 : A2), I b1 b2 → μ b1 b2 < μ a1 a2 → W n b1 b2) → W (n + 1) a1 a2) (a1 : A1) (a2 : A2) (h : I a1 a2) : ∃ n, W n a1 a2 :=
  loop_m (σ := A1 × A2) (fun n s => W n s.1 s.2) (fun s => I s.1 s.2) (fun s => μ s.1 s.2) (fun n s hI hk => hs n s.1 s.2 hI (fun b1 b2 h9 hm => hk (b1, b2) h9 hm)) (a1, a2) h
theorem lp3 {A1 A2 A3 : Type} (W : Nat → A1 → A2 → A3 → Prop) (I : A1 → A2 → A3 → Prop) (μ : A1 → A2 → A3 → Nat) (hs : ∀ (n : Nat) (a1 : A1) (a2 : A2) (a3 : A3), I a1 a2 a3 → (∀ (b1 : A1) (b2 : A2) (b3 : A3), I b1 b2 b3 → μ b1 b2 b3 < μ a1 a2 a3 → W n b1 b2 b3) → W (n + 1) a1 a2 a3) (a1 : A1) (a2 : A2) (a3 : A3) (h : I a1 a2 a3) : ∃ n, W n a1 a2 a3 :=
  loop_m (σ := A1 × A2 × A3) (fun n s => W n s.1 s.2.1 s.2.2) (fun s => I s.1 s.2.1 s.2.2) (fun s => μ s.1 s.2.1 s.2.2) (fun n s hI hk => hs n s.1 s.2.1 s.2.2 hI (fun b1 b2 b3 h9 hm => hk (b1, b2, b3) h9 hm)) (a1, a2, a3) h
theorem lp4 {A1 A2 A3 A4 : Type} (W : Nat → A1 → A2 → A3 → A4 → Prop) (I : A1 → A2 → A3 → A4 → Prop) (μ : A1 → A2 → A3 → A4 → Nat) (hs : ∀ (n : Nat) (a1 : A1) (a2 : A2) (a3 : A3) (a4 : A4), I a1 a2 a3 a4 → (∀ (b1 : A1) (b2 : A2) (b3 : A3) (b4 : A4), I b1 b2 b3 b4 → μ b1 b2 b3 b4 < μ a1 a2 a3 a4 → W n b1 b2 b3 b4) → W (n + 1) a1 a2 a3 a4) (a1 : A1) (a2 : A2) (a3 : A3) (a4 : A4) (h : I a1 a2 a3 a4) : ∃ n, W n a1 a2 a3 a4 :=
  loop_m (σ := A1 × A2 × A3 × A4) (fun n s => W n s.1 s.2.1 s.2.2.1 s.2.2.2) (fun s => I s.1 s.2.1 s.2.2.1 s.2.2.2) (fun s => μ s.1 s.2.1 s.2.2.1 s.2.2.2) (fun n s hI hk => hs n s.1 s.2.1 s.2.2.1 s.2.2.2 hI (fun b1 b2 b3 b4 h9 hm => hk (b1, b2, b3, b4) h9 hm)) (a1, a2, a3, a4) h
theorem lp5 {A1 A2 A3 A4 A5 : Type} (W : Nat → A1 → A2 → A3 → A4 → A5 → Prop) (I : A1 → A2 → A3 → A4 → A5 → Prop) (μ : A1 → A2 → A3 → A4 → A5 → Nat) (hs : ∀ (n : Nat) (a1 : A1) (a2 : A2) (a3 : A3) (a4 : A4) (a5 : A5), I a1 a2 a3 a4 a5 → (∀ (b1 : A1) (b2 : A2) (b3 : A3) (b4 : A4) (b5 : A5), I b1 b2 b3 b4 b5 → μ b1 b2 b3 b4 b5 < μ a1 a2 a3 a4 a5 → W n b1 b2 b3 b4 b5) → W (n + 1) a1 a2 a3 a4 a5) (a1 : A1) (a2 : A2) (a3 : A3) (a4 : A4) (a5 : A5) (h : I a1 a2 a3 a4 a5) : ∃ n, W n a1 a2 a3 a4 a5 :=
  loop_m (σ := A1 × A2 × A3 × A4 × A5) (fun n s => W n s.1 s.2.1 s.2.2.1 s.2.2.2.1 s.2.2.2.2) (fun s => I s.1 s.2.1 s.2.2.1 s.2.2.2.1 s.2.2.2.2) (fun s => μ s.1 s.2.1 s.2.2.1 s.2.2.2.1 s.2.2.2.2) (fun n s hI hk => hs n s.1 s.2.1 s.2.2.1 s.2.2.2.1 s.2.2.2.2 hI (fun b1 b2 b3 b4 b5 h9 hm => hk (b1, b2, b3, b4, b5) h9 hm)) (a1, a2, a3, a4, a5) h
theorem lp6 {A1 A2 A3 A4 A5 A6 : Type} (W : Nat → A1 → A2 → A3 → A4 → A5 → A6 → Prop) (I : A1 → A2 → A3 → A4 → A5 → A6 → Prop) (μ : A1 → A2 → A3 → A4 → A5 → A6 → Nat) (hs : ∀ (n : Nat) (a1 : A1) (a2 : A2) (a3 : A3) (a4 : A4) (a5 : A5) (a6 : A6), I a1 a2 a3 a4 a5 a6 → (∀ (b1 : A1) (b2 : A2) (b3 : A3) (b4 : A4) (b5 : A5) (b6 : A6), I b1 b2 b3 b4 b5 b6 → μ b1 b2 b3 b4 b5 b6 < μ a1 a2 a3 a4 a5 a6 → W n b1 b2 b3 b4 b5 b6) → W (n + 1) a1 a2 a3 a4 a5 a6) (a1 : A1) (a2 : A2) (a3 : A3) (a4 : A4) (a5 : A5) (a6 : A6) (h : I a1 a2 a3 a4 a5 a6) : ∃ n, W n a1 a2 a3 a4 a5 a6 :=
  loop_m (σ := A1 × A2 × A3 × A4 × A5 × A6) (fun n s => W n s.1 s.2.1 s.2.2.1 s.2.2.2.1 s.2.2.2.2.1 s.2.2.2.2.2) (fun s => I s.1 s.2.1 s.2.2.1 s.2.2.2.1 s.2.2.2.2.1 s.2.2.2.2.2) (fun s => μ s.1 s.2.1 s.2.2.1 s.2.2.2.1 s.2.2.2.2.1 s.2.2.2.2.2) (fun n s hI hk => hs n s.1 s.2.1 s.2.2.1 s.2.2.2.1 s.2.2.2.2.1 s.2.2.2.2.2 hI (fun b1 b2 b3 b4 b5 b6 h9 hm => hk (b1, b2, b3, b4, b5, b6) h9 hm)) (a1, a2, a3, a4, a5, a6) h
theorem lp7 {A1 A2 A3 A4 A5 A6 A7 : Type} (W : Nat → A1 → A2 → A3 → A4 → A5 → A6 → A7 → Prop) (I : A1 → A2 → A3 → A4 → A5 → A6 → A7 → Prop) (μ : A1 → A2 → A3 → A4 → A5 → A6 → A7 → Nat) (hs : ∀ (n : Nat) (a1 : A1) (a2 : A2) (a3 : A3) (a4 : A4) (a5 : A5) (a6 : A6) (a7 : A7), I a1 a2 a3 a4 a5 a6 a7 → (∀ (b1 : A1) (b2 : A2) (b3 : A3) (b4 : A4) (b5 : A5) (b6 : A6) (b7 : A7), I b1 b2 b3 b4 b5 b6 b7 → μ b1 b2 b3 b4 b5 b6 b7 < μ a1 a2 a3 a4 a5 a6 a7 → W n b1 b2 b3 b4 b5 b6 b7) → W (n + 1) a1 a2 a3 a4 a5 a6 a7) (a1 : A1) (a2 : A2) (a3 : A3) (a4 : A4) (a5 : A5) (a6 : A6) (a7 : A7) (h : I a1 a2 a3 a4 a5 a6 a7) : ∃ n, W n a1 a2 a3 a4 a5 a6 a7 :=
  loop_m (σ := A1 × A2 × A3 × A4 × A5 × A6 × A7) (fun n s => W n s.1 s.2.1 s.2.2.1 s.2.2.2.1 s.2.2.2.2.1 s.2.2.2.2.2.1 s.2.2.2.2.2.2) (fun s => I s.1 s.2.1 s.2.2.1 s.2.2.2.1 s.2.2.2.2.1 s.2.2.2.2.2.1 s.2.2.2.2.2.2) (fun s => μ s.1 s.2.1 s.2.2.1 s.2.2.2.1 s.2.2.2.2.1 s.2.2.2.2.2.1 s.2.2.2.2.2.2) (fun n s hI hk => hs n s.1 s.2.1 s.2.2.1 s.2.2.2.1 s.2.2.2.2.1 s.2.2.2.2.2.1 s.2.2.2.2.2.2 hI (fun b1 b2 b3 b4 b5 b6 b7 h9 hm => hk (b1, b2, b3, b4, b5, b6, b7) h9 hm)) (a1, a2, a3, a4, a5, a6, a7) h
theorem lp8 {A1 A2 A3 A4 A5 A6 A7 A8 : Type} (W : Nat → A1 → A2 → A3 → A4 → A5 → A6 → A7 → A8 → Prop) (I : A1 → A2 → A3 → A4 → A5 → A6 → A7 → A8 → Prop) (μ : A1 → A2 → A3 → A4 → A5 → A6 → A7 → A8 → Nat) (hs : ∀ (n : Nat) (a1 : A1) (a2 : A2) (a3 : A3) (a4 : A4) (a5 : A5) (a6 : A6) (a7 : A7) (a8 : A8), I a1 a2 a3 a4 a5 a6 a7 a8 → (∀ (b1 : A1) (b2 : A2) (b3 : A3) (b4 : A4) (b5 : A5) (b6 : A6) (b7 : A7) (b8 : A8), I b1 b2 b3 b4 b5 b6 b7 b8 → μ b1 b2 b3 b4 b5 b6 b7 b8 < μ a1 a2 a3 a4 a5 a6 a7 a8 → W n b1 b2 b3 b4 b5 b6 b7 b8) → W (n + 1) a1 a2 a3 a4 a5 a6 a7 a8) (a1 : A1) (a2 : A2) (a3 : A3) (a4 : A4) (a5 : A5) (a6 : A6) (a7 : A7) (a8 : A8) (h : I a1 a2 a3 a4 a5 a6 a7 a8) : ∃ n, W n a1 a2 a3 a4 a5 a6 a7 a8 :=
  loop_m (σ := A1 × A2 × A3 × A4 × A5 × A6 × A7 × A8) (fun n s => W n s.1 s.2.1 s.2.2.1 s.2.2.2.1 s.2.2.2.2.1 s.2.2.2.2.2.1 s.2.2.2.2.2.2.1 s.2.2.2.2.2.2.2) (fun s => I s.1 s.2.1 s.2.2.1 s.2.2.2.1 s.2.2.2.2.1 s.2.2.2.2.2.1 s.2.2.2.2.2.2.1 s.2.2.2.2.2.2.2) (fun s => μ s.1 s.2.1 s.2.2.1 s.2.2.2.1 s.2.2.2.2.1 s.2.2.2.2.2.1 s.2.2.2.2.2.2.1 s.2.2.2.2.2.2.2) (fun n s hI hk => hs n s.1 s.2.1 s.2.2.1 s.2.2.2.1 s.2.2.2.2.1 s.2.2.2.2.2.1 s.2.2.2.2.2.2.1 s.2.2.2.2.2.2.2 hI (fun b1 b2 b3 b4 b5 b6 b7 b8 h9 hm => hk (b1, b2, b3, b4, b5, b6, b7, b8) h9 hm)) (a1, a2, a3, a4, a5, a6, a7, a8) h
theorem lp9 {A1 A2 A3 A4 A5 A6 A7 A8 A9 : Type} (W : Nat → A1 → A2 → A3 → A4 → A5 → A6 → A7 → A8 → A9 → Prop) (I : A1 → A2 → A3 → A4 → A5 → A6 → A7 → A8 → A9 → Prop) (μ : A1 → A2 → A3 → A4 → A5 → A6 → A7 → A8 → A9 → Nat) (hs : ∀ (n : Nat) (a1 : A1) (a2 : A2) (a3 : A3) (a4 : A4) (a5 : A5) (a6 : A6) (a7 : A7) (a8 : A8) (a9 : A9), I a1 a2 a3 a4 a5 a6 a7 a8 a9 → (∀ (b1 : A1) (b2 : A2) (b3 : A3) (b4 : A4) (b5 : A5) (b6 : A6) (b7 : A7) (b8 : A8) (b9 : A9), I b1 b2 b3 b4 b5 b6 b7 b8 b9 → μ b1 b2 b3 b4 b5 b6 b7 b8 b9 < μ a1 a2 a3 a4 a5 a6 a7 a8 a9 → W n b1 b2 b3 b4 b5 b6 b7 b8 b9) → W (n + 1) a1 a2 a3 a4 a5 a6 a7 a8 a9) (a1 : A1) (a2 : A2) (a3 : A3) (a4 : A4) (a5 : A5) (a6 : A6) (a7 : A7) (a8 : A8) (a9 : A9) (h : I a1 a2 a3 a4 a5 a6 a7 a8 a9) : ∃ n, W n a1 a2 a3 a4 a5 a6 a7 a8 a9 :=
  loop_m (σ := A1 × A2 × A3 × A4 × A5 × A6 × A7 × A8 × A9) (fun n s => W n s.1 s.2.1 s.2.2.1 s.2.2.2.1 s.2.2.2.2.1 s.2.2.2.2.2.1 s.2.2.2.2.2.2.1 s.2.2.2.2.2.2.2.1 s.2.2.2.2.2.2.2.2) (fun s => I s.1 s.2.1 s.2.2.1 s.2.2.2.1 s.2.2.2.2.1 s.2.2.2.2.2.1 s.2.2.2.2.2.2.1 s.2.2.2.2.2.2.2.1 s.2.2.2.2.2.2.2.2) (fun s => μ s.1 s.2.1 s.2.2.1 s.2.2.2.1 s.2.2.2.2.1 s.2.2.2.2.2.1 s.2.2.2.2.2.2.1 s.2.2.2.2.2.2.2.1 s.2.2.2.2.2.2.2.2) (fun n s hI hk => hs n s.1 s.2.1 s.2.2.1 s.2.2.2.1 s.2.2.2.2.1 s.2.2.2.2.2.1 s.2.2.2.2.2.2.1 s.2.2.2.2.2.2.2.1 s.2.2.2.2.2.2.2.2 hI (fun b1 b2 b3 b4 b5 b6 b7 b8 b9 h9 hm => hk (b1, b2, b3, b4, b5, b6, b7, b8, b9) h9 hm)) (a1, a2, a3, a4, a5, a6, a7, a8, a9) h
theorem lp10 {A1 A2 A3 A4 A5 A6 A7 A8 A9 A10 : Type} (W : Nat → A1 → A2 → A3 → A4 → A5 → A6 → A7 → A8 → A9 → A10 → Prop) (I : A1 → A2 → A3 → A4 → A5 → A6 → A7 → A8 → A9 → A10 → Prop) (μ : A1 → A2 → A3 → A4 → A5 → A6 → A7 → A8 → A9 → A10 → Nat) (hs : ∀ (n : Nat) (a1 : A1) (a2 : A2) (a3 : A3) (a4 : A4) (a5 : A5) (a6 : A6) (a7 : A7) (a8 : A8) (a9 : A9) (a10 : A10), I a1 a2 a3 a4 a5 a6 a7 a8 a9 a10 → (∀ (b1 : A1) (b2 : A2) (b3 : A3) (b4 : A4) (b5 : A5) (b6 : A6) (b7 : A7) (b8 : A8) (b9 : A9) (b10 : A10), I b1 b2 b3 b4 b5 b6 b7 b8 b9 b10 → μ b1 b2 b3 b4 b5 b6 b7 b8 b9 b10 < μ a1 a2 a3 a4 a5 a6 a7 a8 a9 a10 → W n b1 b2 b3 b4 b5 b6 b7 b8 b9 b10) → W (n + 1) a1 a2 a3 a4 a5 a6 a7 a8 a9 a10) (a1 : A1) (a2 : A2) (a3 : A3) (a4 : A4) (a5 : A5) (a6 : A6) (a7 : A7) (a8 : A8) (a9 : A9) (a10 : A10) (h : I a1 a2 a3 a4 a5 a6 a7 a8 a9 a10) : ∃ n, W n a1 a2 a3 a4 a5 a6 a7 a8 a9 a10 :=
  loop_m (σ := A1 × A2 × A3 × A4 × A5 × A6 × A7 × A8 × A9 × A10) (fun n s => W n s.1 s.2.1 s.2.2.1 s.2.2.2.1 s.2.2.2.2.1 s.2.2.2.2.2.1 s.2.2.2.2.2.2.1 s.2.2.2.2.2.2.2.1 s.2.2.2.2.2.2.2.2.1 s.2.2.2.2.2.2.2.2.2) (fun s => I s.1 s.2.1 s.2.2.1 s.2.2.2.1 s.2.2.2.2.1 s.2.2.2.2.2.1 s.2.2.2.2.2.2.1 s.2.2.2.2.2.2.2.1 s.2.2.2.2.2.2.2.2.1 s.2.2.2.2.2.2.2.2.2) (fun s => μ s.1 s.2.1 s.2.2.1 s.2.2.2.1 s.2.2.2.2.1 s.2.2.2.2.2.1 s.2.2.2.2.2.2.1 s.2.2.2.2.2.2.2.1 s.2.2.2.2.2.2.2.2.1 s.2.2.2.2.2.2.2.2.2) (fun n s hI hk => hs n s.1 s.2.1 s.2.2.1 s.2.2.2.1 s.2.2.2.2.1 s.2.2.2.2.2.1 s.2.2.2.2.2.2.1 s.2.2.2.2.2.2.2.1 s.2.2.2.2.2.2.2.2.1 s.2.2.2.2.2.2.2.2.2 hI (fun b1 b2 b3 b4 b5 b6 b7 b8 b9 b10 h9 hm => hk (b1, b2, b3, b4, b5, b6, b7, b8, b9, b10) h9 hm)) (a1, a2, a3, a4, a5, a6, a7, a8, a9, a10) h
theorem lp11 {A1 A2 A3 A4 A5 A6 A7 A8 A9 A10 A11 : Type} (W : Nat → A1 → A2 → A3 → A4 → A5 → A6 → A7 → A8 → A9 → A10 → A11 → Prop) (I : A1 → A2 → A3 → A4 → A5 → A6 → A7 → A8 → A9 → A10 → A11 → Prop) (μ : A1 → A2 → A3 → A4 → A5 → A6 → A7 → A8 → A9 → A10 → A11 → Nat) (hs : ∀ (n : Nat) (a1 : A1) (a2 : A2) (a3 : A3) (a4 : A4) (a5 : A5) (a6 : A6) (a7 : A7) (a8 : A8) (a9 : A9) (a10 : A10) (a11 : A11), I a1 a2 a3 a4 a5 a6 a7 a8 a9 a10 a11 → (∀ (b1 : A1) (b2 : A2) (b3 : A3) (b4 : A4) (b5 : A5) (b6 : A6) (b7 : A7) (b8 : A8) (b9 : A9) (b10 : A10) (b11 : A11), I b1 b2 b3 b4 b5 b6 b7 b8 b9 b10 b11 → μ b1 b2 b3 b4 b5 b6 b7 b8 b9 b10 b11 < μ a1 a2 a3 a4 a5 a6 a7 a8 a9 a10 a11 → W n b1 b2 b3 b4 b5 b6 b7 b8 b9 b10 b11) → W (n + 1) a1 a2 a3 a4 a5 a6 a7 a8 a9 a10 a11) (a1 : A1) (a2 : A2) (a3 : A3) (a4 : A4) (a5 : A5) (a6 : A6) (a7 : A7) (a8 : A8) (a9 : A9) (a10 : A10) (a11 : A11) (h : I a1 a2 a3 a4 a5 a6 a7 a8 a9 a10 a11) : ∃ n, W n a1 a2 a3 a4 a5 a6 a7 a8 a9 a10 a11 :=
  loop_m (σ := A1 × A2 × A3 × A4 × A5 × A6 × A7 × A8 × A9 × A10 × A11) (fun n s => W n s.1 s.2.1 s.2.2.1 s.2.2.2.1 s.2.2.2.2.1 s.2.2.2.2.2.1 s.2.2.2.2.2.2.1 s.2.2.2.2.2.2.2.1 s.2.2.2.2.2.2.2.2.1 s.2.2.2.2.2.2.2.2.2.1 s.2.2.2.2.2.2.2.2.2.2) (fun s => I s.1 s.2.1 s.2.2.1 s.2.2.2.1 s.2.2.2.2.1 s.2.2.2.2.2.1 s.2.2.2.2.2.2.1 s.2.2.2.2.2.2.2.1 s.2.2.2.2.2.2.2.2.1 s.2.2.2.2.2.2.2.2.2.1 s.2.2.2.2.2.2.2.2.2.2) (fun s => μ s.1 s.2.1 s.2.2.1 s.2.2.2.1 s.2.2.2.2.1 s.2.2.2.2.2.1 s.2.2.2.2.2.2.1 s.2.2.2.2.2.2.2.1 s.2.2.2.2.2.2.2.2.1 s.2.2.2.2.2.2.2.2.2.1 s.2.2.2.2.2.2.2.2.2.2) (fun n s hI hk => hs n s.1 s.2.1 s.2.2.1 s.2.2.2.1 s.2.2.2.2.1 s.2.2.2.2.2.1 s.2.2.2.2.2.2.1 s.2.2.2.2.2.2.2.1 s.2.2.2.2.2.2.2.2.1 s.2.2.2.2.2.2.2.2.2.1 s.2.2.2.2.2.2.2.2.2.2 hI (fun b1 b2 b3 b4 b5 b6 b7 b8 b9 b10 b11 h9 hm => hk (b1, b2, b3, b4, b5, b6, b7, b8, b9, b10, b11) h9 hm)) (a1, a2, a3, a4, a5, a6, a7, a8, a9, a10, a11) h
theorem lp12 {A1 A2 A3 A4 A5 A6 A7 A8 A9 A10 A11 A12 : Type} (W : Nat → A1 → A2 → A3 → A4 → A5 → A6 → A7 → A8 → A9 → A10 → A11 → A12 → Prop) (I : A1 → A2 → A3 → A4 → A5 → A6 → A7 → A8 → A9 → A10 → A11 → A12 → Prop) (μ : A1 → A2 → A3 → A4 → A5 → A6 → A7 → A8 → A9 → A10 → A11 → A12 → Nat) (hs : ∀ (n : Nat) (a1 : A1) (a2 : A2) (a3 : A3) (a4 : A4) (a5 : A5) (a6 : A6) (a7 : A7) (a8 : A8) (a9 : A9) (a10 : A10) (a11 : A11) (a12 : A12), I a1 a2 a3 a4 a5 a6 a7 a8 a9 a10 a11 a12 → (∀ (b1 : A1) (b2 : A2) (b3 : A3) (b4 : A4) (b5 : A5) (b6 : A6) (b7 : A7) (b8 : A8) (b9 : A9) (b10 : A10) (b11 : A11) (b12 : A12), I b1 b2 b3 b4 b5 b6 b7 b8 b9 b10 b11 b12 → μ b1 b2 b3 b4 b5 b6 b7 b8 b9 b10 b11 b12 < μ a1 a2 a3 a4 a5 a6 a7 a8 a9 a10 a11 a12 → W n b1 b2 b3 b4 b5 b6 b7 b8 b9 b10 b11 b12) → W (n + 1) a1 a2 a3 a4 a5 a6 a7 a8 a9 a10 a11 a12) (a1 : A1) (a2 : A2) (a3 : A3) (a4 : A4) (a5 : A5) (a6 : A6) (a7 : A7) (a8 : A8) (a9 : A9) (a10 : A10) (a11 : A11) (a12 : A12) (h : I a1 a2 a3 a4 a5 a6 a7 a8 a9 a10 a11 a12) : ∃ n, W n a1 a2 a3 a4 a5 a6 a7 a8 a9 a10 a11 a12 :=
  loop_m (σ := A1 × A2 × A3 × A4 × A5 × A6 × A7 × A8 × A9 × A10 × A11 × A12) (fun n s => W n s.1 s.2.1 s.2.2.1 s.2.2.2.1 s.2.2.2.2.1 s.2.2.2.2.2.1 s.2.2.2.2.2.2.1 s.2.2.2.2.2.2.2.1 s.2.2.2.2.2.2.2.2.1 s.2.2.2.2.2.2.2.2.2.1 s.2.2.2.2.2.2.2.2.2.2.1 s.2.2.2.2.2.2.2.2.2.2.2) (fun s => I s.1 s.2.1 s.2.2.1 s.2.2.2.1 s.2.2.2.2.1 s.2.2.2.2.2.1 s.2.2.2.2.2.2.1 s.2.2.2.2.2.2.2.1 s.2.2.2.2.2.2.2.2.1 s.2.2.2.2.2.2.2.2.2.1 s.2.2.2.2.2.2.2.2.2.2.1 s.2.2.2.2.2.2.2.2.2.2.2) (fun s => μ s.1 s.2.1 s.2.2.1 s.2.2.2.1 s.2.2.2.2.1 s.2.2.2.2.2.1 s.2.2.2.2.2.2.1 s.2.2.2.2.2.2.2.1 s.2.2.2.2.2.2.2.2.1 s.2.2.2.2.2.2.2.2.2.1 s.2.2.2.2.2.2.2.2.2.2.1 s.2.2.2.2.2.2.2.2.2.2.2) (fun n s hI hk => hs n s.1 s.2.1 s.2.2.1 s.2.2.2.1 s.2.2.2.2.1 s.2.2.2.2.2.1 s.2.2.2.2.2.2.1 s.2.2.2.2.2.2.2.1 s.2.2.2.2.2.2.2.2.1 s.2.2.2.2.2.2.2.2.2.1 s.2.2.2.2.2.2.2.2.2.2.1 s.2.2.2.2.2.2.2.2.2.2.2 hI (fun b1 b2 b3 b4 b5 b6 b7 b8 b9 b10 b11 b12 h9 hm => hk (b1, b2, b3, b4, b5, b6, b7, b8, b9, b10, b11, b12) h9 hm)) (a1, a2, a3, a4, a5, a6, a7, a8, a9, a10, a11, a12) h
theorem lp13 {A1 A2 A3 A4 A5 A6 A7 A8 A9 A10 A11 A12 A13 : Type} (W : Nat → A1 → A2 → A3 → A4 → A5 → A6 → A7 → A8 → A9 → A10 → A11 → A12 → A13 → Prop) (I : A1 → A2 → A3 → A4 → A5 → A6 → A7 → A8 → A9 → A10 → A11 → A12 → A13 → Prop) (μ : A1 → A2 → A3 → A4 → A5 → A6 → A7 → A8 → A9 → A10 → A11 → A12 → A13 → Nat) (hs : ∀ (n : Nat) (a1 : A1) (a2 : A2) (a3 : A3) (a4 : A4) (a5 : A5) (a6 : A6) (a7 : A7) (a8 : A8) (a9 : A9) (a10 : A10) (a11 : A11) (a12 : A12) (a13 : A13), I a1 a2 a3 a4 a5 a6 a7 a8 a9 a10 a11 a12 a13 → (∀ (b1 : A1) (b2 : A2) (b3 : A3) (b4 : A4) (b5 : A5) (b6 : A6) (b7 : A7) (b8 : A8) (b9 : A9) (b10 : A10) (b11 : A11) (b12 : A12) (b13 : A13), I b1 b2 b3 b4 b5 b6 b7 b8 b9 b10 b11 b12 b13 → μ b1 b2 b3 b4 b5 b6 b7 b8 b9 b10 b11 b12 b13 < μ a1 a2 a3 a4 a5 a6 a7 a8 a9 a10 a11 a12 a13 → W n b1 b2 b3 b4 b5 b6 b7 b8 b9 b10 b11 b12 b13) → W (n + 1) a1 a2 a3 a4 a5 a6 a7 a8 a9 a10 a11 a12 a13) (a1 : A1) (a2 : A2) (a3 : A3) (a4 : A4) (a5 : A5) (a6 : A6) (a7 : A7) (a8 : A8) (a9 : A9) (a10 : A10) (a11 : A11) (a12 : A12) (a13 : A13) (h : I a1 a2 a3 a4 a5 a6 a7 a8 a9 a10 a11 a12 a13) : ∃ n, W n a1 a2 a3 a4 a5 a6 a7 a8 a9 a10 a11 a12 a13 :=
  loop_m (σ := A1 × A2 × A3 × A4 × A5 × A6 × A7 × A8 × A9 × A10 × A11 × A12 × A13) (fun n s => W n s.1 s.2.1 s.2.2.1 s.2.2.2.1 s.2.2.2.2.1 s.2.2.2.2.2.1 s.2.2.2.2.2.2.1 s.2.2.2.2.2.2.2.1 s.2.2.2.2.2.2.2.2.1 s.2.2.2.2.2.2.2.2.2.1 s.2.2.2.2.2.2.2.2.2.2.1 s.2.2.2.2.2.2.2.2.2.2.2.1 s.2.2.2.2.2.2.2.2.2.2.2.2) (fun s => I s.1 s.2.1 s.2.2.1 s.2.2.2.1 s.2.2.2.2.1 s.2.2.2.2.2.1 s.2.2.2.2.2.2.1 s.2.2.2.2.2.2.2.1 s.2.2.2.2.2.2.2.2.1 s.2.2.2.2.2.2.2.2.2.1 s.2.2.2.2.2.2.2.2.2.2.1 s.2.2.2.2.2.2.2.2.2.2.2.1 s.2.2.2.2.2.2.2.2.2.2.2.2) (fun s => μ s.1 s.2.1 s.2.2.1 s.2.2.2.1 s.2.2.2.2.1 s.2.2.2.2.2.1 s.2.2.2.2.2.2.1 s.2.2.2.2.2.2.2.1 s.2.2.2.2.2.2.2.2.1 s.2.2.2.2.2.2.2.2.2.1 s.2.2.2.2.2.2.2.2.2.2.1 s.2.2.2.2.2.2.2.2.2.2.2.1 s.2.2.2.2.2.2.2.2.2.2.2.2) (fun n s hI hk => hs n s.1 s.2.1 s.2.2.1 s.2.2.2.1 s.2.2.2.2.1 s.2.2.2.2.2.1 s.2.2.2.2.2.2.1 s.2.2.2.2.2.2.2.1 s.2.2.2.2.2.2.2.2.1 s.2.2.2.2.2.2.2.2.2.1 s.2.2.2.2.2.2.2.2.2.2.1 s.2.2.2.2.2.2.2.2.2.2.2.1 s.2.2.2.2.2.2.2.2.2.2.2.2 hI (fun b1 b2 b3 b4 b5 b6 b7 b8 b9 b10 b11 b12 b13 h9 hm => hk (b1, b2, b3, b4, b5, b6, b7, b8, b9, b10, b11, b12, b13) h9 hm)) (a1, a2, a3, a4, a5, a6, a7, a8, a9, a10, a11, a12, a13) h
theorem lp14 {A1 A2 A3 A4 A5 A6 A7 A8 A9 A10 A11 A12 A13 A14 : Type} (W : Nat → A1 → A2 → A3 → A4 → A5 → A6 → A7 → A8 → A9 → A10 → A11 → A12 → A13 → A14 → Prop) (I : A1 → A2 → A3 → A4 → A5 → A6 → A7 → A8 → A9 → A10 → A11 → A12 → A13 → A14 → Prop) (μ : A1 → A2 → A3 → A4 → A5 → A6 → A7 → A8 → A9 → A10 → A11 → A12 → A13 → A14 → Nat) (hs : ∀ (n : Nat) (a1 : A1) (a2 : A2) (a3 : A3) (a4 : A4) (a5 : A5) (a6 : A6) (a7 : A7) (a8 : A8) (a9 : A9) (a10 : A10) (a11 : A11) (a12 : A12) (a13 : A13) (a14 : A14), I a1 a2 a3 a4 a5 a6 a7 a8 a9 a10 a11 a12 a13 a14 → (∀ (b1 : A1) (b2 : A2) (b3 : A3) (b4 : A4) (b5 : A5) (b6 : A6) (b7 : A7) (b8 : A8) (b9 : A9) (b10 : A10) (b11 : A11) (b12 : A12) (b13 : A13) (b14 : A14), I b1 b2 b3 b4 b5 b6 b7 b8 b9 b10 b11 b12 b13 b14 → μ b1 b2 b3 b4 b5 b6 b7 b8 b9 b10 b11 b12 b13 b14 < μ a1 a2 a3 a4 a5 a6 a7 a8 a9 a10 a11 a12 a13 a14 → W n b1 b2 b3 b4 b5 b6 b7 b8 b9 b10 b11 b12 b13 b14) → W (n + 1) a1 a2 a3 a4 a5 a6 a7 a8 a9 a10 a11 a12 a13 a14) (a1 : A1) (a2 : A2) (a3 : A3) (a4 : A4) (a5 : A5) (a6 : A6) (a7 : A7) (a8 : A8) (a9 : A9) (a10 : A10) (a11 : A11) (a12 : A12) (a13 : A13) (a14 : A14) (h : I a1 a2 a3 a4 a5 a6 a7 a8 a9 a10 a11 a12 a13 a14) : ∃ n, W n a1 a2 a3 a4 a5 a6 a7 a8 a9 a10 a11 a12 a13 a14 :=
  loop_m (σ := A1 × A2 × A3 × A4 × A5 × A6 × A7 × A8 × A9 × A10 × A11 × A12 × A13 × A14) (fun n s => W n s.1 s.2.1 s.2.2.1 s.2.2.2.1 s.2.2.2.2.1 s.2.2.2.2.2.1 s.2.2.2.2.2.2.1 s.2.2.2.2.2.2.2.1 s.2.2.2.2.2.2.2.2.1 s.2.2.2.2.2.2.2.2.2.1 s.2.2.2.2.2.2.2.2.2.2.1 s.2.2.2.2.2.2.2.2.2.2.2.1 s.2.2.2.2.2.2.2.2.2.2.2.2.1 s.2.2.2.2.2.2.2.2.2.2.2.2.2) (fun s => I s.1 s.2.1 s.2.2.1 s.2.2.2.1 s.2.2.2.2.1 s.2.2.2.2.2.1 s.2.2.2.2.2.2.1 s.2.2.2.2.2.2.2.1 s.2.2.2.2.2.2.2.2.1 s.2.2.2.2.2.2.2.2.2.1 s.2.2.2.2.2.2.2.2.2.2.1 s.2.2.2.2.2.2.2.2.2.2.2.1 s.2.2.2.2.2.2.2.2.2.2.2.2.1 s.2.2.2.2.2.2.2.2.2.2.2.2.2) (fun s => μ s.1 s.2.1 s.2.2.1 s.2.2.2.1 s.2.2.2.2.1 s.2.2.2.2.2.1 s.2.2.2.2.2.2.1 s.2.2.2.2.2.2.2.1 s.2.2.2.2.2.2.2.2.1 s.2.2.2.2.2.2.2.2.2.1 s.2.2.2.2.2.2.2.2.2.2.1 s.2.2.2.2.2.2.2.2.2.2.2.1 s.2.2.2.2.2.2.2.2.2.2.2.2.1 s.2.2.2.2.2.2.2.2.2.2.2.2.2) (fun n s hI hk => hs n s.1 s.2.1 s.2.2.1 s.2.2.2.1 s.2.2.2.2.1 s.2.2.2.2.2.1 s.2.2.2.2.2.2.1 s.2.2.2.2.2.2.2.1 s.2.2.2.2.2.2.2.2.1 s.2.2.2.2.2.2.2.2.2.1 s.2.2.2.2.2.2.2.2.2.2.1 s.2.2.2.2.2.2.2.2.2.2.2.1 s.2.2.2.2.2.2.2.2.2.2.2.2.1 s.2.2.2.2.2.2.2.2.2.2.2.2.2 hI (fun b1 b2 b3 b4 b5 b6 b7 b8 b9 b10 b11 b12 b13 b14 h9 hm => hk (b1, b2, b3, b4, b5, b6, b7, b8, b9, b10, b11, b12, b13, b14) h9 hm)) (a1, a2, a3, a4, a5, a6, a7, a8, a9, a10, a11, a12, a13, a14) h
theorem lp15 {A1 A2 A3 A4 A5 A6 A7 A8 A9 A10 A11 A12 A13 A14 A15 : Type} (W : Nat → A1 → A2 → A3 → A4 → A5 → A6 → A7 → A8 → A9 → A10 → A11 → A12 → A13 → A14 → A15 → Prop) (I : A1 → A2 → A3 → A4 → A5 → A6 → A7 → A8 → A9 → A10 → A11 → A12 → A13 → A14 → A15 → Prop) (μ : A1 → A2 → A3 → A4 → A5 → A6 → A7 → A8 → A9 → A10 → A11 → A12 → A13 → A14 → A15 → Nat) (hs : ∀ (n : Nat) (a1 : A1) (a2 : A2) (a3 : A3) (a4 : A4) (a5 : A5) (a6 : A6) (a7 : A7) (a8 : A8) (a9 : A9) (a10 : A10) (a11 : A11) (a12 : A12) (a13 : A13) (a14 : A14) (a15 : A15), I a1 a2 a3 a4 a5 a6 a7 a8 a9 a10 a11 a12 a13 a14 a15 → (∀ (b1 : A1) (b2 : A2) (b3 : A3) (b4 : A4) (b5 : A5) (b6 : A6) (b7 : A7) (b8 : A8) (b9 : A9) (b10 : A10) (b11 : A11) (b12 : A12) (b13 : A13) (b14 : A14) (b15 : A15), I b1 b2 b3 b4 b5 b6 b7 b8 b9 b10 b11 b12 b13 b14 b15 → μ b1 b2 b3 b4 b5 b6 b7 b8 b9 b10 b11 b12 b13 b14 b15 < μ a1 a2 a3 a4 a5 a6 a7 a8 a9 a10 a11 a12 a13 a14 a15 → W n b1 b2 b3 b4 b5 b6 b7 b8 b9 b10 b11 b12 b13 b14 b15) → W (n + 1) a1 a2 a3 a4 a5 a6 a7 a8 a9 a10 a11 a12 a13 a14 a15) (a1 : A1) (a2 : A2) (a3 : A3) (a4 : A4) (a5 : A5) (a6 : A6) (a7 : A7) (a8 : A8) (a9 : A9) (a10 : A10) (a11 : A11) (a12 : A12) (a13 : A13) (a14 : A14) (a15 : A15) (h : I a1 a2 a3 a4 a5 a6 a7 a8 a9 a10 a11 a12 a13 a14 a15) : ∃ n, W n a1 a2 a3 a4 a5 a6 a7 a8 a9 a10 a11 a12 a13 a14 a15 :=
  loop_m (σ := A1 × A2 × A3 × A4 × A5 × A6 × A7 × A8 × A9 × A10 × A11 × A12 × A13 × A14 × A15) (fun n s => W n s.1 s.2.1 s.2.2.1 s.2.2.2.1 s.2.2.2.2.1 s.2.2.2.2.2.1 s.2.2.2.2.2.2.1 s.2.2.2.2.2.2.2.1 s.2.2.2.2.2.2.2.2.1 s.2.2.2.2.2.2.2.2.2.1 s.2.2.2.2.2.2.2.2.2.2.1 s.2.2.2.2.2.2.2.2.2.2.2.1 s.2.2.2.2.2.2.2.2.2.2.2.2.1 s.2.2.2.2.2.2.2.2.2.2.2.2.2.1 s.2.2.2.2.2.2.2.2.2.2.2.2.2.2) (fun s => I s.1 s.2.1 s.2.2.1 s.2.2.2.1 s.2.2.2.2.1 s.2.2.2.2.2.1 s.2.2.2.2.2.2.1 s.2.2.2.2.2.2.2.1 s.2.2.2.2.2.2.2.2.1 s.2.2.2.2.2.2.2.2.2.1 s.2.2.2.2.2.2.2.2.2.2.1 s.2.2.2.2.2.2.2.2.2.2.2.1 s.2.2.2.2.2.2.2.2.2.2.2.2.1 s.2.2.2.2.2.2.2.2.2.2.2.2.2.1 s.2.2.2.2.2.2.2.2.2.2.2.2.2.2) (fun s => μ s.1 s.2.1 s.2.2.1 s.2.2.2.1 s.2.2.2.2.1 s.2.2.2.2.2.1 s.2.2.2.2.2.2.1 s.2.2.2.2.2.2.2.1 s.2.2.2.2.2.2.2.2.1 s.2.2.2.2.2.2.2.2.2.1 s.2.2.2.2.2.2.2.2.2.2.1 s.2.2.2.2.2.2.2.2.2.2.2.1 s.2.2.2.2.2.2.2.2.2.2.2.2.1 s.2.2.2.2.2.2.2.2.2.2.2.2.2.1 s.2.2.2.2.2.2.2.2.2.2.2.2.2.2) (fun n s hI hk => hs n s.1 s.2.1 s.2.2.1 s.2.2.2.1 s.2.2.2.2.1 s.2.2.2.2.2.1 s.2.2.2.2.2.2.1 s.2.2.2.2.2.2.2.1 s.2.2.2.2.2.2.2.2.1 s.2.2.2.2.2.2.2.2.2.1 s.2.2.2.2.2.2.2.2.2.2.1 s.2.2.2.2.2.2.2.2.2.2.2.1 s.2.2.2.2.2.2.2.2.2.2.2.2.1 s.2.2.2.2.2.2.2.2.2.2.2.2.2.1 s.2.2.2.2.2.2.2.2.2.2.2.2.2.2 hI (fun b1 b2 b3 b4 b5 b6 b7 b8 b9 b10 b11 b12 b13 b14 b15 h9 hm => hk (b1, b2, b3, b4, b5, b6, b7, b8, b9, b10, b11, b12, b13, b14, b15) h9 hm)) (a1, a2, a3, a4, a5, a6, a7, a8, a9, a10, a11, a12, a13, a14, a15) h
theorem lp16 {A1 A2 A3 A4 A5 A6 A7 A8 A9 A10 A11 A12 A13 A14 A15 A16 : Type} (W : Nat → A1 → A2 → A3 → A4 → A5 → A6 → A7 → A8 → A9 → A10 → A11 → A12 → A13 → A14 → A15 → A16 → Prop) (I : A1 → A2 → A3 → A4 → A5 → A6 → A7 → A8 → A9 → A10 → A11 → A12 → A13 → A14 → A15 → A16 → Prop) (μ : A1 → A2 → A3 → A4 → A5 → A6 → A7 → A8 → A9 → A10 → A11 → A12 → A13 → A14 → A15 → A16 → Nat) (hs : ∀ (n : Nat) (a1 : A1) (a2 : A2) (a3 : A3) (a4 : A4) (a5 : A5) (a6 : A6) (a7 : A7) (a8 : A8) (a9 : A9) (a10 : A10) (a11 : A11) (a12 : A12) (a13 : A13) (a14 : A14) (a15 : A15) (a16 : A16), I a1 a2 a3 a4 a5 a6 a7 a8 a9 a10 a11 a12 a13 a14 a15 a16 → (∀ (b1 : A1) (b2 : A2) (b3 : A3) (b4 : A4) (b5 : A5) (b6 : A6) (b7 : A7) (b8 : A8) (b9 : A9) (b10 : A10) (b11 : A11) (b12 : A12) (b13 : A13) (b14 : A14) (b15 : A15) (b16 : A16), I b1 b2 b3 b4 b5 b6 b7 b8 b9 b10 b11 b12 b13 b14 b15 b16 → μ b1 b2 b3 b4 b5 b6 b7 b8 b9 b10 b11 b12 b13 b14 b15 b16 < μ a1 a2 a3 a4 a5 a6 a7 a8 a9 a10 a11 a12 a13 a14 a15 a16 → W n b1 b2 b3 b4 b5 b6 b7 b8 b9 b10 b11 b12 b13 b14 b15 b16) → W (n + 1) a1 a2 a3 a4 a5 a6 a7 a8 a9 a10 a11 a12 a13 a14 a15 a16) (a1 : A1) (a2 : A2) (a3 : A3) (a4 : A4) (a5 : A5) (a6 : A6) (a7 : A7) (a8 : A8) (a9 : A9) (a10 : A10) (a11 : A11) (a12 : A12) (a13 : A13) (a14 : A14) (a15 : A15) (a16 : A16) (h : I a1 a2 a3 a4 a5 a6 a7 a8 a9 a10 a11 a12 a13 a14 a15 a16) : ∃ n, W n a1 a2 a3 a4 a5 a6 a7 a8 a9 a10 a11 a12 a13 a14 a15 a16 :=
  loop_m (σ := A1 × A2 × A3 × A4 × A5 × A6 × A7 × A8 × A9 × A10 × A11 × A12 × A13 × A14 × A15 × A16) (fun n s => W n s.1 s.2.1 s.2.2.1 s.2.2.2.1 s.2.2.2.2.1 s.2.2.2.2.2.1 s.2.2.2.2.2.2.1 s.2.2.2.2.2.2.2.1 s.2.2.2.2.2.2.2.2.1 s.2.2.2.2.2.2.2.2.2.1 s.2.2.2.2.2.2.2.2.2.2.1 s.2.2.2.2.2.2.2.2.2.2.2.1 s.2.2.2.2.2.2.2.2.2.2.2.2.1 s.2.2.2.2.2.2.2.2.2.2.2.2.2.1 s.2.2.2.2.2.2.2.2.2.2.2.2.2.2.1 s.2.2.2.2.2.2.2.2.2.2.2.2.2.2.2) (fun s => I s.1 s.2.1 s.2.2.1 s.2.2.2.1 s.2.2.2.2.1 s.2.2.2.2.2.1 s.2.2.2.2.2.2.1 s.2.2.2.2.2.2.2.1 s.2.2.2.2.2.2.2.2.1 s.2.2.2.2.2.2.2.2.2.1 s.2.2.2.2.2.2.2.2.2.2.1 s.2.2.2.2.2.2.2.2.2.2.2.1 s.2.2.2.2.2.2.2.2.2.2.2.2.1 s.2.2.2.2.2.2.2.2.2.2.2.2.2.1 s.2.2.2.2.2.2.2.2.2.2.2.2.2.2.1 s.2.2.2.2.2.2.2.2.2.2.2.2.2.2.2) (fun s => μ s.1 s.2.1 s.2.2.1 s.2.2.2.1 s.2.2.2.2.1 s.2.2.2.2.2.1 s.2.2.2.2.2.2.1 s.2.2.2.2.2.2.2.1 s.2.2.2.2.2.2.2.2.1 s.2.2.2.2.2.2.2.2.2.1 s.2.2.2.2.2.2.2.2.2.2.1 s.2.2.2.2.2.2.2.2.2.2.2.1 s.2.2.2.2.2.2.2.2.2.2.2.2.1 s.2.2.2.2.2.2.2.2.2.2.2.2.2.1 s.2.2.2.2.2.2.2.2.2.2.2.2.2.2.1 s.2.2.2.2.2.2.2.2.2.2.2.2.2.2.2) (fun n s hI hk => hs n s.1 s.2.1 s.2.2.1 s.2.2.2.1 s.2.2.2.2.1 s.2.2.2.2.2.1 s.2.2.2.2.2.2.1 s.2.2.2.2.2.2.2.1 s.2.2.2.2.2.2.2.2.1 s.2.2.2.2.2.2.2.2.2.1 s.2.2.2.2.2.2.2.2.2.2.1 s.2.2.2.2.2.2.2.2.2.2.2.1 s.2.2.2.2.2.2.2.2.2.2.2.2.1 s.2.2.2.2.2.2.2.2.2.2.2.2.2.1 s.2.2.2.2.2.2.2.2.2.2.2.2.2.2.1 s.2.2.2.2.2.2.2.2.2.2.2.2.2.2.2 hI (fun b1 b2 b3 b4 b5 b6 b7 b8 b9 b10 b11 b12 b13 b14 b15 b16 h9 hm => hk (b1, b2, b3, b4, b5, b6, b7, b8, b9, b10, b11, b12, b13, b14, b15, b16) h9 hm)) (a1, a2, a3, a4, a5, a6, a7, a8, a9, a10, a11, a12, a13, a14, a15, a16) h
theorem pk_least (P : Nat → Prop) (h : ∃ k, P k) : ∃ k, P k ∧ ∀ j, j < k → ¬ P j := by
  obtain ⟨k, hk⟩ := h
  induction k using Nat.strongRecOn with
  | ind k ih =>
    by_cases e : ∃ j, j < k ∧ P j
    · obtain ⟨j, hj, pj⟩ := e
      exact ih j hj pj
    · exact ⟨k, hk, fun j hj pj => e ⟨j, hj, pj⟩⟩
theorem rp1 {ρ A1 : Type} (W : Nat → (ρ → Prop) → A1 → Prop) (ok : A1 → Prop) (μ : A1 → Nat) (val : A1 → ρ)
    (hs : ∀ (d : Nat) (post : ρ → Prop) (a1 : A1), ok a1 → post (val a1) → (∀ (post' : ρ → Prop) (b1 : A1), ok b1 → μ b1 < μ a1 → post' (val b1) → W d post' b1) → W (d + 1) post a1) :
    ∀ (d : Nat) (post : ρ → Prop) (a1 : A1), ok a1 → μ a1 < d → post (val a1) → W d post a1 := by
  intro d
  induction d with
  | zero => intro post a1 _ h; omega
  | succ d ih =>
    intro post a1 ho hm hp
    exact hs d post a1 ho hp (fun post' b1 ho' hm' hp' => ih post' b1 ho' (by omega) hp')
theorem rp2 {ρ A1 A2 : Type} (W : Nat → (ρ → Prop) → A1 → A2 → Prop) (ok : A1 → A2 → Prop) (μ : A1 → A2 → Nat) (val : A1 → A2 → ρ)
    (hs : ∀ (d : Nat) (post : ρ → Prop) (a1 : A1) (a2 : A2), ok a1 a2 → post (val a1 a2) → (∀ (post' : ρ → Prop) (b1 : A1) (b2 : A2), ok b1 b2 → μ b1 b2 < μ a1 a2 → post' (val b1 b2) → W d post' b1 b2) → W (d + 1) post a1 a2) :
    ∀ (d : Nat) (post : ρ → Prop) (a1 : A1) (a2 : A2), ok a1 a2 → μ a1 a2 < d → post (val a1 a2) → W d post a1 a2 := by
  intro d
  induction d with
  | zero => intro post a1 a2 _ h; omega
  | succ d ih =>
    intro post a1 a2 ho hm hp
    exact hs d post a1 a2 ho hp (fun post' b1 b2 ho' hm' hp' => ih post' b1 b2 ho' (by omega) hp')
theorem rp3 {ρ A1 A2 A3 : Type} (W : Nat → (ρ → Prop) → A1 → A2 → A3 → Prop) (ok : A1 → A2 → A3 → Prop) (μ : A1 → A2 → A3 → Nat) (val : A1 → A2 → A3 → ρ)
    (hs : ∀ (d : Nat) (post : ρ → Prop) (a1 : A1) (a2 : A2) (a3 : A3), ok a1 a2 a3 → post (val a1 a2 a3) → (∀ (post' : ρ → Prop) (b1 : A1) (b2 : A2) (b3 : A3), ok b1 b2 b3 → μ b1 b2 b3 < μ a1 a2 a3 → post' (val b1 b2 b3) → W d post' b1 b2 b3) → W (d + 1) post a1 a2 a3) :
    ∀ (d : Nat) (post : ρ → Prop) (a1 : A1) (a2 : A2) (a3 : A3), ok a1 a2 a3 → μ a1 a2 a3 < d → post (val a1 a2 a3) → W d post a1 a2 a3 := by
  intro d
  induction d with
  | zero => intro post a1 a2 a3 _ h; omega
  | succ d ih =>
    intro post a1 a2 a3 ho hm hp
    exact hs d post a1 a2 a3 ho hp (fun post' b1 b2 b3 ho' hm' hp' => ih post' b1 b2 b3 ho' (by omega) hp')
theorem rp4 {ρ A1 A2 A3 A4 : Type} (W : Nat → (ρ → Prop) → A1 → A2 → A3 → A4 → Prop) (ok : A1 → A2 → A3 → A4 → Prop) (μ : A1 → A2 → A3 → A4 → Nat) (val : A1 → A2 → A3 → A4 → ρ)
    (hs : ∀ (d : Nat) (post : ρ → Prop) (a1 : A1) (a2 : A2) (a3 : A3) (a4 : A4), ok a1 a2 a3 a4 → post (val a1 a2 a3 a4) → (∀ (post' : ρ → Prop) (b1 : A1) (b2 : A2) (b3 : A3) (b4 : A4), ok b1 b2 b3 b4 → μ b1 b2 b3 b4 < μ a1 a2 a3 a4 → post' (val b1 b2 b3 b4) → W d post' b1 b2 b3 b4) → W (d + 1) post a1 a2 a3 a4) :
    ∀ (d : Nat) (post : ρ → Prop) (a1 : A1) (a2 : A2) (a3 : A3) (a4 : A4), ok a1 a2 a3 a4 → μ a1 a2 a3 a4 < d → post (val a1 a2 a3 a4) → W d post a1 a2 a3 a4 := by
  intro d
  induction d with
  | zero => intro post a1 a2 a3 a4 _ h; omega
  | succ d ih =>
    intro post a1 a2 a3 a4 ho hm hp
    exact hs d post a1 a2 a3 a4 ho hp (fun post' b1 b2 b3 b4 ho' hm' hp' => ih post' b1 b2 b3 b4 ho' (by omega) hp')
theorem rp5 {ρ A1 A2 A3 A4 A5 : Type} (W : Nat → (ρ → Prop) → A1 → A2 → A3 → A4 → A5 → Prop) (ok : A1 → A2 → A3 → A4 → A5 → Prop) (μ : A1 → A2 → A3 → A4 → A5 → Nat) (val : A1 → A2 → A3 → A4 → A5 → ρ)
    (hs : ∀ (d : Nat) (post : ρ → Prop) (a1 : A1) (a2 : A2) (a3 : A3) (a4 : A4) (a5 : A5), ok a1 a2 a3 a4 a5 → post (val a1 a2 a3 a4 a5) → (∀ (post' : ρ → Prop) (b1 : A1) (b2 : A2) (b3 : A3) (b4 : A4) (b5 : A5), ok b1 b2 b3 b4 b5 → μ b1 b2 b3 b4 b5 < μ a1 a2 a3 a4 a5 → post' (val b1 b2 b3 b4 b5) → W d post' b1 b2 b3 b4 b5) → W (d + 1) post a1 a2 a3 a4 a5) :
    ∀ (d : Nat) (post : ρ → Prop) (a1 : A1) (a2 : A2) (a3 : A3) (a4 : A4) (a5 : A5), ok a1 a2 a3 a4 a5 → μ a1 a2 a3 a4 a5 < d → post (val a1 a2 a3 a4 a5) → W d post a1 a2 a3 a4 a5 := by
  intro d
  induction d with
  | zero => intro post a1 a2 a3 a4 a5 _ h; omega
  | succ d ih =>
    intro post a1 a2 a3 a4 a5 ho hm hp
    exact hs d post a1 a2 a3 a4 a5 ho hp (fun post' b1 b2 b3 b4 b5 ho' hm' hp' => ih post' b1 b2 b3 b4 b5 ho' (by omega) hp')
theorem rp6 {ρ A1 A2 A3 A4 A5 A6 : Type} (W : Nat → (ρ → Prop) → A1 → A2 → A3 → A4 → A5 → A6 → Prop) (ok : A1 → A2 → A3 → A4 → A5 → A6 → Prop) (μ : A1 → A2 → A3 → A4 → A5 → A6 → Nat) (val : A1 → A2 → A3 → A4 → A5 → A6 → ρ)
    (hs : ∀ (d : Nat) (post : ρ → Prop) (a1 : A1) (a2 : A2) (a3 : A3) (a4 : A4) (a5 : A5) (a6 : A6), ok a1 a2 a3 a4 a5 a6 → post (val a1 a2 a3 a4 a5 a6) → (∀ (post' : ρ → Prop) (b1 : A1) (b2 : A2) (b3 : A3) (b4 : A4) (b5 : A5) (b6 : A6), ok b1 b2 b3 b4 b5 b6 → μ b1 b2 b3 b4 b5 b6 < μ a1 a2 a3 a4 a5 a6 → post' (val b1 b2 b3 b4 b5 b6) → W d post' b1 b2 b3 b4 b5 b6) → W (d + 1) post a1 a2 a3 a4 a5 a6) :
    ∀ (d : Nat) (post : ρ → Prop) (a1 : A1) (a2 : A2) (a3 : A3) (a4 : A4) (a5 : A5) (a6 : A6), ok a1 a2 a3 a4 a5 a6 → μ a1 a2 a3 a4 a5 a6 < d → post (val a1 a2 a3 a4 a5 a6) → W d post a1 a2 a3 a4 a5 a6 := by
  intro d
  induction d with
  | zero => intro post a1 a2 a3 a4 a5 a6 _ h; omega
  | succ d ih =>
    intro post a1 a2 a3 a4 a5 a6 ho hm hp
    exact hs d post a1 a2 a3 a4 a5 a6 ho hp (fun post' b1 b2 b3 b4 b5 b6 ho' hm' hp' => ih post' b1 b2 b3 b4 b5 b6 ho' (by omega) hp')
theorem rec_p {σ ρ : Type} (W : Nat → (ρ → Prop) → σ → Prop) (ok : σ → Prop) (μ : σ → Nat) (val : σ → ρ)
    (hs : ∀ d s post, ok s → post (val s) → (∀ s' post', ok s' → μ s' < μ s → post' (val s') → W d post' s') → W (d + 1) post s) :
    ∀ d s post, ok s → μ s < d → post (val s) → W d post s := by
  intro d
  induction d with
  | zero => intro s post _ h; omega
  | succ d ih =>
    intro s post ho hm hp
    exact hs d s post ho hp (fun s' post' ho' hm' hp' => ih s' post' ho' (by omega) hp')
theorem rec_q {σ ρ : Type} (W : Nat → (ρ → Prop) → σ → Prop) (ok : σ → Prop) (μ : σ → Nat) (Q : σ → ρ → Prop)
    (hs : ∀ d s post, ok s → (∀ r, Q s r → post r) → (∀ s' post', ok s' → μ s' < μ s → (∀ r, Q s' r → post' r) → W d post' s') → W (d + 1) post s) :
    ∀ d s post, ok s → μ s < d → (∀ r, Q s r → post r) → W d post s := by
  intro d
  induction d with
  | zero => intro s post _ h; omega
  | succ d ih =>
    intro s post ho hm hp
    exact hs d s post ho hp (fun s' post' ho' hm' hp' => ih s' post' ho' (by omega) hp')
def bx_sum (f : Nat → Int32) : Nat → Int32
  | 0 => 0
  | n + 1 => bx_sum f n + f n
theorem ek_u {A : Prop} {B : Nat → Prop} {k N : Nat} (hk : k < N) (h : B k) : (some k = none → A) ∧ (∀ y : Nat, some k = some y → (y < N ∧ B y)) :=
  ⟨fun z => absurd z (Option.some_ne_none k), fun _ e => (by cases e; exact ⟨hk, h⟩)⟩
theorem ek_nu {A : Prop} {B : Nat → Prop} (h : A) : ((none : Option Nat) = none → A) ∧ (∀ y : Nat, (none : Option Nat) = some y → B y) :=
  ⟨fun _ => h, fun _ e => (by cases e)⟩
theorem ek_if {c d A B : Prop} (e : c ↔ d) (f : d → A) (g : ¬ d → B) : (c → A) ∧ (¬ c → B) :=
  ⟨fun z => f (e.mp z), fun z => g (fun y => z (e.mpr y))⟩
theorem ek_v {α : Sort _} {P : α → Prop} {a b : α} (e : a = b) (h : P b) : P a := e ▸ h
theorem co_some {x : Option Nat} {A : Prop} {B : Nat → Prop} (i : Nat) (h : B i) (hx : x = some i := by rfl) : (x = none → A) ∧ (∀ y : Nat, x = some y → B y) := by
  subst hx
  exact ⟨fun e => (nomatch e), fun y e => Option.some.inj e ▸ h⟩
theorem co_none {x : Option Nat} {A : Prop} {B : Nat → Prop} (h : A) (hx : x = none := by rfl) : (x = none → A) ∧ (∀ y : Nat, x = some y → B y) := by
  subst hx
  exact ⟨fun _ => h, fun y e => (nomatch e)⟩
theorem co_any {x : Option Nat} {A : Prop} {B : Nat → Prop} (hn : x = none → A) (hs : ∀ i : Nat, x = some i → B i) : (x = none → A) ∧ (∀ y : Nat, x = some y → B y) := ⟨hn, hs⟩
theorem co_2 {P : Nat → Prop} (h0 : P 0) (h1 : P 1) {i : Nat} (hi : i < 2) : P i :=
  match i, hi with
  | 0, _ => h0
  | 1, _ => h1
theorem co_3 {P : Nat → Prop} (h0 : P 0) (h1 : P 1) (h2 : P 2) {i : Nat} (hi : i < 3) : P i :=
  match i, hi with
  | 0, _ => h0
  | 1, _ => h1
  | 2, _ => h2
theorem co_4 {P : Nat → Prop} (h0 : P 0) (h1 : P 1) (h2 : P 2) (h3 : P 3) {i : Nat} (hi : i < 4) : P i :=
  match i, hi with
  | 0, _ => h0
  | 1, _ => h1
  | 2, _ => h2
  | 3, _ => h3
theorem co_dec {N : Nat} {P : Nat → Prop} [DecidablePred P] (h : (List.range N).all (fun i => decide (P i)) = true) {i : Nat} (hi : i < N) : P i := by
  have := List.all_eq_true.mp h i (List.mem_range.mpr hi)
  exact of_decide_eq_true this
theorem co_tab {α : Type} {l : List α} {d : α} {P : α → Prop} (h : ∀ a, a ∈ l → P a) {i : Nat} (hi : i < l.length) : P (l.getD i d) := by
  rw [List.getD_eq_getElem?_getD, List.getElem?_eq_getElem hi]
  exact h _ (List.getElem_mem hi)
theorem pk_mu {x : Int32} {L : Nat} (h0 : ¬ x < 0) (h : ¬ nI L ≤ x) (hL : L < 2 ^ 31) : ∃ j : Nat, j < L ∧ x = nI j ∧ x + 1 = nI (j + 1) ∧ x.toNatClampNeg = j ∧ L - (x + 1).toNatClampNeg < L - x.toNatClampNeg := by
  obtain ⟨j, hj, rfl⟩ := nI_of h0
  have hl : j < L := Nat.not_le.mp fun q => h (nI_le q hj)
  refine ⟨j, hl, rfl, nI_1 j, nI_clamp hj, ?_⟩
  rw [nI_1, nI_clamp (by omega), nI_clamp hj]
  omega
theorem op_s {α : Type} {r : Option α} {A : Prop} {B : α → Prop} {y : α} (h : r = some y) (b : B y) : (r = none → A) ∧ ∀ z, r = some z → B z :=
  ⟨fun e => (by rw [h] at e; cases e), fun z e => (by rw [h] at e; cases e; exact b)⟩
def l_holds {α : Type} (a : Nat → Option Nat) (LP : List Nat) (p : Nat → α) (c : Nat) (b : Nat → α) : Prop :=
  ∀ j, j < c → ∃ y, a j = some y ∧ y ∈ LP ∧ p y = b j
theorem l_holds_0 {α : Type} {a : Nat → Option Nat} {LP : List Nat} {p b : Nat → α} : l_holds a LP p 0 b := fun j h => absurd h (Nat.not_lt_zero j)
theorem l_in_new (LP : List Nat) (q : Nat) : q ∈ LP ++ [q] := List.mem_append.mpr (Or.inr (List.mem_singleton.mpr rfl))
def l_sum (b : Nat → Int32) : Nat → Int32
  | 0 => 0
  | k + 1 => l_sum b k + b k
theorem sb_shr0 (x : Int32) : x >>> ((0 : Int32) &&& 31) = x := by
  rw [show ((0 : Int32) &&& 31) = 0 by decide]
  simp
theorem sb_shl0 (x : Int32) : x <<< ((0 : Int32) &&& 31) = x := by
  rw [show ((0 : Int32) &&& 31) = 0 by decide]
  simp
theorem sb_cl0 : (0 : Int32).toNatClampNeg = 0 := by decide
theorem sb_m1 {p : Nat} (h : 0 < p) : nI p + (-1) = nI (p - 1) := by
  obtain ⟨q, rfl⟩ : ∃ q, p = q + 1 := ⟨p - 1, by omega⟩
  exact pk_m1 q
def sb_b (c : Nat) : Int32 := (nI c).toInt8.toInt32
theorem sb_byte : ∀ c, c < 256 → sb_b c &&& 255 = nI c ∧ ((nI c).toUInt32 % 65536).toInt32 = nI c ∧ nI c ≤ 255 := by decide +kernel
def sb_Fit (a : Nat → Int32) : Prop := ∀ j, fits .byte (.int (a j)) = true
def sb_Lat (t : Nat → Nat) (n : Nat) (a : Nat → Int32) : Prop := ∀ j, j < n → t j < 256 ∧ a j = sb_b (t j)
theorem sb_fitB (c : Nat) : fits .byte (.int (sb_b c)) = true := pk_fb _
theorem sb_fit0 : sb_Fit (fun _ => 0) := fun _ => by
  show fits .byte (.int 0) = true
  decide
theorem sb_fitU {a : Nat → Int32} {k : Nat} {x : Int32} (h : sb_Fit a) (hx : fits .byte (.int x) = true) : sb_Fit (upd a k x) := by
  intro j
  by_cases e : j = k
  · subst e
    rw [pk_us]
    exact hx
  · rw [pk_un e]
    exact h j
def sb_cat (t : Nat → Nat) (n : Nat) (s : Nat → Nat) : Nat → Nat := fun j => if j < n then t j else s (j - n)
theorem sb_cat_lo {t s : Nat → Nat} {n j : Nat} (h : j < n) : sb_cat t n s j = t j := if_pos h
theorem sb_cat_hi {t s : Nat → Nat} {n j : Nat} : sb_cat t n s (n + j) = s j := by
  show (if n + j < n then t (n + j) else s (n + j - n)) = s j
  rw [if_neg (by omega), Nat.add_sub_cancel_left]
theorem sb_latPut {t s : Nat → Nat} {n w : Nat} {a a' : Nat → Int32} (h : sb_Lat t n a) (hk : ∀ j, j < n → a' j = a j) (hs : ∀ i, i < w → s i < 256 ∧ a' (n + i) = sb_b (s i)) : sb_Lat (sb_cat t n s) (n + w) a' := by
  intro j hj
  by_cases e : j < n
  · rw [sb_cat_lo e, hk j e]
    exact h j e
  · obtain ⟨i, rfl⟩ : ∃ i, j = n + i := ⟨j - n, by omega⟩
    rw [sb_cat_hi]
    exact hs i (by omega)
theorem sb_latKeep {t : Nat → Nat} {n : Nat} {a a' : Nat → Int32} (h : sb_Lat t n a) (hk : ∀ j, j < n → a' j = a j) : sb_Lat t n a' := fun j hj => by
  rw [hk j hj]
  exact h j hj
def sb_cap (q m : Nat) : Nat := if q ≤ m then m else if 2 * m + 2 < q then q else 2 * m + 2
def sb_Room (q m mc ms : Nat) : Prop := q ≤ m ∨ (1 ≤ mc ∧ sb_cap q m ≤ ms ∧ sb_cap q m ≤ 65536)
theorem sb_cap_ge (q m : Nat) : q ≤ sb_cap q m := by
  unfold sb_cap
  split
  · omega
  · split <;> omega
theorem sb_cap_gem (q m : Nat) : m ≤ sb_cap q m := by
  unfold sb_cap
  split
  · omega
  · split <;> omega
theorem sb_cap_le {q m mc ms : Nat} (hm : m ≤ 65536) (hr : sb_Room q m mc ms) : sb_cap q m ≤ 65536 := by
  rcases hr with h | h
  · rw [sb_cap, if_pos h]
    exact hm
  · exact h.2.2
theorem sb_at {P : Int32 → Prop} {x y : Int32} (e : x = y) (h : P y) : P x := e ▸ h
def sb_dg (w : Nat) : Nat := if w < 10 then 1 else if w < 100 then 2 else if w < 1000 then 3 else if w < 10000 then 4 else if w < 100000 then 5 else if w < 1000000 then 6 else if w < 10000000 then 7 else if w < 100000000 then 8 else if w < 1000000000 then 9 else 10
def sb_dec (v : Nat) : Nat → Nat := fun i => 48 + v / 10 ^ (sb_dg v - 1 - i) % 10
theorem sb_dg_in (w : Nat) : 1 ≤ sb_dg w ∧ sb_dg w ≤ 10 := by
  unfold sb_dg
  constructor <;> (repeat' split) <;> omega
theorem sb_dg100 {w : Nat} (h : 100 ≤ w) (hw : w < 2 ^ 31) : sb_dg w = sb_dg (w / 100) + 2 := by
  rw [sb_dg, sb_dg, if_neg (show ¬ w < 10 by omega), if_neg (show ¬ w < 100 by omega)]
  by_cases h3 : w < 1000
  · rw [if_pos h3, if_pos (show w / 100 < 10 by omega)]
  rw [if_neg h3, if_neg (show ¬ w / 100 < 10 by omega)]
  by_cases h4 : w < 10000
  · rw [if_pos h4, if_pos (show w / 100 < 100 by omega)]
  rw [if_neg h4, if_neg (show ¬ w / 100 < 100 by omega)]
  by_cases h5 : w < 100000
  · rw [if_pos h5, if_pos (show w / 100 < 1000 by omega)]
  rw [if_neg h5, if_neg (show ¬ w / 100 < 1000 by omega)]
  by_cases h6 : w < 1000000
  · rw [if_pos h6, if_pos (show w / 100 < 10000 by omega)]
  rw [if_neg h6, if_neg (show ¬ w / 100 < 10000 by omega)]
  by_cases h7 : w < 10000000
  · rw [if_pos h7, if_pos (show w / 100 < 100000 by omega)]
  rw [if_neg h7, if_neg (show ¬ w / 100 < 100000 by omega)]
  by_cases h8 : w < 100000000
  · rw [if_pos h8, if_pos (show w / 100 < 1000000 by omega)]
  rw [if_neg h8, if_neg (show ¬ w / 100 < 1000000 by omega)]
  by_cases h9 : w < 1000000000
  · rw [if_pos h9, if_pos (show w / 100 < 10000000 by omega)]
  rw [if_neg h9, if_neg (show ¬ w / 100 < 10000000 by omega)]
  rw [if_pos (show w / 100 < 100000000 by omega)]
theorem sb_negT {w : Nat} (h : w < 2 ^ 31) : (-nI w).toInt = -(w : Int) := by
  rw [Int32.toInt_neg, nI_toInt h]
  exact Int.bmod_eq_of_le (by omega) (by omega)
theorem sb_nle {a b : Nat} (ha : a < 2 ^ 31) (hb : b < 2 ^ 31) : -nI a ≤ -nI b ↔ b ≤ a := by
  rw [Int32.le_iff_toInt_le, sb_negT ha, sb_negT hb]
  omega
theorem sb_nlt {a b : Nat} (ha : a < 2 ^ 31) (hb : b < 2 ^ 31) : -nI a < -nI b ↔ b < a := by
  rw [Int32.lt_iff_toInt_lt, sb_negT ha, sb_negT hb]
  omega
theorem sb_cmp {A B : Prop} {x : Int32} (v c : Nat) (f : c ≤ v → A) (g : v < c → B) (hv : v < 2 ^ 31) (hx : x = -nI c := by rfl) (hc : c < 2 ^ 31 := by omega) : (-nI v ≤ x → A) ∧ (¬ -nI v ≤ x → B) := by
  subst hx
  rw [sb_nle hv hc]
  exact ⟨f, fun z => g (by omega)⟩
theorem sb_ndiv {w : Nat} (hw : w < 2 ^ 31) : (-nI w) / 100 = -nI (w / 100) := by
  apply Int32.toInt_inj.mp
  have h100 : (100 : Int32).toInt = 100 := by decide
  rw [Int32.toInt_div, sb_negT hw, h100, sb_negT (by omega), Int.neg_tdiv, Int.tdiv_eq_ediv_of_nonneg (by omega), Int.bmod_eq_of_le (by omega) (by omega)]
  omega
theorem sb_nrem {w : Nat} (hw : w < 2 ^ 31) : (-nI (w / 100)) * 100 - (-nI w) = nI (w % 100) := by
  have h := pk_rem (a := w) (d := 100) hw (by decide) (by decide)
  rw [pk_div hw (by decide) (by decide)] at h
  rw [← h]
  show (-nI (w / 100)) * nI 100 - (-nI w) = nI w - nI (w / 100) * nI 100
  rw [Int32.neg_mul, Int32.sub_neg, Int32.add_comm, ← Int32.sub_eq_add_neg]
/-! rows on bits, shifts and unsigned numbers, to paste: each family out of a closed proof of our own, whole with what it rests on; each by itself clean at Lean in its own claim (generation 39, form 5). Take a family whole -/
/-! ===== Int32 by its bits: bt x i ===== -/
def bt (x : Int32) (i : Nat) : Bool := x.toBitVec.getLsbD i
theorem b_ext {x y : Int32} (h : ∀ i, i < 32 → bt x i = bt y i) : x = y := Int32.toBitVec_inj.mp (BitVec.eq_of_getLsbD_eq (fun i hi => h i hi))
theorem b_or (x y : Int32) (i : Nat) : bt (x ||| y) i = (bt x i || bt y i) := by unfold bt; rw [Int32.toBitVec_or, BitVec.getLsbD_or]
theorem b_and (x y : Int32) (i : Nat) : bt (x &&& y) i = (bt x i && bt y i) := by unfold bt; rw [Int32.toBitVec_and, BitVec.getLsbD_and]
theorem b_xor (x y : Int32) (i : Nat) : bt (x ^^^ y) i = (bt x i ^^ bt y i) := by unfold bt; rw [Int32.toBitVec_xor, BitVec.getLsbD_xor]
theorem b_big {x : Int32} {i : Nat} (h : 32 ≤ i) : bt x i = false := BitVec.getLsbD_of_ge _ _ h
theorem b_255 (i : Nat) : bt 255 i = decide (i < 8) := by
  rcases Nat.lt_or_ge i 32 with h | h
  · exact (by decide +kernel : ∀ i, i < 32 → bt 255 i = decide (i < 8)) i h
  · rw [b_big h, decide_eq_false (by omega)]
theorem b_65535 (i : Nat) : bt 65535 i = decide (i < 16) := by
  rcases Nat.lt_or_ge i 32 with h | h
  · exact (by decide +kernel : ∀ i, i < 32 → bt 65535 i = decide (i < 16)) i h
  · rw [b_big h, decide_eq_false (by omega)]
theorem b_m1 : ∀ i, i < 32 → bt (-1) i = true := by decide +kernel
theorem b_0 (i : Nat) : bt 0 i = false := BitVec.getLsbD_zero
theorem s_l : ∀ n, n < 32 → ((nI n &&& 31).toBitVec.smod 32).toNat = n := by decide +kernel
theorem s_u : ∀ n, n < 32 → (((nI n).toUInt32 &&& Int32.toUInt32 31).toBitVec % 32).toNat = n := by decide +kernel
theorem b_shl (n : Nat) (hn : n < 32) (x : Int32) {i : Nat} (hi : i < 32) : bt (x <<< (nI n &&& 31)) i = (decide (n ≤ i) && bt x (i - n)) := by
  unfold bt
  rw [Int32.toBitVec_shiftLeft]
  show (x.toBitVec <<< ((nI n &&& 31).toBitVec.smod 32).toNat).getLsbD i = _
  rw [s_l n hn, BitVec.getLsbD_shiftLeft]
  rcases Nat.lt_or_ge i n with h | h
  · simp [h, Nat.not_le.mpr h]
  · simp [hi, h, Nat.not_lt.mpr h]
theorem b_ushr (n : Nat) (hn : n < 32) (x : Int32) (i : Nat) : bt ((x.toUInt32 >>> ((nI n).toUInt32 &&& Int32.toUInt32 31)).toInt32) i = bt x (n + i) := by
  show (x.toUInt32 >>> ((nI n).toUInt32 &&& Int32.toUInt32 31)).toBitVec.getLsbD i = x.toUInt32.toBitVec.getLsbD (n + i)
  rw [UInt32.toBitVec_shiftRight]
  show (x.toUInt32.toBitVec >>> (((nI n).toUInt32 &&& Int32.toUInt32 31).toBitVec % 32).toNat).getLsbD i = _
  rw [s_u n hn, BitVec.getLsbD_ushiftRight]
theorem b_sshr (n : Nat) (hn : n < 32) (x : Int32) {i : Nat} (hi : i < 32) : bt (x >>> (nI n &&& 31)) i = if n + i < 32 then bt x (n + i) else bt x 31 := by
  unfold bt
  rw [Int32.toBitVec_shiftRight]
  show (x.toBitVec.sshiftRight ((nI n &&& 31).toBitVec.smod 32).toNat).getLsbD i = _
  rw [s_l n hn, BitVec.getLsbD_sshiftRight, BitVec.msb_eq_getLsbD_last]
  simp [hi]
theorem b_shl8 (x : Int32) {i : Nat} (hi : i < 32) : bt (x <<< ((8 : Int32) &&& 31)) i = (decide (8 ≤ i) && bt x (i - 8)) := b_shl 8 (by omega) x hi
theorem b_shl16 (x : Int32) {i : Nat} (hi : i < 32) : bt (x <<< ((16 : Int32) &&& 31)) i = (decide (16 ≤ i) && bt x (i - 16)) := b_shl 16 (by omega) x hi
theorem b_shl24 (x : Int32) {i : Nat} (hi : i < 32) : bt (x <<< ((24 : Int32) &&& 31)) i = (decide (24 ≤ i) && bt x (i - 24)) := b_shl 24 (by omega) x hi
theorem b_sshr8 (x : Int32) {i : Nat} (hi : i < 32) : bt (x >>> ((8 : Int32) &&& 31)) i = if 8 + i < 32 then bt x (8 + i) else bt x 31 := b_sshr 8 (by omega) x hi
/-! ===== nI under and, xor, >>>, one bit, 65535 ===== -/
theorem nx_and (a b : Nat) : nI a &&& nI b = nI (a &&& b) := by
  apply Int32.toBitVec_inj.1
  show BitVec.ofNat 32 a &&& BitVec.ofNat 32 b = BitVec.ofNat 32 (a &&& b)
  apply BitVec.eq_of_getLsbD_eq
  intro i hi
  simp [hi]
theorem nx_xor (a b : Nat) : nI a ^^^ nI b = nI (a ^^^ b) := by
  apply Int32.toBitVec_inj.1
  show BitVec.ofNat 32 a ^^^ BitVec.ofNat 32 b = BitVec.ofNat 32 (a ^^^ b)
  apply BitVec.eq_of_getLsbD_eq
  intro i hi
  simp [hi]
theorem nx_cnt : ∀ j : Fin 32, (UInt32.ofNat j.val &&& Int32.toUInt32 31).toNat % 32 = j.val := by decide +kernel
theorem nx_ush {k j : Nat} (hk : k < 65536) (hj : j < 32) : ((nI k).toUInt32 >>> ((nI j).toUInt32 &&& Int32.toUInt32 31)).toInt32 = nI (k >>> j) := by
  have hs : k >>> j ≤ k := by
    rw [Nat.shiftRight_eq_div_pow]
    exact Nat.div_le_self _ _
  have e2 : UInt32.ofNat k >>> (UInt32.ofNat j &&& Int32.toUInt32 31) = UInt32.ofNat (k >>> j) := by
    apply UInt32.toNat_inj.1
    have h1 : (UInt32.ofNat k).toNat = k := Nat.mod_eq_of_lt (by omega)
    have h2 : (UInt32.ofNat (k >>> j)).toNat = k >>> j := Nat.mod_eq_of_lt (by omega)
    rw [UInt32.toNat_shiftRight, nx_cnt ⟨j, hj⟩, h1, h2]
  show (UInt32.ofNat k >>> (UInt32.ofNat j &&& Int32.toUInt32 31)).toInt32 = _
  rw [e2]
  rfl
theorem nx_bit {k j : Nat} (hk : k < 65536) (hj : j < 16) : (((nI k).toUInt32 >>> ((nI j).toUInt32 &&& Int32.toUInt32 31)).toInt32 &&& 1) = 0 ↔ k.testBit j = false := by
  rw [nx_ush hk (by omega)]
  show nI (k >>> j) &&& nI 1 = 0 ↔ _
  rw [nx_and, Nat.and_one_is_mod, ← nI_0, nI_eq (by omega) (by omega), Nat.testBit_eq_decide_div_mod_eq, Nat.shiftRight_eq_div_pow, decide_eq_false_iff_not]
  generalize k / 2 ^ j = z
  omega
theorem nx_mod (k : Nat) : nI k &&& 65535 = nI (k % 65536) := by
  show nI k &&& nI 65535 = _
  rw [nx_and, show (65535 : Nat) = 2 ^ 16 - 1 from rfl, Nat.and_two_pow_sub_one_eq_mod]
theorem nx_m16 {k : Nat} (h : k < 65536) : nI k &&& 65535 = nI k := by rw [nx_mod, Nat.mod_eq_of_lt h]
theorem nx_mask (x : Int32) : ∃ k, k < 65536 ∧ x &&& 65535 = nI k := by
  have e : x = nI x.toBitVec.toNat := by
    apply Int32.toBitVec_inj.1
    show x.toBitVec = BitVec.ofNat 32 x.toBitVec.toNat
    simp
  refine ⟨x.toBitVec.toNat % 65536, Nat.mod_lt _ (by omega), ?_⟩
  rw [← nx_mod, ← e]
/-! ===== Int32 as a set of bits: test, set ===== -/
def nf_M (m : Int32) : Nat := 4294967296 - m.toBitVec.toNat
theorem nf_sh : ∀ l, l < 32 → ((1 : Int32) <<< (nI l &&& 31)).toBitVec = BitVec.twoPow 32 l := by decide +kernel
theorem nf_sl : ∀ l, l < 32 → (((nI l).toUInt32 &&& Int32.toUInt32 31).toBitVec % 32).toNat = l := by decide +kernel
theorem nf_tp : ∀ l, l < 32 → BitVec.twoPow 32 l ≠ 0#32 := by decide +kernel
theorem nf_bit (m : Int32) (l : Nat) (hl : l < 32) : ((m.toUInt32 >>> ((nI l).toUInt32 &&& Int32.toUInt32 31)).toInt32 &&& 1) = 0 ↔ (m &&& ((1 : Int32) <<< (nI l &&& 31))) = 0 := by
  have e : ((m.toUInt32 >>> ((nI l).toUInt32 &&& Int32.toUInt32 31)).toInt32).toBitVec = m.toBitVec >>> l := by
    show m.toBitVec >>> (((nI l).toUInt32 &&& Int32.toUInt32 31).toBitVec % 32) = m.toBitVec >>> l
    rw [BitVec.ushiftRight_eq', nf_sl l hl]
  rw [← Int32.toBitVec_inj, ← Int32.toBitVec_inj, Int32.toBitVec_and, Int32.toBitVec_and, nf_sh l hl, e, BitVec.and_twoPow]
  show (m.toBitVec >>> l &&& 1#32) = 0#32 ↔ _ = 0#32
  rw [BitVec.and_one_eq_setWidth_ofBool_getLsbD, BitVec.getLsbD_ushiftRight, Nat.add_zero]
  cases hb : m.toBitVec.getLsbD l
  · exact ⟨fun _ => by simp, fun _ => by decide⟩
  · exact ⟨fun z => absurd z (by decide), fun z => absurd ((if_pos rfl).symm.trans z) (nf_tp l hl)⟩
theorem nf_gr (m k : Int32) (h : m &&& k = 0) (hk : k ≠ 0) : nf_M (m ||| k) < nf_M m := by
  have hm := m.toBitVec.isLt
  have hm' := (m ||| k).toBitVec.isLt
  have h1 : m.toBitVec.toNat ≤ (m ||| k).toBitVec.toNat := by
    rw [Int32.toBitVec_or, BitVec.toNat_or]
    exact Nat.left_le_or
  have h2 : m.toBitVec.toNat ≠ (m ||| k).toBitVec.toNat := by
    intro e
    have e2 : m = m ||| k := Int32.toBitVec_inj.mp (BitVec.eq_of_toNat_eq e)
    apply hk
    apply Int32.toBitVec_inj.mp
    show k.toBitVec = 0#32
    apply BitVec.eq_of_getLsbD_eq
    intro i hi
    have a : m.toBitVec.getLsbD i = (m.toBitVec.getLsbD i || k.toBitVec.getLsbD i) := by rw [← BitVec.getLsbD_or, ← Int32.toBitVec_or, ← e2]
    have b : (m.toBitVec.getLsbD i && k.toBitVec.getLsbD i) = false := by
      rw [← BitVec.getLsbD_and, ← Int32.toBitVec_and, h]
      exact BitVec.getLsbD_zero
    rw [BitVec.getLsbD_zero]
    revert a b
    cases m.toBitVec.getLsbD i <;> cases k.toBitVec.getLsbD i <;> simp
  unfold nf_M
  omega
/-! ===== a byte read unsigned ===== -/
theorem bp_b (x : Int32) : x.toInt8.toInt32 &&& 255 = x &&& 255 := by
  apply Int32.toBitVec_inj.mp
  rw [Int32.toBitVec_and, Int32.toBitVec_and, Int8.toBitVec_toInt32, Int32.toBitVec_toInt8]
  apply BitVec.eq_of_getLsbD_eq
  intro i hi
  rw [BitVec.getLsbD_and, BitVec.getLsbD_and]
  have hm : ∀ i < 32, 8 ≤ i → (255 : Int32).toBitVec.getLsbD i = false := by decide
  rcases Nat.lt_or_ge i 8 with z | z
  · rw [BitVec.getLsbD_signExtend, BitVec.getLsbD_signExtend, if_pos z, if_pos hi]
    simp only [z, hi, decide_true, Bool.true_and]
  · rw [hm i hi z]; simp
/-! ===== the char cast and 65535 ===== -/
theorem em_w (v : Int32) : ∃ w : Nat, w < 65536 ∧ (v.toUInt32 % 65536).toInt32 = nI w ∧ v &&& 65535 = nI w := by
  have hr := lw_u16_r v
  have h0 : (0 : Int32).toInt = 0 := by decide
  obtain ⟨w, h1, h2⟩ := nI_of (x := lw_u16 v) (by rw [Int32.lt_iff_toInt_lt]; omega)
  have h3 : (v.toUInt32 % 65536).toInt32 = nI w := h2
  rw [h2, nI_toInt h1] at hr
  exact ⟨w, by omega, h3, by rw [← lg_i2c_mask, ← lg_i2c_nf, h3]⟩
/-! ===== Int64 as a set of bits: test, set, clear ===== -/
theorem ts_nf {x : Bool} (h : ¬ x = false) : x = true := by cases x <;> first | rfl | exact absurd rfl h
theorem ts_nt {x : Bool} (h : ¬ x = true) : x = false := by cases x <;> first | rfl | exact absurd rfl h
theorem ts_bit {w : Int64} {s : UInt64} {j : Nat} (hj : j < 64) (hs : s.toNat = j) : ((w.toUInt64 >>> s).toInt64 &&& 1) = 0 ↔ w.toBitVec.getLsbD j = false := by
  have e : (w.toUInt64 >>> s).toInt64.toBitVec = w.toBitVec >>> j := by
    apply BitVec.eq_of_toNat_eq
    show (w.toUInt64 >>> s).toNat = _
    rw [UInt64.toNat_shiftRight, hs, Nat.mod_eq_of_lt hj, BitVec.toNat_ushiftRight]
    rfl
  rw [← Int64.toBitVec_inj, Int64.toBitVec_and, e]
  show w.toBitVec >>> j &&& 1#64 = 0#64 ↔ _
  constructor
  · intro h
    have t := congrArg (fun x => x.getLsbD 0) h
    simpa using t
  · intro h
    apply BitVec.eq_of_getLsbD_eq
    intro i hi
    cases i with
    | zero => simp [h]
    | succ i => simp
theorem ts_or {w m : Int64} {j : Nat} (hj : j < 64) (hm : m.toBitVec = BitVec.twoPow 64 j) : (w ||| m) = w ↔ w.toBitVec.getLsbD j = true := by
  rw [← Int64.toBitVec_inj, Int64.toBitVec_or, hm]
  constructor
  · intro h
    have t := congrArg (fun x => x.getLsbD j) h
    simp only [BitVec.getLsbD_or, BitVec.getLsbD_twoPow] at t
    simpa [hj] using t.symm
  · intro h
    apply BitVec.eq_of_getLsbD_eq
    intro i hi
    rw [BitVec.getLsbD_or, BitVec.getLsbD_twoPow]
    by_cases e : j = i
    · subst e; rw [h, Bool.true_or]
    · simp [e]
theorem ts_and {w m : Int64} {j : Nat} (hj : j < 64) (hm : m.toBitVec = BitVec.twoPow 64 j) : (w &&& (m ^^^ (-1))) = w ↔ w.toBitVec.getLsbD j = false := by
  have ha : (-1 : Int64).toBitVec = BitVec.allOnes 64 := by decide
  rw [← Int64.toBitVec_inj, Int64.toBitVec_and, Int64.toBitVec_xor, hm, ha]
  constructor
  · intro h
    have t := congrArg (fun x => x.getLsbD j) h
    simp only [BitVec.getLsbD_and, BitVec.getLsbD_xor, BitVec.getLsbD_twoPow, BitVec.getLsbD_allOnes] at t
    simpa [hj] using t.symm
  · intro h
    apply BitVec.eq_of_getLsbD_eq
    intro i hi
    rw [BitVec.getLsbD_and, BitVec.getLsbD_xor, BitVec.getLsbD_twoPow, BitVec.getLsbD_allOnes]
    by_cases e : j = i
    · subst e; rw [h, Bool.false_and]
    · simp [e, hi]
/-! ===== lN n to 2^64: shifts, and, or, masks, one bit ===== -/
theorem wb_tb (n : Nat) : (lN n).toBitVec = BitVec.ofNat 64 n := rfl
theorem wb_inj {a b : Int64} (h : a.toBitVec = b.toBitVec) : a = b := Int64.toBitVec_inj.mp h
theorem wb_tn {n : Nat} (h : n < 2 ^ 64) : (lN n).toBitVec.toNat = n := by rw [wb_tb, BitVec.toNat_ofNat, Nat.mod_eq_of_lt h]
theorem wb_of (x : Int64) : ∃ n, n < 2 ^ 64 ∧ x = lN n := ⟨x.toBitVec.toNat, x.toBitVec.isLt, wb_inj (by rw [wb_tb]; simp)⟩
theorem wb_of32 (x : Int32) : ∃ n, n < 2 ^ 32 ∧ x = nI n := ⟨x.toBitVec.toNat, x.toBitVec.isLt, Int32.toBitVec_inj.mp (by show _ = BitVec.ofNat 32 _; simp)⟩
theorem wb_c : ∀ k, k < 64 → ((nI k).toInt64 &&& 63) = lN k := by decide +kernel
theorem wb_cu : ∀ k, k < 64 → ((nI k).toInt64.toUInt64 &&& Int64.toUInt64 63) = UInt64.ofNat k := by decide +kernel
theorem wb_sm : ∀ k, k < 64 → (BitVec.ofNat 64 k).smod 64 = BitVec.ofNat 64 k := by decide +kernel
theorem wb_pw {a b : Nat} (h : a ≤ b) : 2 ^ b = 2 ^ a * 2 ^ (b - a) := by rw [← Nat.pow_add]; congr 1; omega
theorem wb_lt2 {a b : Nat} (h : a < b) : 2 ^ a < 2 ^ b := Nat.pow_lt_pow_right (by decide) h
theorem wb_mod (n : Nat) : lN n = lN (n % 2 ^ 64) := wb_inj (by rw [wb_tb, wb_tb]; apply BitVec.eq_of_toNat_eq; rw [BitVec.toNat_ofNat, BitVec.toNat_ofNat, Nat.mod_mod])
theorem wb_shr {n k : Nat} (hn : n < 2 ^ 64) (hk : k < 64) : ((lN n).toUInt64 >>> ((nI k).toInt64.toUInt64 &&& Int64.toUInt64 63)).toInt64 = lN (n / 2 ^ k) := by
  rw [wb_cu k hk]
  apply wb_inj
  apply BitVec.eq_of_toNat_eq
  show ((lN n).toUInt64 >>> UInt64.ofNat k).toNat = (BitVec.ofNat 64 _).toNat
  have h1 : (UInt64.ofNat k).toNat = k := by
    show (BitVec.ofNat 64 k).toNat = k
    rw [BitVec.toNat_ofNat, Nat.mod_eq_of_lt (by omega)]
  have h2 : (lN n).toUInt64.toNat = n := wb_tn hn
  rw [UInt64.toNat_shiftRight, h1, h2, Nat.mod_eq_of_lt hk, Nat.shiftRight_eq_div_pow, BitVec.toNat_ofNat, Nat.mod_eq_of_lt (Nat.lt_of_le_of_lt (Nat.div_le_self _ _) hn)]
theorem wb_shl (n : Nat) {k : Nat} (hk : k < 64) : lN n <<< ((nI k).toInt64 &&& 63) = lN (n * 2 ^ k) := by
  rw [wb_c k hk]
  apply wb_inj
  rw [Int64.toBitVec_shiftLeft, wb_tb, wb_tb, wb_tb, wb_sm k hk]
  apply BitVec.eq_of_toNat_eq
  rw [BitVec.shiftLeft_eq', BitVec.toNat_shiftLeft, BitVec.toNat_ofNat, BitVec.toNat_ofNat, BitVec.toNat_ofNat, Nat.mod_eq_of_lt (show k < 2 ^ 64 by omega), Nat.shiftLeft_eq, Nat.mul_mod, Nat.mod_mod, ← Nat.mul_mod]
theorem wb_and {a b : Nat} (ha : a < 2 ^ 64) (hb : b < 2 ^ 64) : lN a &&& lN b = lN (a &&& b) := by
  apply wb_inj
  rw [Int64.toBitVec_and, wb_tb, wb_tb, wb_tb]
  apply BitVec.eq_of_toNat_eq
  rw [BitVec.toNat_and, BitVec.toNat_ofNat, BitVec.toNat_ofNat, BitVec.toNat_ofNat, Nat.mod_eq_of_lt ha, Nat.mod_eq_of_lt hb, Nat.mod_eq_of_lt (Nat.and_lt_two_pow _ hb)]
theorem wb_or {a b : Nat} (ha : a < 2 ^ 64) (hb : b < 2 ^ 64) : lN a ||| lN b = lN (a ||| b) := by
  apply wb_inj
  rw [Int64.toBitVec_or, wb_tb, wb_tb, wb_tb]
  apply BitVec.eq_of_toNat_eq
  rw [BitVec.toNat_or, BitVec.toNat_ofNat, BitVec.toNat_ofNat, BitVec.toNat_ofNat, Nat.mod_eq_of_lt ha, Nat.mod_eq_of_lt hb, Nat.mod_eq_of_lt (Nat.or_lt_two_pow ha hb)]
theorem wb_mask {n k : Nat} (hn : n < 2 ^ 64) (hk : k < 64) : lN n &&& lN (2 ^ k - 1) = lN (n % 2 ^ k) := by
  rw [wb_and hn (by have := wb_lt2 hk; omega), Nat.and_two_pow_sub_one_eq_mod]
theorem wb_a1 {n : Nat} (hn : n < 2 ^ 64) : lN n &&& 1 = lN (n % 2) := wb_mask (k := 1) hn (by decide)
theorem wb_bit {n k : Nat} (hn : n < 2 ^ 64) (hk : k < 64) : ((lN n).toUInt64 >>> ((nI k).toInt64.toUInt64 &&& Int64.toUInt64 63)).toInt64 &&& 1 = lN (n / 2 ^ k % 2) := by
  rw [wb_shr hn hk, wb_a1 (Nat.lt_of_le_of_lt (Nat.div_le_self _ _) hn)]
theorem wb_xor {q k : Nat} (hk : k < 63) (h : 2 ^ k ≤ q) (h2 : q < 2 ^ (k + 1)) : lN q ^^^ lN (2 ^ k) = lN (q - 2 ^ k) := by
  obtain ⟨r, rfl⟩ : ∃ r, q = 2 ^ k + r := ⟨q - 2 ^ k, by omega⟩
  have hr : r < 2 ^ k := by rw [Nat.pow_succ] at h2; omega
  have hx : (2 ^ k + r) ^^^ 2 ^ k = r := by
    apply Nat.eq_of_testBit_eq
    intro i
    rw [Nat.testBit_xor, Nat.testBit_two_pow]
    rcases Nat.lt_trichotomy i k with h | h | h
    · rw [Nat.testBit_two_pow_add_gt h]
      simp [show ¬ k = i by omega]
    · subst h
      rw [Nat.testBit_two_pow_add_eq]
      simp
    · have a1 : 2 ^ (k + 1) ≤ 2 ^ i := Nat.pow_le_pow_right (by decide) h
      rw [Nat.testBit_lt_two_pow (show 2 ^ k + r < 2 ^ i by omega), Nat.testBit_lt_two_pow (show r < 2 ^ i by omega)]
      simp [show ¬ k = i by omega]
  have b1 := wb_lt2 (show k + 1 < 64 by omega)
  have b2 := wb_lt2 (show k < 64 by omega)
  apply wb_inj
  rw [Int64.toBitVec_xor, wb_tb, wb_tb, wb_tb]
  apply BitVec.eq_of_toNat_eq
  rw [BitVec.toNat_xor, BitVec.toNat_ofNat, BitVec.toNat_ofNat, BitVec.toNat_ofNat, Nat.mod_eq_of_lt (by omega : 2 ^ k + r < 2 ^ 64), Nat.mod_eq_of_lt b2, hx, Nat.add_sub_cancel_left, Nat.mod_eq_of_lt (by omega)]
/-! ===== lN: masks, 'or' of parts that don't overlap is a sum ===== -/
theorem u_tn {n : Nat} (h : n < 2 ^ 64) : (UInt64.ofNat n).toNat = n := Nat.mod_eq_of_lt h
theorem g_and {a b c : Nat} (ha : a < 2 ^ 64) (hb : b < 2 ^ 64) (hc : a &&& b = c) : lN a &&& lN b = lN c := by
  subst hc
  have h : UInt64.ofNat a &&& UInt64.ofNat b = UInt64.ofNat (a &&& b) := UInt64.toNat_inj.mp (by rw [UInt64.toNat_and, u_tn ha, u_tn hb, u_tn (Nat.and_lt_two_pow a hb)])
  have h2 := congrArg UInt64.toInt64 h
  exact h2
theorem g_and1 {a : Nat} (ha : a < 2 ^ 64) : lN a &&& 1 = lN (a % 2) := g_and (b := 1) ha (by decide) (Nat.and_two_pow_sub_one_eq_mod a 1)
theorem g_mask {a s p : Nat} (hp : 2 ^ s = p) (hs : s < 64) (ha : a < 2 ^ 64) : lN a &&& lN (p - 1) = lN (a % p) := by
  subst hp
  have := Nat.pow_lt_pow_right (show 1 < 2 by decide) hs
  exact g_and ha (by omega) (Nat.and_two_pow_sub_one_eq_mod a s)
theorem g_or {k p a b : Nat} (hp : 2 ^ k = p) (ha : a < p) (h : b * p + a < 2 ^ 64) : lN (b * p) ||| lN a = lN (b * p + a) := by
  subst hp
  have h1 : b * 2 ^ k ||| a = b * 2 ^ k + a := by rw [← Nat.shiftLeft_eq, Nat.shiftLeft_add_eq_or_of_lt ha]
  have h3 : UInt64.ofNat (b * 2 ^ k) ||| UInt64.ofNat a = UInt64.ofNat (b * 2 ^ k + a) := UInt64.toNat_inj.mp (by rw [UInt64.toNat_or, u_tn (by omega), u_tn (by omega), u_tn h, h1])
  have h2 := congrArg UInt64.toInt64 h3
  exact h2
theorem g_or' {k p a b : Nat} (hp : 2 ^ k = p) (ha : a < p) (h : a + b * p < 2 ^ 64) : lN a ||| lN (b * p) = lN (a + b * p) := by
  rw [Int64.or_comm, g_or hp ha (by omega), Nat.add_comm]
theorem g_ushr {a k p : Nat} {y : UInt64} (hy : y = UInt64.ofNat k) (hk : k < 64) (hp : 2 ^ k = p) (ha : a < 2 ^ 64) : ((lN a).toUInt64 >>> y).toInt64 = lN (a / p) := by
  subst hy hp
  have h : UInt64.ofNat a >>> UInt64.ofNat k = UInt64.ofNat (a / 2 ^ k) := UInt64.toNat_inj.mp (by rw [UInt64.toNat_shiftRight, u_tn ha, u_tn (by omega), u_tn (Nat.lt_of_le_of_lt (Nat.div_le_self _ _) ha), Nat.mod_eq_of_lt hk, Nat.shiftRight_eq_div_pow])
  have h2 := congrArg UInt64.toInt64 h
  exact h2
theorem g_shl {a k p : Nat} {y : Int64} (hy : y.toBitVec.smod 64 = BitVec.ofNat 64 k) (hk : k < 64) (hp : 2 ^ k = p) (ha : a < 2 ^ 64) : lN a <<< y = lN (a * p) := by
  subst hp
  apply Int64.toBitVec_inj.mp
  rw [Int64.toBitVec_shiftLeft, hy]
  apply BitVec.eq_of_toNat_eq
  have hb : (lN a).toBitVec.toNat = a := Nat.mod_eq_of_lt ha
  have hk' : (BitVec.ofNat 64 k).toNat = k := Nat.mod_eq_of_lt (by omega)
  have h : ((lN a).toBitVec <<< BitVec.ofNat 64 k).toNat = (a * 2 ^ k) % 2 ^ 64 := by simp only [BitVec.shiftLeft_eq', BitVec.toNat_shiftLeft, hb, hk', Nat.shiftLeft_eq]
  exact h
/-! ===== lN to 2^62 under >> and >>> ===== -/
theorem pf_lI {a : Nat} (h : a < 2 ^ 63) : (lN a).toInt = (a : Int) := lg_ofNat_toInt h
theorem pf_shr {a d : Nat} {D : Int64} (hD : (D.toBitVec.smod 64).toNat = d) (h : a < 2 ^ 62) : lN a >>> D = lN (a / 2 ^ d) := by
  have hd : a / 2 ^ d ≤ a := Nat.div_le_self _ _
  apply Int64.toInt_inj.mp
  have e : (lN a >>> D).toInt = (lN a).toInt >>> d := by
    rw [← hD]
    exact BitVec.toInt_sshiftRight ..
  rw [e, Int.shiftRight_eq_div_pow, pf_lI (by omega), pf_lI (by omega)]
  rfl
theorem pf_ushr {a d : Nat} {D : UInt64} (hD : D.toNat % 64 = d) (h : a < 2 ^ 62) : ((lN a).toUInt64 >>> D).toInt64 = lN (a / 2 ^ d) := by
  have hd : a / 2 ^ d ≤ a := Nat.div_le_self _ _
  have e : (lN a).toUInt64 >>> D = UInt64.ofNat (a / 2 ^ d) := UInt64.toNat_inj.mp (by
    rw [UInt64.toNat_shiftRight, hD, Nat.shiftRight_eq_div_pow, UInt64.toNat_ofNat']
    show (UInt64.ofNat a).toNat / 2 ^ d = _
    rw [UInt64.toNat_ofNat', Nat.mod_eq_of_lt (by omega), Nat.mod_eq_of_lt (by omega)])
  rw [e]
  rfl
theorem pf_andw (x : Int64) : ∃ m, m < 2 ^ 32 ∧ x &&& 4294967295 = lN m := ⟨x.toBitVec.toNat % 2 ^ 32, Nat.mod_lt _ (by decide), Int64.toBitVec_inj.mp (BitVec.eq_of_toNat_eq (by
  show (x.toBitVec &&& 4294967295#64).toNat = (BitVec.ofNat 64 (x.toBitVec.toNat % 2 ^ 32)).toNat
  rw [BitVec.toNat_and, show (4294967295#64).toNat = 2 ^ 32 - 1 from by decide, Nat.and_two_pow_sub_one_eq_mod, BitVec.toNat_ofNat]
  omega))⟩
/-! ===== Int64 as an unsigned number: uN x ===== -/
def uN (x : Int64) : Nat := x.toUInt64.toNat
theorem uN_lt (x : Int64) : uN x < 18446744073709551616 := x.toUInt64.toNat_lt
theorem uN_inj {x y : Int64} (h : uN x = uN y) : x = y := congrArg UInt64.toInt64 (UInt64.toNat_inj.mp h)
theorem uN_add (x y : Int64) : uN (x + y) = (uN x + uN y) % 18446744073709551616 := by
  show (x.toUInt64 + y.toUInt64).toNat = _
  exact UInt64.toNat_add _ _
theorem uN_mul (x y : Int64) : uN (x * y) = (uN x * uN y) % 18446744073709551616 := by
  show (x.toUInt64 * y.toUInt64).toNat = _
  exact UInt64.toNat_mul _ _
theorem uN_shl (x : Int64) : uN (x <<< ((1 : Int32).toInt64 &&& 63)) = (2 * uN x) % 18446744073709551616 := by
  have h : (((1 : Int32).toInt64 &&& 63).toBitVec.smod 64).toNat = 1 := by decide
  show (x.toBitVec <<< (((1 : Int32).toInt64 &&& 63).toBitVec.smod 64).toNat).toNat = _
  rw [h, BitVec.toNat_shiftLeft, Nat.shiftLeft_eq, Nat.mul_comm]
  rfl
theorem uN_shr (x : Int64) (s : UInt64) : uN (x.toUInt64 >>> s).toInt64 = uN x / 2 ^ (s.toNat % 64) := by
  show (x.toUInt64 >>> s).toNat = _
  rw [UInt64.toNat_shiftRight, Nat.shiftRight_eq_div_pow]
  rfl
theorem uN_s32 (x : Int64) : uN (x.toUInt64 >>> ((32 : Int32).toInt64.toUInt64 &&& Int64.toUInt64 63)).toInt64 = uN x / 4294967296 := by
  have h : ((32 : Int32).toInt64.toUInt64 &&& Int64.toUInt64 63).toNat % 64 = 32 := by decide
  rw [uN_shr, h]
theorem uN_s63 (x : Int64) : uN (x.toUInt64 >>> ((63 : Int32).toInt64.toUInt64 &&& Int64.toUInt64 63)).toInt64 = uN x / 9223372036854775808 := by
  have h : ((63 : Int32).toInt64.toUInt64 &&& Int64.toUInt64 63).toNat % 64 = 63 := by decide
  rw [uN_shr, h]
theorem uN_lo (x : Int64) : uN (x &&& 4294967295) = uN x % 4294967296 := by
  show (x.toUInt64 &&& Int64.toUInt64 4294967295).toNat = _
  rw [UInt64.toNat_and]
  exact Nat.and_two_pow_sub_one_eq_mod _ 32
theorem uN_bit (x : Int64) : (x &&& 1) = 0 ↔ uN x % 2 = 0 := by
  have h : uN (x &&& 1) = uN x % 2 := by
    show (x.toUInt64 &&& Int64.toUInt64 1).toNat = _
    rw [UInt64.toNat_and]
    exact Nat.and_two_pow_sub_one_eq_mod _ 1
  rw [← h]
  exact ⟨fun z => by rw [z]; rfl, fun z => uN_inj (z.trans rfl)⟩
theorem uN_or {x y : Int64} (hy : uN y < 2) : uN ((x <<< ((1 : Int32).toInt64 &&& 63)) ||| y) = (2 * uN x) % 18446744073709551616 + uN y := by
  have h1 : uN ((x <<< ((1 : Int32).toInt64 &&& 63)) ||| y) = uN (x <<< ((1 : Int32).toInt64 &&& 63)) ||| uN y := UInt64.toNat_or _ _
  have h2 : (2 * uN x) % 18446744073709551616 = 2 ^ 1 * (uN x % 9223372036854775808) := by omega
  rw [h1, uN_shl, h2]
  exact (Nat.two_pow_add_eq_or_of_lt (i := 1) hy _).symm
theorem nat_xor {a : Nat} (h : a < 18446744073709551616) : a ^^^ 2 ^ 63 = (a + 9223372036854775808) % 18446744073709551616 := by
  have h1 : (a ^^^ 2 ^ 63) % 2 ^ 63 = a % 2 ^ 63 := by rw [Nat.xor_mod_two_pow, Nat.mod_self, Nat.xor_zero]
  have h2 : (a ^^^ 2 ^ 63) / 2 ^ 63 = (a / 2 ^ 63) ^^^ 1 := by rw [Nat.xor_div_two_pow, Nat.div_self (Nat.two_pow_pos 63)]
  have h3 : a / 2 ^ 63 = 0 ∨ a / 2 ^ 63 = 1 := by omega
  generalize a ^^^ 2 ^ 63 = t at h1 h2
  rcases h3 with h3 | h3
  · rw [h3] at h2
    have h2 : t / 2 ^ 63 = 1 := h2
    omega
  · rw [h3] at h2
    have h2 : t / 2 ^ 63 = 0 := h2
    omega
theorem uN_xor (x : Int64) : uN (x ^^^ (-9223372036854775808)) = (uN x + 9223372036854775808) % 18446744073709551616 := by
  rw [← nat_xor (uN_lt x)]
  exact UInt64.toNat_xor _ _
theorem uN_int (x : Int64) : x.toInt = if 2 * uN x < 18446744073709551616 then (uN x : Int) else (uN x : Int) - 18446744073709551616 := BitVec.toInt_eq_toNat_cond _
theorem uN_le (x y : Int64) : (x ^^^ (-9223372036854775808)) ≤ (y ^^^ (-9223372036854775808)) ↔ uN x ≤ uN y := by
  have hx := uN_lt x
  have hy := uN_lt y
  rw [Int64.le_iff_toInt_le, uN_int, uN_int, uN_xor, uN_xor]
  omega
theorem uN_sk (x : Int64) {k : Nat} (hk : k < 64) : uN (x.toUInt64 >>> ((nI k).toInt64.toUInt64 &&& Int64.toUInt64 63)).toInt64 = uN x / 2 ^ k := by
  have h : ((nI k).toInt64.toUInt64 &&& Int64.toUInt64 63).toNat % 64 = k := by
    rw [nI_l (by omega), UInt64.toNat_and]
    have e : (lN k).toUInt64.toNat = k % 2 ^ 64 := rfl
    have e2 : (Int64.toUInt64 63).toNat = 2 ^ 6 - 1 := by decide
    rw [e, e2, Nat.and_two_pow_sub_one_eq_mod]
    omega
  rw [uN_shr, h]
/-! ===== unsigned comparison by xor with the least ===== -/
theorem lN_bv (n : Nat) : (lN n).toBitVec = BitVec.ofNat 64 n := rfl
theorem lN_nat {n : Nat} (h : n < 2 ^ 64) : (lN n).toBitVec.toNat = n := by rw [lN_bv, BitVec.toNat_ofNat]; exact Nat.mod_eq_of_lt h
theorem lN_xor (a b : Nat) : lN a ^^^ lN b = lN (a ^^^ b) := by
  apply Int64.toBitVec_inj.mp; rw [Int64.toBitVec_xor, lN_bv, lN_bv, lN_bv]; apply BitVec.eq_of_getLsbD_eq; intro i hi; simp [BitVec.getLsbD_ofNat, Nat.testBit_xor, hi]
theorem lN_ti {m : Nat} (h : m < 2 ^ 64) : (lN m).toInt = if m < 2 ^ 63 then (m : Int) else (m : Int) - 2 ^ 64 := by
  have c := BitVec.toInt_eq_toNat_cond (lN m).toBitVec
  rw [lN_nat h] at c
  show (lN m).toBitVec.toInt = _
  rw [c]
  split <;> split <;> omega
theorem xor63 {x : Nat} (h : x < 2 ^ 63) : x ^^^ 2 ^ 63 = 2 ^ 63 + x := by
  apply Nat.eq_of_testBit_eq
  intro i
  rw [Nat.testBit_xor, Nat.testBit_two_pow]
  rcases Nat.lt_trichotomy i 63 with z | z | z
  · rw [Nat.testBit_two_pow_add_gt z, decide_eq_false (by omega)]; simp
  · subst z; rw [Nat.testBit_two_pow_add_eq]; simp
  · have hp : 2 ^ 64 ≤ 2 ^ i := Nat.pow_le_pow_right (by decide) z
    rw [Nat.testBit_lt_two_pow (show x < 2 ^ i by omega), Nat.testBit_lt_two_pow (show 2 ^ 63 + x < 2 ^ i by omega), decide_eq_false (by omega)]; rfl
theorem xorS {a : Nat} (h : a < 2 ^ 64) : (lN a ^^^ (-9223372036854775808)).toInt = (a : Int) - 2 ^ 63 := by
  rw [show (-9223372036854775808 : Int64) = lN (2 ^ 63) from by decide +kernel, lN_xor]
  rcases Nat.lt_or_ge a (2 ^ 63) with z | z
  · rw [xor63 z, lN_ti (by omega), if_neg (by omega)]; omega
  · obtain ⟨x, rfl⟩ : ∃ x, a = 2 ^ 63 + x := ⟨a - 2 ^ 63, by omega⟩
    rw [← xor63 (by omega), Nat.xor_assoc, Nat.xor_self, Nat.xor_zero, lN_ti (by omega), if_pos (by omega), xor63 (by omega)]; omega
theorem ultL {a b : Nat} (ha : a < 2 ^ 64) (hb : b < 2 ^ 64) : ((lN b ^^^ (-9223372036854775808)) ≤ (lN a ^^^ (-9223372036854775808))) ↔ b ≤ a := by
  rw [Int64.le_iff_toInt_le, xorS ha, xorS hb]; omega
/-! ===== Int64 masks of n low bits ===== -/
theorem cr_bits (W U M : BitVec 64) : ((W &&& U) &&& (U &&& (M ^^^ BitVec.allOnes 64))) = 0#64 ↔ (W &&& U) &&& M = W &&& U := by
  constructor
  · intro h
    apply BitVec.eq_of_getLsbD_eq
    intro i hi
    have e := congrArg (fun x => BitVec.getLsbD x i) h
    simp only [BitVec.getLsbD_and, BitVec.getLsbD_xor, BitVec.getLsbD_allOnes, BitVec.getLsbD_zero, hi, decide_true] at e ⊢
    revert e
    cases W.getLsbD i <;> cases U.getLsbD i <;> cases M.getLsbD i <;> decide
  · intro h
    apply BitVec.eq_of_getLsbD_eq
    intro i hi
    have e := congrArg (fun x => BitVec.getLsbD x i) h
    simp only [BitVec.getLsbD_and, BitVec.getLsbD_xor, BitVec.getLsbD_allOnes, BitVec.getLsbD_zero, hi, decide_true] at e ⊢
    revert e
    cases W.getLsbD i <;> cases U.getLsbD i <;> cases M.getLsbD i <;> decide
theorem cr_mask (w U m : Int64) (n : Nat) (hm : m.toBitVec.toNat = 2 ^ n - 1) : ((w &&& U) &&& (U &&& (m ^^^ (-1)))) = 0 ↔ (w &&& U).toBitVec.toNat < 2 ^ n := by
  have e0 : (-1 : Int64).toBitVec = BitVec.allOnes 64 := by decide
  have z0 : (0 : Int64).toBitVec = 0#64 := by decide
  rw [← Int64.toBitVec_inj, z0, Int64.toBitVec_and, Int64.toBitVec_and, Int64.toBitVec_and, Int64.toBitVec_xor, e0, cr_bits]
  generalize w.toBitVec &&& U.toBitVec = T
  rw [← BitVec.toNat_inj, BitVec.toNat_and, hm, Nat.and_two_pow_sub_one_eq_mod]
  constructor
  · intro h
    have t := Nat.mod_lt T.toNat (Nat.two_pow_pos n)
    rw [h] at t
    exact t
  · exact Nat.mod_eq_of_lt
theorem cr_shr (t : Int64) (x : UInt64) (n : Nat) (hx : x.toNat % 64 = n) : (t.toUInt64 >>> x).toInt64 = 0 ↔ t.toBitVec.toNat < 2 ^ n := by
  rw [← Int64.toBitVec_inj, ← BitVec.toNat_inj]
  show (t.toUInt64 >>> x).toNat = 0 ↔ t.toUInt64.toNat < 2 ^ n
  rw [UInt64.toNat_shiftRight, hx, Nat.shiftRight_eq_div_pow]
  constructor
  · intro h
    have d : t.toUInt64.toNat / 2 ^ n < 1 := by
      rw [h]
      decide
    have e := (Nat.div_lt_iff_lt_mul (Nat.two_pow_pos n)).mp d
    rw [Nat.one_mul] at e
    exact e
  · exact Nat.div_eq_of_lt
theorem cr_amt (s : Int64) : ∃ n, n < 64 ∧ s &&& 63 = lN n ∧ (s.toUInt64 &&& Int64.toUInt64 63).toNat % 64 = n := by
  have e : (s.toUInt64 &&& Int64.toUInt64 63).toNat = s.toUInt64.toNat % 2 ^ 6 := by
    rw [UInt64.toNat_and, show (Int64.toUInt64 63).toNat = 2 ^ 6 - 1 from by decide, Nat.and_two_pow_sub_one_eq_mod]
  refine ⟨s.toUInt64.toNat % 2 ^ 6, by omega, ?_, by omega⟩
  rw [← Int64.toBitVec_inj, ← BitVec.toNat_inj]
  show (s.toUInt64 &&& Int64.toUInt64 63).toNat = (BitVec.ofNat 64 (s.toUInt64.toNat % 2 ^ 6)).toNat
  rw [e, BitVec.toNat_ofNat]
  omega
end
section
/-! counts of numbers and of rows -/
noncomputable def sr_b (P : Prop) : Nat := @ite Nat P (Classical.propDecidable P) 1 0
theorem sr_b_t {P : Prop} (h : P) : sr_b P = 1 := by unfold sr_b; rw [if_pos h]
theorem sr_b_f {P : Prop} (h : ¬ P) : sr_b P = 0 := by unfold sr_b; rw [if_neg h]
theorem sr_b_le (P : Prop) : sr_b P ≤ 1 := by
  rcases Classical.em P with h | h
  · rw [sr_b_t h]; omega
  · rw [sr_b_f h]; omega
theorem sr_b_mono {P Q : Prop} (h : P → Q) : sr_b P ≤ sr_b Q := by
  rcases Classical.em P with hp | hp
  · rw [sr_b_t hp, sr_b_t (h hp)]; omega
  · rw [sr_b_f hp]; omega
theorem sr_b_c {P Q : Prop} (h : P ↔ Q) : sr_b P = sr_b Q := by rw [propext h]
noncomputable def sr_cn (P : Nat → Prop) : Nat → Nat
  | 0 => 0
  | k + 1 => sr_cn P k + sr_b (P k)
theorem sr_cn_mono {P Q : Nat → Prop} : ∀ {N : Nat}, (∀ k, k < N → P k → Q k) → sr_cn P N ≤ sr_cn Q N
  | 0, _ => Nat.le_refl _
  | N + 1, h => by
    have a := sr_cn_mono (P := P) (Q := Q) (N := N) (fun k hk => h k (by omega))
    have b := sr_b_mono (h N (by omega))
    simp only [sr_cn]; omega
theorem sr_cn_eq {P Q : Nat → Prop} {N : Nat} (h : ∀ k, k < N → (P k ↔ Q k)) : sr_cn P N = sr_cn Q N :=
  Nat.le_antisymm (sr_cn_mono fun k hk => (h k hk).mp) (sr_cn_mono fun k hk => (h k hk).mpr)
theorem sr_cn_lt {P Q : Nat → Prop} {a : Nat} (hp : ¬ P a) (hq : Q a) : ∀ {N : Nat}, (∀ k, k < N → P k → Q k) → a < N → sr_cn P N < sr_cn Q N
  | 0, _, h => by omega
  | N + 1, h, ha => by
    simp only [sr_cn]
    rcases Nat.lt_or_ge a N with z | z
    · have x := sr_cn_lt hp hq (N := N) (fun k hk => h k (by omega)) z
      have b := sr_b_mono (h N (by omega))
      omega
    · have e : a = N := by omega
      subst e
      have x := sr_cn_mono (P := P) (Q := Q) (N := a) (fun k hk => h k (by omega))
      rw [sr_b_t hq, sr_b_f hp]; omega
theorem sr_cn_le (P : Nat → Prop) : ∀ N, sr_cn P N ≤ N
  | 0 => Nat.le_refl _
  | N + 1 => by have := sr_cn_le P N; have := sr_b_le (P N); simp only [sr_cn]; omega
theorem sr_cn_or {P Q R : Nat → Prop} : ∀ {N : Nat}, (∀ k, k < N → (R k ↔ (P k ∨ Q k))) → (∀ k, k < N → P k → Q k → False) → sr_cn R N = sr_cn P N + sr_cn Q N
  | 0, _, _ => rfl
  | N + 1, h, d => by
    have a := sr_cn_or (P := P) (Q := Q) (R := R) (N := N) (fun k hk => h k (by omega)) (fun k hk => d k (by omega))
    have e := h N (by omega)
    have dd := d N (by omega)
    simp only [sr_cn]
    have b : sr_b (R N) = sr_b (P N) + sr_b (Q N) := by
      rw [sr_b_c e]
      rcases Classical.em (P N) with hp | hp
      · rw [sr_b_t (Or.inl hp), sr_b_t hp, sr_b_f (fun hq => dd hp hq)]
      · rcases Classical.em (Q N) with hq | hq
        · rw [sr_b_t (Or.inr hq), sr_b_f hp, sr_b_t hq]
        · rw [sr_b_f (fun z => z.elim hp hq), sr_b_f hp, sr_b_f hq]
    omega
theorem sr_cn_0 {P : Nat → Prop} : ∀ {N : Nat}, (∀ k, k < N → ¬ P k) → sr_cn P N = 0
  | 0, _ => rfl
  | N + 1, h => by
    simp only [sr_cn]
    rw [sr_cn_0 (N := N) (fun k hk => h k (by omega)), sr_b_f (h N (by omega))]
theorem sr_cn_one {P : Nat → Prop} {a : Nat} : ∀ {N : Nat}, a < N → (∀ k, k < N → k ≠ a → ¬ P k) → sr_cn P N = sr_b (P a)
  | 0, h, _ => by omega
  | N + 1, ha, h => by
    simp only [sr_cn]
    rcases Nat.lt_or_ge a N with z | z
    · rw [sr_cn_one (N := N) z (fun k hk => h k (by omega)), sr_b_f (h N (by omega) (by omega))]
      omega
    · have e : a = N := by omega
      subst e
      rw [sr_cn_0 (fun k hk => h k (by omega) (by omega))]
      omega
theorem sr_cn_pos {P : Nat → Prop} : ∀ {N : Nat}, 0 < sr_cn P N ↔ ∃ k, k < N ∧ P k
  | 0 => ⟨fun h => by simp only [sr_cn] at h; omega, fun ⟨k, hk, _⟩ => by omega⟩
  | N + 1 => by
    have ih := sr_cn_pos (P := P) (N := N)
    simp only [sr_cn]
    constructor
    · intro h
      rcases Classical.em (P N) with hp | hp
      · exact ⟨N, by omega, hp⟩
      · rw [sr_b_f hp] at h
        obtain ⟨k, hk, h2⟩ := ih.mp (by omega)
        exact ⟨k, by omega, h2⟩
    · intro ⟨k, hk, h⟩
      rcases Nat.lt_or_ge k N with z | z
      · have := ih.mpr ⟨k, z, h⟩
        omega
      · have e : k = N := by omega
        subst e
        rw [sr_b_t h]; omega
theorem sr_cn_add (P : Nat → Prop) (a : Nat) : ∀ b, sr_cn P (a + b) = sr_cn P a + sr_cn (fun k => P (a + k)) b
  | 0 => by simp only [sr_cn]; rfl
  | b + 1 => by
    have e : a + (b + 1) = (a + b) + 1 := by omega
    rw [e]
    simp only [sr_cn]
    rw [sr_cn_add P a b]
    omega
noncomputable def sr_lc {α : Type} (P : α → Prop) : List α → Nat
  | [] => 0
  | x :: l => sr_b (P x) + sr_lc P l
theorem sr_lc_app {α : Type} (P : α → Prop) : ∀ l m : List α, sr_lc P (l ++ m) = sr_lc P l + sr_lc P m
  | [], m => by simp only [List.nil_append, sr_lc]; omega
  | x :: l, m => by
    simp only [List.cons_append, sr_lc]
    rw [sr_lc_app P l m]
    omega
theorem sr_lc_pos {α : Type} {P : α → Prop} : ∀ {l : List α}, 0 < sr_lc P l ↔ ∃ x, x ∈ l ∧ P x
  | [] => ⟨fun h => by simp only [sr_lc] at h; omega, fun ⟨x, hx, _⟩ => by simp at hx⟩
  | x :: l => by
    have ih := sr_lc_pos (P := P) (l := l)
    simp only [sr_lc]
    constructor
    · intro h
      rcases Classical.em (P x) with hp | hp
      · exact ⟨x, by simp, hp⟩
      · rw [sr_b_f hp] at h
        obtain ⟨y, hy, h2⟩ := ih.mp (by omega)
        exact ⟨y, by simp [hy], h2⟩
    · intro ⟨y, hy, h⟩
      rcases List.mem_cons.mp hy with z | z
      · subst z; rw [sr_b_t h]; omega
      · have := ih.mpr ⟨y, z, h⟩
        omega
theorem sr_lc_mono {α : Type} {P Q : α → Prop} (h : ∀ x, P x → Q x) : ∀ l : List α, sr_lc P l ≤ sr_lc Q l
  | [] => Nat.le_refl _
  | x :: l => by
    have := sr_lc_mono h l
    have := sr_b_mono (h x)
    simp only [sr_lc]; omega
/-! digits to bases of 1 or 6 -/
noncomputable def sr_w (S : Nat → Prop) (v : Nat) : Nat := 1 + 5 * sr_b (S v)
theorem sr_w_t {S : Nat → Prop} {v : Nat} (h : S v) : sr_w S v = 6 := by unfold sr_w; rw [sr_b_t h]
theorem sr_w_f {S : Nat → Prop} {v : Nat} (h : ¬ S v) : sr_w S v = 1 := by unfold sr_w; rw [sr_b_f h]
theorem sr_w_pos (S : Nat → Prop) (v : Nat) : 0 < sr_w S v := by unfold sr_w; omega
theorem sr_w_le (S : Nat → Prop) (v : Nat) : sr_w S v ≤ 6 := by unfold sr_w; have := sr_b_le (S v); omega
noncomputable def sr_Nn (S : Nat → Prop) : Nat → Nat
  | 0 => 1
  | v + 1 => sr_w S v * sr_Nn S v
noncomputable def sr_rs (S : Nat → Prop) (c : Nat) : Nat → Nat
  | 0 => c
  | v + 1 => sr_rs S c v / sr_w S v
noncomputable def sr_th (S : Nat → Prop) (c v : Nat) : Nat := sr_rs S c v % sr_w S v
theorem sr_Nn_le (S : Nat → Prop) : ∀ v, sr_Nn S v ≤ 6 ^ v
  | 0 => Nat.le_refl _
  | v + 1 => by
    have a := sr_Nn_le S v
    have b := sr_w_le S v
    simp only [sr_Nn]
    rw [Nat.pow_succ, Nat.mul_comm (6 ^ v)]
    exact Nat.mul_le_mul b a
theorem sr_N4 (S : Nat → Prop) : sr_Nn S 4 ≤ 1296 := sr_Nn_le S 4
theorem sr_rs_div (S : Nat → Prop) (c : Nat) : ∀ v, sr_rs S c v = c / sr_Nn S v
  | 0 => by simp only [sr_rs, sr_Nn, Nat.div_one]
  | v + 1 => by
    simp only [sr_rs, sr_Nn]
    rw [sr_rs_div S c v, Nat.div_div_eq_div_mul, Nat.mul_comm]
theorem sr_th_lt (S : Nat → Prop) (c v : Nat) : sr_th S c v < 6 := Nat.lt_of_lt_of_le (Nat.mod_lt _ (sr_w_pos S v)) (sr_w_le S v)
theorem sr_th_0 {S : Nat → Prop} {c v : Nat} (h : ¬ S v) : sr_th S c v = 0 := by
  unfold sr_th
  rw [sr_w_f h, Nat.mod_one]
theorem sr_th_inj {S : Nat → Prop} {c d : Nat} (hc : c < sr_Nn S 4) (hd : d < sr_Nn S 4) (h : ∀ v, v < 4 → sr_th S c v = sr_th S d v) : c = d := by
  have e4 : sr_rs S c 4 = sr_rs S d 4 := by rw [sr_rs_div, sr_rs_div, Nat.div_eq_of_lt hc, Nat.div_eq_of_lt hd]
  have st : ∀ v, v < 4 → sr_rs S c (v + 1) = sr_rs S d (v + 1) → sr_rs S c v = sr_rs S d v := by
    intro v hv e
    have a := Nat.div_add_mod (sr_rs S c v) (sr_w S v)
    have b := Nat.div_add_mod (sr_rs S d v) (sr_w S v)
    have e2 : sr_rs S c v / sr_w S v = sr_rs S d v / sr_w S v := e
    have e3 : sr_rs S c v % sr_w S v = sr_rs S d v % sr_w S v := h v hv
    rw [e2, e3] at a
    exact a.symm.trans b
  exact st 0 (by omega) (st 1 (by omega) (st 2 (by omega) (st 3 (by omega) e4)))
theorem sr_th_ex (S : Nat → Prop) (b : Nat → Nat) (h : ∀ v, v < 4 → b v < sr_w S v) : ∃ c, c < sr_Nn S 4 ∧ ∀ v, v < 4 → sr_th S c v = b v := by
  have dm : ∀ w x y : Nat, x < w → (x + w * y) % w = x ∧ (x + w * y) / w = y := by
    intro w x y hx
    constructor
    · rw [Nat.add_mul_mod_self_left, Nat.mod_eq_of_lt hx]
    · rw [Nat.add_mul_div_left _ _ (by omega), Nat.div_eq_of_lt hx, Nat.zero_add]
  have d0 := dm (sr_w S 0) (b 0) (b 1 + sr_w S 1 * (b 2 + sr_w S 2 * b 3)) (h 0 (by omega))
  have d1 := dm (sr_w S 1) (b 1) (b 2 + sr_w S 2 * b 3) (h 1 (by omega))
  have d2 := dm (sr_w S 2) (b 2) (b 3) (h 2 (by omega))
  have h3 := h 3 (by omega)
  have r1 : sr_rs S (b 0 + sr_w S 0 * (b 1 + sr_w S 1 * (b 2 + sr_w S 2 * b 3))) 1 = b 1 + sr_w S 1 * (b 2 + sr_w S 2 * b 3) := d0.2
  have r2 : sr_rs S (b 0 + sr_w S 0 * (b 1 + sr_w S 1 * (b 2 + sr_w S 2 * b 3))) 2 = b 2 + sr_w S 2 * b 3 := by
    show sr_rs S _ 1 / _ = _
    rw [r1]; exact d1.2
  have r3 : sr_rs S (b 0 + sr_w S 0 * (b 1 + sr_w S 1 * (b 2 + sr_w S 2 * b 3))) 3 = b 3 := by
    show sr_rs S _ 2 / _ = _
    rw [r2]; exact d2.2
  have r4 : sr_rs S (b 0 + sr_w S 0 * (b 1 + sr_w S 1 * (b 2 + sr_w S 2 * b 3))) 4 = 0 := by
    show sr_rs S _ 3 / _ = _
    rw [r3]; exact Nat.div_eq_of_lt h3
  have pos : 0 < sr_Nn S 4 := by
    simp only [sr_Nn]
    have p0 := sr_w_pos S 0
    have p1 := sr_w_pos S 1
    have p2 := sr_w_pos S 2
    have p3 := sr_w_pos S 3
    exact Nat.mul_pos p3 (Nat.mul_pos p2 (Nat.mul_pos p1 (Nat.mul_pos p0 (by omega))))
  refine ⟨b 0 + sr_w S 0 * (b 1 + sr_w S 1 * (b 2 + sr_w S 2 * b 3)), ?_, ?_⟩
  · rw [sr_rs_div] at r4
    exact (Nat.div_eq_zero_iff.mp r4).resolve_left (by omega)
  · intro v hv
    have hh : v = 0 ∨ v = 1 ∨ v = 2 ∨ v = 3 := by omega
    rcases hh with e | e | e | e
    · subst e; exact d0.1
    · subst e; unfold sr_th; rw [r1]; exact d1.1
    · subst e; unfold sr_th; rw [r2]; exact d2.1
    · subst e; unfold sr_th; rw [r3]; exact Nat.mod_eq_of_lt h3
end
section
/-! rows of bindings, and the list of all that a join reaches -/
def sr_lb (w : Int64) (j : Nat) : Bool := w.toBitVec.getLsbD j
def sr_tv (θ : Nat → Nat) (t : Nat) : Nat := if t < 4 then θ t else t - 4
def sr_fc (θ : Nat → Nat) (a : Nat) : Nat := 6 * sr_tv θ (a / 10 % 10) + sr_tv θ (a % 10)
def sr_oc (a v : Nat) : Prop := v = a / 10 % 10 ∨ v = a % 10
def sr_ag (β : Nat → Int32) (t x : Nat) : Option (Nat → Int32) :=
  if t < 4 then (if β t = -1 then some (upd β t (nI x)) else if β t = nI x then some β else none) else if t - 4 = x then some β else none
def sr_bd (β : Nat → Int32) (a f : Nat) : Option (Nat → Int32) := (sr_ag β (a / 10 % 10) (f / 6)).bind (fun γ => sr_ag γ (a % 10) (f % 6))
def sr_bq (β : Nat → Int32) (a : Nat) (w : Int64) (f : Nat) : Option (Nat → Int32) := if sr_lb w f = true then sr_bd β a f else none
def sr_ex (β : Nat → Int32) (θ : Nat → Nat) : Prop := ∀ v, v < 4 → β v = -1 ∨ β v = nI (θ v)
def sr_ro (D : Nat → Prop) (β : Nat → Int32) : Prop := ∀ v, v < 4 → (D v ∧ ∃ b, b < 6 ∧ β v = nI b) ∨ (¬ D v ∧ β v = -1)
theorem sr_nm1 {x : Nat} (h : x < 6) : ¬ nI x = -1 := by
  intro e
  have a := congrArg Int32.toInt e
  rw [nI_toInt (by omega), show (-1 : Int32).toInt = -1 from by decide] at a
  omega
theorem sr_tv_lt {θ : Nat → Nat} {t : Nat} (hθ : ∀ v, v < 4 → θ v < 6) (ht : t < 10) : sr_tv θ t < 6 := by
  unfold sr_tv
  by_cases h : t < 4
  · rw [if_pos h]; exact hθ t h
  · rw [if_neg h]; omega
theorem sr_fc_lt {θ : Nat → Nat} (a : Nat) (hθ : ∀ v, v < 4 → θ v < 6) : sr_fc θ a < 36 := by
  have h1 := sr_tv_lt (t := a / 10 % 10) hθ (by omega)
  have h2 := sr_tv_lt (t := a % 10) hθ (by omega)
  unfold sr_fc
  omega
theorem sr_ag_ex {β : Nat → Int32} {θ : Nat → Nat} {t x : Nat} (hθ : ∀ v, v < 4 → θ v < 6) (hx : x < 6) : (sr_ex β θ ∧ sr_tv θ t = x) ↔ ∃ γ, sr_ag β t x = some γ ∧ sr_ex γ θ := by
  unfold sr_ag sr_tv
  by_cases ht : t < 4
  · rw [if_pos ht, if_pos ht]
    have ht6 := hθ t ht
    by_cases h1 : β t = -1
    · rw [if_pos h1]
      constructor
      · intro ⟨he, hv⟩
        refine ⟨_, rfl, ?_⟩
        intro v hv4
        by_cases e : v = t
        · subst e; right; rw [pk_us, hv]
        · rw [pk_un e]; exact he v hv4
      · intro ⟨γ, hg, he⟩
        cases hg
        have het := he t ht
        rw [pk_us] at het
        have hxe : θ t = x := by
          rcases het with z | z
          · exact absurd z (sr_nm1 hx)
          · exact ((nI_eq (by omega) (by omega)).mp z).symm
        refine ⟨?_, hxe⟩
        intro v hv4
        by_cases e : v = t
        · subst e; exact Or.inl h1
        · have := he v hv4; rw [pk_un e] at this; exact this
    · rw [if_neg h1]
      by_cases h2 : β t = nI x
      · rw [if_pos h2]
        constructor
        · intro ⟨he, _⟩; exact ⟨β, rfl, he⟩
        · intro ⟨γ, hg, he⟩
          cases hg
          refine ⟨he, ?_⟩
          rcases he t ht with z | z
          · exact absurd z h1
          · exact ((nI_eq (by omega) (by omega)).mp (h2.symm.trans z)).symm
      · rw [if_neg h2]
        constructor
        · intro ⟨he, hv⟩
          rcases he t ht with z | z
          · exact absurd z h1
          · rw [hv] at z; exact absurd z h2
        · intro ⟨γ, hg, _⟩; cases hg
  · rw [if_neg ht, if_neg ht]
    by_cases h : t - 4 = x
    · rw [if_pos h]
      exact ⟨fun ⟨he, _⟩ => ⟨β, rfl, he⟩, fun ⟨γ, hg, he⟩ => by cases hg; exact ⟨he, h⟩⟩
    · rw [if_neg h]
      exact ⟨fun ⟨_, hv⟩ => absurd hv h, fun ⟨γ, hg, _⟩ => by cases hg⟩
theorem sr_bd_ex {β : Nat → Int32} {θ : Nat → Nat} {a f : Nat} (hθ : ∀ v, v < 4 → θ v < 6) (hf : f < 36) : (sr_ex β θ ∧ sr_fc θ a = f) ↔ ∃ γ, sr_bd β a f = some γ ∧ sr_ex γ θ := by
  have h2 := sr_tv_lt (t := a % 10) hθ (by omega)
  have e1 := sr_ag_ex (β := β) (t := a / 10 % 10) (x := f / 6) hθ (by omega)
  unfold sr_bd sr_fc
  constructor
  · intro ⟨he, hv⟩
    obtain ⟨γ, hg, hge⟩ := e1.mp ⟨he, by omega⟩
    obtain ⟨δ, hd, hde⟩ := (sr_ag_ex (β := γ) (t := a % 10) (x := f % 6) hθ (by omega)).mp ⟨hge, by omega⟩
    exact ⟨δ, by rw [hg]; exact hd, hde⟩
  · intro ⟨δ, hd, hde⟩
    cases hg : sr_ag β (a / 10 % 10) (f / 6) with
    | none => rw [hg] at hd; cases hd
    | some γ =>
      rw [hg] at hd
      have hd2 : sr_ag γ (a % 10) (f % 6) = some δ := hd
      obtain ⟨hge, y⟩ := (sr_ag_ex (β := γ) (t := a % 10) (x := f % 6) hθ (by omega)).mpr ⟨δ, hd2, hde⟩
      obtain ⟨he, x⟩ := e1.mpr ⟨γ, hg, hge⟩
      exact ⟨he, by omega⟩
theorem sr_ag_ro {D : Nat → Prop} {β γ : Nat → Int32} {t x : Nat} (hx : x < 6) (h : sr_ro D β) (hg : sr_ag β t x = some γ) : sr_ro (fun v => D v ∨ v = t) γ := by
  unfold sr_ag at hg
  intro v hv
  by_cases ht : t < 4
  · rw [if_pos ht] at hg
    by_cases h1 : β t = -1
    · rw [if_pos h1] at hg
      cases hg
      by_cases e : v = t
      · subst e; left; exact ⟨Or.inr rfl, x, hx, pk_us⟩
      · rw [pk_un e]
        rcases h v hv with ⟨a, b⟩ | ⟨a, b⟩
        · exact Or.inl ⟨Or.inl a, b⟩
        · exact Or.inr ⟨fun z => z.elim a e, b⟩
    · rw [if_neg h1] at hg
      by_cases h2 : β t = nI x
      · rw [if_pos h2] at hg
        cases hg
        by_cases e : v = t
        · subst e; left; exact ⟨Or.inr rfl, x, hx, h2⟩
        · rcases h v hv with ⟨a, b⟩ | ⟨a, b⟩
          · exact Or.inl ⟨Or.inl a, b⟩
          · exact Or.inr ⟨fun z => z.elim a e, b⟩
      · rw [if_neg h2] at hg; cases hg
  · rw [if_neg ht] at hg
    by_cases h1 : t - 4 = x
    · rw [if_pos h1] at hg
      cases hg
      rcases h v hv with ⟨a, b⟩ | ⟨a, b⟩
      · exact Or.inl ⟨Or.inl a, b⟩
      · exact Or.inr ⟨fun z => z.elim a (fun e => by omega), b⟩
    · rw [if_neg h1] at hg; cases hg
theorem sr_ro_c {D E : Nat → Prop} {β : Nat → Int32} (e : ∀ v, v < 4 → (D v ↔ E v)) (h : sr_ro D β) : sr_ro E β := by
  intro v hv
  rcases h v hv with ⟨a, b⟩ | ⟨a, b⟩
  · exact Or.inl ⟨(e v hv).mp a, b⟩
  · exact Or.inr ⟨fun z => a ((e v hv).mpr z), b⟩
theorem sr_bd_ro {D : Nat → Prop} {β γ : Nat → Int32} {a f : Nat} (hf : f < 36) (h : sr_ro D β) (hg : sr_bd β a f = some γ) : sr_ro (fun v => D v ∨ sr_oc a v) γ := by
  unfold sr_bd at hg
  cases h1 : sr_ag β (a / 10 % 10) (f / 6) with
  | none => rw [h1] at hg; cases hg
  | some δ =>
    rw [h1] at hg
    have hg2 : sr_ag δ (a % 10) (f % 6) = some γ := hg
    refine sr_ro_c ?_ (sr_ag_ro (by omega) (sr_ag_ro (by omega) h h1) hg2)
    intro v _
    unfold sr_oc
    exact ⟨fun z => z.elim (fun y => y.elim Or.inl (fun e => Or.inr (Or.inl e))) (fun e => Or.inr (Or.inr e)), fun z => z.elim (fun y => Or.inl (Or.inl y)) (fun y => y.elim (fun e => Or.inl (Or.inr e)) (fun e => Or.inr e))⟩
theorem sr_bq_ro {D : Nat → Prop} {β γ : Nat → Int32} {a f : Nat} {w : Int64} (hf : f < 36) (h : sr_ro D β) (hg : sr_bq β a w f = some γ) : sr_ro (fun v => D v ∨ sr_oc a v) γ := by
  unfold sr_bq at hg
  by_cases hb : sr_lb w f = true
  · rw [if_pos hb] at hg; exact sr_bd_ro hf h hg
  · rw [if_neg hb] at hg; cases hg
theorem sr_bq_ex {β : Nat → Int32} {θ : Nat → Nat} {a f : Nat} {w : Int64} (hθ : ∀ v, v < 4 → θ v < 6) (hf : f < 36) : (sr_ex β θ ∧ sr_lb w (sr_fc θ a) = true ∧ sr_fc θ a = f) ↔ ∃ γ, sr_bq β a w f = some γ ∧ sr_ex γ θ := by
  unfold sr_bq
  by_cases hb : sr_lb w f = true
  · rw [if_pos hb, ← sr_bd_ex hθ hf]
    exact ⟨fun ⟨x, _, z⟩ => ⟨x, z⟩, fun ⟨x, z⟩ => ⟨x, by rw [z]; exact hb, z⟩⟩
  · rw [if_neg hb]
    exact ⟨fun ⟨_, y, z⟩ => absurd (by rw [← z]; exact y) hb, fun ⟨γ, hg, _⟩ => by cases hg⟩
def sr_fl {α : Type} (g : Nat → List α) : Nat → Nat → List α
  | 0, _ => []
  | m + 1, c => g c ++ sr_fl g m (c + 1)
def sr_sf (h : Nat → Nat) : Nat → Nat → Nat
  | 0, _ => 1
  | m + 1, c => 1 + h c + sr_sf h m (c + 1)
def sr_ol {α : Type} (e : (Nat → Int32) → List α) : Option (Nat → Int32) → List α
  | none => []
  | some γ => e γ
def sr_on (e : (Nat → Int32) → Nat) : Option (Nat → Int32) → Nat
  | none => 0
  | some γ => e γ
def sr_en : List (Nat × Int64) → (Nat → Int32) → List (Nat → Int32)
  | [], β => [β]
  | (a, w) :: l, β => sr_fl (fun f => sr_ol (sr_en l) (sr_bq β a w f)) 36 0
def sr_st : List (Nat × Int64) → (Nat → Int32) → Nat
  | [], _ => 1
  | (a, w) :: l, β => sr_sf (fun f => sr_on (sr_st l) (sr_bq β a w f)) 36 0
theorem sr_fl_cn {α : Type} {P : Nat → Prop} {F : Nat → Nat} (Q : α → Prop) (g : Nat → List α) (N : Nat) (h : ∀ f, f < 36 → sr_lc Q (g f) = sr_cn (fun c => P c ∧ F c = f) N) : ∀ m c0, c0 + m ≤ 36 → sr_lc Q (sr_fl g m c0) = sr_cn (fun c => P c ∧ c0 ≤ F c ∧ F c < c0 + m) N
  | 0, c0, _ => by
    simp only [sr_fl, sr_lc]
    exact (sr_cn_0 (fun k _ ⟨_, h1, h2⟩ => by omega)).symm
  | m + 1, c0, hm => by
    simp only [sr_fl]
    rw [sr_lc_app, h c0 (by omega), sr_fl_cn Q g N h m (c0 + 1) (by omega)]
    symm
    apply sr_cn_or
    · intro k _
      constructor
      · intro ⟨hp, h1, h2⟩
        by_cases e : F k = c0
        · exact Or.inl ⟨hp, e⟩
        · exact Or.inr ⟨hp, by omega, by omega⟩
      · intro z
        rcases z with ⟨hp, e⟩ | ⟨hp, h1, h2⟩
        · exact ⟨hp, by omega, by omega⟩
        · exact ⟨hp, by omega, by omega⟩
    · intro k _ ⟨_, e⟩ ⟨_, h1, _⟩
      omega
/-- the rows that a join reaches, counted by codes of bindings -/
theorem sr_en_cn {S : Nat → Prop} (q : (Nat → Nat) → Prop) (hq : ∀ θ η : Nat → Nat, (∀ v, v < 4 → θ v = η v) → (q θ ↔ q η)) :
    ∀ (l : List (Nat × Int64)) (D : Nat → Prop) (β : Nat → Int32), sr_ro D β → (∀ v, v < 4 → (S v ↔ (D v ∨ ∃ x, x ∈ l ∧ sr_oc x.1 v))) →
      sr_lc (fun γ => q (fun v => (γ v).toNatClampNeg)) (sr_en l β) = sr_cn (fun c => sr_ex β (sr_th S c) ∧ (∀ x, x ∈ l → sr_lb x.2 (sr_fc (sr_th S c) x.1) = true) ∧ q (sr_th S c)) (sr_Nn S 4) := by
  intro l
  induction l with
  | nil =>
    intro D β hro hS
    have hb : ∀ v, v < 4 → (β v).toNatClampNeg < sr_w S v := by
      intro v hv
      rcases hro v hv with ⟨a, b, hb, e⟩ | ⟨a, e⟩
      · rw [e, nI_clamp (by omega), sr_w_t ((hS v hv).mpr (Or.inl a))]; exact hb
      · rw [e]; exact sr_w_pos S v
    obtain ⟨c, hc, hcv⟩ := sr_th_ex S (fun v => (β v).toNatClampNeg) hb
    have hx : sr_ex β (sr_th S c) := by
      intro v hv
      rcases hro v hv with ⟨a, b, hb, e⟩ | ⟨a, e⟩
      · right; rw [hcv v hv, e, nI_clamp (by omega)]
      · exact Or.inl e
    have hone := sr_cn_one (P := fun c => sr_ex β (sr_th S c) ∧ (∀ x, x ∈ ([] : List (Nat × Int64)) → sr_lb x.2 (sr_fc (sr_th S c) x.1) = true) ∧ q (sr_th S c)) hc (fun k hk hne ⟨he, _, _⟩ => hne (sr_th_inj hk hc (fun v hv => by
      rw [hcv v hv]
      rcases hro v hv with ⟨a, b, hb, e⟩ | ⟨a, e⟩
      · rcases he v hv with z | z
        · rw [e] at z; exact absurd z (sr_nm1 hb)
        · rw [e] at z
          rw [e, nI_clamp (by omega)]
          have := sr_th_lt S k v
          exact ((nI_eq (by omega) (by omega)).mp z).symm
      · rw [e, sr_th_0 (fun z => by
          rcases (hS v hv).mp z with y | ⟨x, hx, _⟩
          · exact a y
          · simp at hx)]
        rfl)))
    rw [hone]
    simp only [sr_en, sr_lc, Nat.add_zero]
    apply sr_b_c
    have hqe := hq (sr_th S c) (fun v => (β v).toNatClampNeg) hcv
    exact ⟨fun z => ⟨hx, fun x hx => by simp at hx, hqe.mpr z⟩, fun ⟨_, _, z⟩ => hqe.mp z⟩
  | cons aw l ih =>
    obtain ⟨a, w⟩ := aw
    intro D β hro hS
    have hθ : ∀ c v, v < 4 → sr_th S c v < 6 := fun c v _ => sr_th_lt S c v
    simp only [sr_en]
    rw [sr_fl_cn (P := fun c => sr_ex β (sr_th S c) ∧ sr_lb w (sr_fc (sr_th S c) a) = true ∧ (∀ x, x ∈ l → sr_lb x.2 (sr_fc (sr_th S c) x.1) = true) ∧ q (sr_th S c)) (F := fun c => sr_fc (sr_th S c) a) _ _ (sr_Nn S 4) ?_ 36 0 (by omega)]
    · apply sr_cn_eq
      intro c _
      have hlt := sr_fc_lt (θ := sr_th S c) a (hθ c)
      constructor
      · intro ⟨⟨h1, h2, h3, h4⟩, _, _⟩
        refine ⟨h1, ?_, h4⟩
        intro x hx
        rcases List.mem_cons.mp hx with e | e
        · subst e; exact h2
        · exact h3 x e
      · intro ⟨h1, h2, h3⟩
        exact ⟨⟨h1, h2 (a, w) (by simp), fun x hx => h2 x (by simp [hx]), h3⟩, by omega, by omega⟩
    · intro f hf
      cases hg : sr_bq β a w f with
      | none =>
        simp only [sr_ol, sr_lc]
        symm
        apply sr_cn_0
        intro c _ ⟨⟨h1, h2, _, _⟩, e⟩
        obtain ⟨γ, hg2, _⟩ := (sr_bq_ex (hθ c) hf).mp ⟨h1, h2, e⟩
        rw [hg] at hg2; cases hg2
      | some γ =>
        simp only [sr_ol]
        rw [ih (fun v => D v ∨ sr_oc a v) γ (sr_bq_ro hf hro hg) (by
          intro v hv
          rw [hS v hv]
          constructor
          · intro z
            rcases z with z | ⟨x, hx, ho⟩
            · exact Or.inl (Or.inl z)
            · rcases List.mem_cons.mp hx with e | e
              · subst e; exact Or.inl (Or.inr ho)
              · exact Or.inr ⟨x, e, ho⟩
          · intro z
            rcases z with (z | z) | ⟨x, hx, ho⟩
            · exact Or.inl z
            · exact Or.inr ⟨(a, w), by simp, z⟩
            · exact Or.inr ⟨x, by simp [hx], ho⟩)]
        apply sr_cn_eq
        intro c _
        have key := sr_bq_ex (β := β) (a := a) (w := w) (hθ c) hf
        constructor
        · intro ⟨h1, h2, h3⟩
          obtain ⟨k1, k2, k3⟩ := key.mpr ⟨γ, hg, h1⟩
          exact ⟨⟨k1, k2, h2, h3⟩, k3⟩
        · intro ⟨⟨k1, k2, h2, h3⟩, k3⟩
          obtain ⟨δ, hd, h1⟩ := key.mp ⟨k1, k2, k3⟩
          rw [hg] at hd
          cases hd
          exact ⟨h1, h2, h3⟩
def sr_NN : Nat → Nat
  | 0 => 0
  | m + 1 => 1 + 36 * sr_NN m
theorem sr_sf_le {α : Type} (h : Nat → Nat) (g : Nat → List α) (K : Nat) (hh : ∀ f, h f ≤ K + sr_lc (fun _ => True) (g f)) : ∀ m c, sr_sf h m c ≤ 1 + m + m * K + sr_lc (fun _ => True) (sr_fl g m c)
  | 0, c => by simp only [sr_sf]; omega
  | m + 1, c => by
    have a := sr_sf_le h g K hh m (c + 1)
    have b := hh c
    simp only [sr_sf, sr_fl]
    rw [sr_lc_app, Nat.add_mul]
    omega
theorem sr_st_le : ∀ (l : List (Nat × Int64)) (β : Nat → Int32), sr_st l β ≤ 37 * sr_NN l.length + sr_lc (fun _ => True) (sr_en l β)
  | [], β => by
    simp only [sr_st, sr_en, sr_lc]
    rw [sr_b_t True.intro]
    omega
  | (a, w) :: l, β => by
    have ih := sr_st_le l
    simp only [sr_st, sr_en]
    have := sr_sf_le (fun f => sr_on (sr_st l) (sr_bq β a w f)) (fun f => sr_ol (sr_en l) (sr_bq β a w f)) (37 * sr_NN l.length) (fun f => by
      cases sr_bq β a w f with
      | none => simp only [sr_on]; omega
      | some γ => simp only [sr_on, sr_ol]; exact ih γ) 36 0
    have e : sr_NN ((a, w) :: l).length = 1 + 36 * sr_NN l.length := rfl
    rw [e]
    omega
theorem sr_NN_le : ∀ n, n ≤ 3 → sr_NN n ≤ 1333 := by decide
theorem sr_st_bd {S D : Nat → Prop} (l : List (Nat × Int64)) (β : Nat → Int32) (hl : l.length ≤ 3) (hro : sr_ro D β) (hS : ∀ v, v < 4 → (S v ↔ (D v ∨ ∃ x, x ∈ l ∧ sr_oc x.1 v))) : sr_st l β ≤ 50617 := by
  have a := sr_st_le l β
  have b := sr_en_cn (S := S) (fun _ => True) (fun _ _ _ => Iff.rfl) l D β hro hS
  have c := sr_cn_le (fun c => sr_ex β (sr_th S c) ∧ (∀ x, x ∈ l → sr_lb x.2 (sr_fc (sr_th S c) x.1) = true) ∧ True) (sr_Nn S 4)
  have d := sr_N4 S
  have e := sr_NN_le l.length hl
  have b2 : sr_lc (fun _ => True) (sr_en l β) = sr_cn (fun c => sr_ex β (sr_th S c) ∧ (∀ x, x ∈ l → sr_lb x.2 (sr_fc (sr_th S c) x.1) = true) ∧ True) (sr_Nn S 4) := b
  omega
end
section
/-! rule programs: (number of rules, heads, sizes, atoms, negations); what fires; the least models, layer by layer -/
abbrev SrP : Type := Nat × (Nat → Nat) × (Nat → Nat) × (Nat → Nat) × (Nat → Bool)
def sp_n (p : SrP) : Nat := p.1
def sp_h (p : SrP) : Nat → Nat := p.2.1
def sp_s (p : SrP) : Nat → Nat := p.2.2.1
def sp_a (p : SrP) : Nat → Nat := p.2.2.2.1
def sp_g (p : SrP) : Nat → Bool := p.2.2.2.2
def sp_S (p : SrP) (r v : Nat) : Prop := ∃ k, k < sp_s p r ∧ sp_g p (3 * r + k) = false ∧ sr_oc (sp_a p (3 * r + k)) v
noncomputable def sp_N (p : SrP) (r : Nat) : Nat := sr_Nn (sp_S p r) 4
noncomputable def sp_t (p : SrP) (r c : Nat) : Nat → Nat := sr_th (sp_S p r) c
def sr_pl (θ : Nat → Nat) (a : Nat) : Nat := 36 * (a / 100) + sr_fc θ a
def sp_B (p : SrP) (A B : Nat → Prop) (r c : Nat) : Prop := ∀ k, k < sp_s p r → (sp_g p (3 * r + k) = false → A (sr_pl (sp_t p r c) (sp_a p (3 * r + k)))) ∧ (sp_g p (3 * r + k) = true → ¬ B (sr_pl (sp_t p r c) (sp_a p (3 * r + k))))
noncomputable def sp_hp (p : SrP) (r c : Nat) : Nat := sr_pl (sp_t p r c) (sp_h p r)
def sp_ac (p : SrP) (sk : Int32) (L r : Nat) : Prop := r < sp_n p ∧ ¬ nI r = sk ∧ sp_h p r / 200 = L
def sp_FR (p : SrP) (r : Nat) (A B : Nat → Prop) (h : Nat) : Prop := ∃ c, c < sp_N p r ∧ sp_B p A B r c ∧ h = sp_hp p r c
def sp_F (p : SrP) (sk : Int32) (L : Nat) (A B : Nat → Prop) (h : Nat) : Prop := ∃ r, sp_ac p sk L r ∧ sp_FR p r A B h
def sp_FN (p : SrP) (sk : Int32) (L : Nat) (Fr A B : Nat → Prop) (h : Nat) : Prop := ∃ r, sp_ac p sk L r ∧ ∃ c, c < sp_N p r ∧ sp_B p A B r c ∧ (∃ k, k < sp_s p r ∧ sp_g p (3 * r + k) = false ∧ Fr (sr_pl (sp_t p r c) (sp_a p (3 * r + k)))) ∧ h = sp_hp p r c
def sp_LF (p : SrP) (sk : Int32) (L : Nat) (N0 : Nat → Prop) (h : Nat) : Prop := ∀ C : Nat → Prop, (∀ x, N0 x → C x) → (∀ x, sp_F p sk L C N0 x → C x) → C h
def sp_M (p : SrP) (sk : Int32) (G : Nat → Prop) : Nat → (Nat → Prop)
  | 0 => G
  | L + 1 => sp_LF p sk L (sp_M p sk G L)
def sp_rk (p : SrP) (r : Nat) : Prop := sp_h p r < 800 ∧ sp_s p r ≤ 3 ∧ (∀ k, k < sp_s p r → sp_a p (3 * r + k) < 800 ∧ sp_a p (3 * r + k) / 200 ≤ sp_h p r / 200 ∧ (sp_g p (3 * r + k) = true → sp_a p (3 * r + k) / 200 < sp_h p r / 200)) ∧ (∀ v, v < 4 → (sr_oc (sp_h p r) v ∨ ∃ k, k < sp_s p r ∧ sr_oc (sp_a p (3 * r + k)) v) → sp_S p r v)
def sp_ok (p : SrP) : Prop := sp_n p ≤ 14 ∧ ∀ r, r < sp_n p → sp_rk p r
theorem sp_t_lt (p : SrP) (r c v : Nat) : sp_t p r c v < 6 := sr_th_lt _ _ _
theorem sr_pl_in {θ : Nat → Nat} (a : Nat) (hθ : ∀ v, v < 4 → θ v < 6) : 36 * (a / 100) ≤ sr_pl θ a ∧ sr_pl θ a < 36 * (a / 100) + 36 := by
  have := sr_fc_lt a hθ
  unfold sr_pl
  omega
theorem sp_pl_in (p : SrP) (r c a : Nat) : 36 * (a / 100) ≤ sr_pl (sp_t p r c) a ∧ sr_pl (sp_t p r c) a < 36 * (a / 100) + 36 := sr_pl_in a (fun v _ => sp_t_lt p r c v)
theorem sp_hp_in {p : SrP} {r : Nat} (c : Nat) : 72 * (sp_h p r / 200) ≤ sp_hp p r c ∧ sp_hp p r c < 72 * (sp_h p r / 200) + 72 := by
  have := sp_pl_in p r c (sp_h p r)
  unfold sp_hp
  omega
theorem sp_B_mono {p : SrP} {A A' B : Nat → Prop} {r c : Nat} (h : ∀ x, A x → A' x) (hb : sp_B p A B r c) : sp_B p A' B r c :=
  fun k hk => ⟨fun g => h _ ((hb k hk).1 g), (hb k hk).2⟩
theorem sp_B_loc {p : SrP} {A B B' : Nat → Prop} {r c : Nat} (hr : sp_rk p r) (h : ∀ x, x < 72 * (sp_h p r / 200) → (B x ↔ B' x)) (hb : sp_B p A B r c) : sp_B p A B' r c := by
  intro k hk
  refine ⟨(hb k hk).1, fun g z => (hb k hk).2 g ((h _ ?_).mpr z)⟩
  have a := (hr.2.2.1 k hk).2.2 g
  have b := sp_pl_in p r c (sp_a p (3 * r + k))
  omega
theorem sp_FR_mono {p : SrP} {A A' B : Nat → Prop} {r x : Nat} (h : ∀ x, A x → A' x) (hf : sp_FR p r A B x) : sp_FR p r A' B x := by
  obtain ⟨c, hc, hb, e⟩ := hf
  exact ⟨c, hc, sp_B_mono h hb, e⟩
theorem sp_F_mono {p : SrP} {sk : Int32} {L : Nat} {A A' B : Nat → Prop} {x : Nat} (h : ∀ x, A x → A' x) (hf : sp_F p sk L A B x) : sp_F p sk L A' B x := by
  obtain ⟨r, hr, hf⟩ := hf
  exact ⟨r, hr, sp_FR_mono h hf⟩
theorem sp_FR_loc {p : SrP} {L : Nat} {A B B' : Nat → Prop} {r x : Nat} (hr : sp_rk p r) (hL : sp_h p r / 200 = L) (h : ∀ x, x < 72 * L → (B x ↔ B' x)) (hf : sp_FR p r A B x) : sp_FR p r A B' x := by
  obtain ⟨c, hc, hb, e⟩ := hf
  subst hL
  exact ⟨c, hc, sp_B_loc hr h hb, e⟩
theorem sp_F_loc {p : SrP} {sk : Int32} {L : Nat} {A B B' : Nat → Prop} {x : Nat} (ok : sp_ok p) (h : ∀ x, x < 72 * L → (B x ↔ B' x)) (hf : sp_F p sk L A B x) : sp_F p sk L A B' x := by
  obtain ⟨r, hr, hf⟩ := hf
  exact ⟨r, hr, sp_FR_loc (ok.2 r hr.1) hr.2.2 h hf⟩
theorem sp_F_in {p : SrP} {sk : Int32} {L : Nat} {A B : Nat → Prop} {x : Nat} (hf : sp_F p sk L A B x) : 72 * L ≤ x ∧ x < 72 * L + 72 := by
  obtain ⟨r, hr, c, _, _, e⟩ := hf
  have := sp_hp_in (p := p) (r := r) c
  rw [hr.2.2] at this
  rw [e]; exact this
theorem sp_LF_sub {p : SrP} {sk : Int32} {L : Nat} {N0 : Nat → Prop} {x : Nat} (h : N0 x) : sp_LF p sk L N0 x := fun _ h1 _ => h1 x h
theorem sp_LF_cl {p : SrP} {sk : Int32} {L : Nat} {N0 : Nat → Prop} {x : Nat} (h : sp_F p sk L (sp_LF p sk L N0) N0 x) : sp_LF p sk L N0 x :=
  fun C h1 h2 => h2 x (sp_F_mono (fun y hy => hy C h1 h2) h)
theorem sp_M_lt {p : SrP} {sk : Int32} {G : Nat → Prop} (hG : ∀ x, G x → x < 288) : ∀ L, L ≤ 4 → ∀ x, sp_M p sk G L x → x < 288
  | 0, _, x, h => hG x h
  | L + 1, hL, x, h => h (fun y => y < 288) (fun y hy => sp_M_lt hG L (by omega) y hy) (fun y hy => by have := sp_F_in hy; omega)
/-! the reference's way: a set grows, a flag says whether it did -/
def sq_ST (L : Nat) (Fi : (Nat → Prop) → (Nat → Prop) → Nat → Prop) (S : Nat → Prop) (fl : Prop) (S' : Nat → Prop) (fl' : Prop) : Prop :=
  (∀ x, S x → S' x) ∧ (∀ x, S' x → ¬ S x → 72 * L ≤ x ∧ x < 72 * L + 72) ∧ (∀ C : Nat → Prop, (∀ x, S x → C x) → (∀ x, Fi C S x → C x) → ∀ x, S' x → C x) ∧
  (¬ fl' → ¬ fl ∧ (∀ x, S' x → S x) ∧ ∀ x, Fi S S x → S x) ∧ (fl' → fl ∨ ∃ x, S' x ∧ ¬ S x)
theorem sq_id {L : Nat} {Fi : (Nat → Prop) → (Nat → Prop) → Nat → Prop} {S : Nat → Prop} {fl : Prop} (h : ∀ x, Fi S S x → S x) : sq_ST L Fi S fl S fl :=
  ⟨fun _ z => z, fun _ a b => absurd a b, fun _ h1 _ x hx => h1 x hx, fun z => ⟨z, fun _ y => y, h⟩, Or.inl⟩
theorem sq_one {L : Nat} {Fi : (Nat → Prop) → (Nat → Prop) → Nat → Prop} {S : Nat → Prop} {fl fl' : Prop} (a : Nat) (hL : 72 * L ≤ a ∧ a < 72 * L + 72) (h : ∀ A B x, Fi A B x → x = a) (hm : ∀ A, (∀ x, S x → A x) → Fi A S a) (hf : fl' ↔ (fl ∨ ¬ S a)) : sq_ST L Fi S fl (fun x => S x ∨ x = a) fl' := by
  refine ⟨fun _ z => Or.inl z, ?_, ?_, ?_, ?_⟩
  · intro x hx hn
    rcases hx with z | z
    · exact absurd z hn
    · rw [z]; exact hL
  · intro C h1 h2 x hx
    rcases hx with z | z
    · exact h1 x z
    · rw [z]; exact h2 a (hm C h1)
  · intro hn
    rw [hf] at hn
    have sa : S a := Classical.byContradiction fun z => hn (Or.inr z)
    refine ⟨fun z => hn (Or.inl z), ?_, ?_⟩
    · intro x hx
      rcases hx with z | z
      · exact z
      · rw [z]; exact sa
    · intro x hx
      rw [h _ _ _ hx]; exact sa
  · intro hfl
    rcases hf.mp hfl with z | z
    · exact Or.inl z
    · exact Or.inr ⟨a, Or.inr rfl, z⟩
theorem sq_co {L : Nat} {F1 F2 F : (Nat → Prop) → (Nat → Prop) → Nat → Prop} {S S1 S2 : Nat → Prop} {fl fl1 fl2 : Prop} (h1 : sq_ST L F1 S fl S1 fl1) (h2 : sq_ST L F2 S1 fl1 S2 fl2)
    (loc : ∀ C B B' x, (∀ y, y < 72 * L → (B y ↔ B' y)) → F2 C B x → F2 C B' x) (hF : ∀ C B x, F C B x ↔ (F1 C B x ∨ F2 C B x)) : sq_ST L F S fl S2 fl2 := by
  obtain ⟨a1, b1, c1, d1, e1⟩ := h1
  obtain ⟨a2, b2, c2, d2, e2⟩ := h2
  refine ⟨fun x z => a2 x (a1 x z), ?_, ?_, ?_, ?_⟩
  · intro x hx hn
    rcases Classical.em (S1 x) with z | z
    · exact b1 x z hn
    · exact b2 x hx z
  · intro C h1 h2 x hx
    have k1 := c1 C h1 (fun y hy => h2 y ((hF _ _ _).mpr (Or.inl hy)))
    refine c2 C k1 (fun y hy => h2 y ((hF _ _ _).mpr (Or.inr (loc _ _ _ _ ?_ hy)))) x hx
    intro y hy
    refine ⟨fun z => Classical.byContradiction fun w => ?_, a1 y⟩
    have := b1 y z w
    omega
  · intro hn
    obtain ⟨f1, g1, k1⟩ := d2 hn
    obtain ⟨f2, g2, k2⟩ := d1 f1
    refine ⟨f2, fun x hx => g2 x (g1 x hx), ?_⟩
    intro x hx
    have e : S1 = S := funext fun y => propext ⟨g2 y, a1 y⟩
    rcases (hF _ _ _).mp hx with z | z
    · exact k2 x z
    · subst e; exact k1 x z
  · intro hfl
    rcases e2 hfl with z | ⟨x, hx, hn⟩
    · rcases e1 z with y | ⟨x, hx, hn⟩
      · exact Or.inl y
      · exact Or.inr ⟨x, a2 x hx, hn⟩
    · exact Or.inr ⟨x, hx, fun z => hn (a1 x z)⟩
theorem sq_ch {L : Nat} {F1 F : (Nat → Prop) → (Nat → Prop) → Nat → Prop} {S S1 : Nat → Prop} {fl fl1 : Prop} (h1 : sq_ST L F1 S fl S1 fl1) (hF : ∀ C B x, F C B x ↔ F1 C B x) : sq_ST L F S fl S1 fl1 := by
  have e : F = F1 := funext fun C => funext fun B => funext fun x => propext (hF C B x)
  subst e
  exact h1
def sq_in (p : SrP) (sk : Int32) (L : Nat) (N0 S : Nat → Prop) : Prop := (∀ x, N0 x → S x) ∧ (∀ x, S x → sp_LF p sk L N0 x) ∧ (∀ x, S x → ¬ N0 x → 72 * L ≤ x ∧ x < 72 * L + 72)
theorem sq_in0 (p : SrP) (sk : Int32) (L : Nat) (N0 : Nat → Prop) : sq_in p sk L N0 N0 := ⟨fun _ h => h, fun _ h => sp_LF_sub h, fun _ h n => absurd h n⟩
theorem sq_ag {p : SrP} {sk : Int32} {L : Nat} {N0 S : Nat → Prop} (h : sq_in p sk L N0 S) : ∀ x, x < 72 * L → (S x ↔ N0 x) := by
  intro x hx
  refine ⟨fun z => Classical.byContradiction fun w => ?_, h.1 x⟩
  have := h.2.2 x z w
  omega
theorem sq_in1 {p : SrP} {sk : Int32} {L : Nat} {N0 S S' : Nat → Prop} {fl fl' : Prop} (ok : sp_ok p) (h : sq_in p sk L N0 S) (st : sq_ST L (sp_F p sk L) S fl S' fl') : sq_in p sk L N0 S' := by
  refine ⟨fun x hx => st.1 x (h.1 x hx), ?_, ?_⟩
  · exact st.2.2.1 _ h.2.1 (fun x hx => sp_LF_cl (sp_F_loc ok (sq_ag h) hx))
  · intro x hx hn
    rcases Classical.em (S x) with z | z
    · exact h.2.2 x z hn
    · exact st.2.1 x hx z
theorem sq_end {p : SrP} {sk : Int32} {L : Nat} {N0 S : Nat → Prop} (ok : sp_ok p) (h : sq_in p sk L N0 S) (cl : ∀ x, sp_F p sk L S S x → S x) : S = sp_LF p sk L N0 :=
  funext fun x => propext ⟨h.2.1 x, fun z => z S h.1 (fun y hy => cl y (sp_F_loc ok (fun w hw => (sq_ag h w hw).symm) hy))⟩
noncomputable def sq_m (L : Nat) (S : Nat → Prop) : Nat := sr_cn (fun i => S (72 * L + i)) 72
theorem sq_m_le (L : Nat) (S : Nat → Prop) : sq_m L S ≤ 72 := sr_cn_le _ _
theorem sq_m_lt {L : Nat} {S S' : Nat → Prop} {x : Nat} (h : ∀ y, S y → S' y) (hx : 72 * L ≤ x ∧ x < 72 * L + 72) (h1 : S' x) (h2 : ¬ S x) : sq_m L S < sq_m L S' := by
  have e : 72 * L + (x - 72 * L) = x := by omega
  refine sr_cn_lt (a := x - 72 * L) ?_ ?_ (fun k _ z => h _ z) (by omega)
  · rw [e]; exact h2
  · rw [e]; exact h1
theorem sq_m_st {p : SrP} {sk : Int32} {L : Nat} {S S' : Nat → Prop} {fl fl' : Prop} (st : sq_ST L (sp_F p sk L) S fl S' fl') (h : ¬ fl) (h' : fl') : sq_m L S < sq_m L S' := by
  rcases st.2.2.2.2 h' with z | ⟨x, hx, hn⟩
  · exact absurd z h
  · exact sq_m_lt st.1 (st.2.1 x hx hn) hx hn
/-! the component's way: new facts apart -/
def sq_xi (p : SrP) (sk : Int32) (L : Nat) (N0 S Fr : Nat → Prop) : Prop := sq_in p sk L N0 S ∧ (∀ x, Fr x → S x) ∧ (∀ x, Fr x → ¬ N0 x) ∧ (∀ x, sp_F p sk L (fun y => S y ∧ ¬ Fr y) N0 x → S x)
theorem sq_x0 (p : SrP) (sk : Int32) (L : Nat) (N0 : Nat → Prop) : sq_xi p sk L N0 (fun x => N0 x ∨ (sp_F p sk L N0 N0 x ∧ ¬ N0 x)) (fun x => sp_F p sk L N0 N0 x ∧ ¬ N0 x) := by
  refine ⟨⟨fun _ => Or.inl, ?_, ?_⟩, fun _ => Or.inr, fun _ z => z.2, ?_⟩
  · intro x hx
    rcases hx with z | z
    · exact sp_LF_sub z
    · exact sp_LF_cl (sp_F_mono (fun _ h => sp_LF_sub h) z.1)
  · intro x hx hn
    rcases hx with z | z
    · exact absurd z hn
    · exact sp_F_in z.1
  · intro x hx
    have h2 : sp_F p sk L N0 N0 x := sp_F_mono (fun y hy => by
      rcases hy.1 with z | z
      · exact z
      · exact absurd z hy.2) hx
    rcases Classical.em (N0 x) with z | z
    · exact Or.inl z
    · exact Or.inr ⟨h2, z⟩
theorem sp_FN_F {p : SrP} {sk : Int32} {L : Nat} {Fr A B : Nat → Prop} {x : Nat} (h : sp_FN p sk L Fr A B x) : sp_F p sk L A B x := by
  obtain ⟨r, hr, c, hc, hb, _, e⟩ := h
  exact ⟨r, hr, c, hc, hb, e⟩
theorem sp_F_cases {p : SrP} {sk : Int32} {L : Nat} {Fr A B : Nat → Prop} {x : Nat} (h : sp_F p sk L A B x) : sp_F p sk L (fun y => A y ∧ ¬ Fr y) B x ∨ sp_FN p sk L Fr A B x := by
  obtain ⟨r, hr, c, hc, hb, e⟩ := h
  rcases Classical.em (∃ k, k < sp_s p r ∧ sp_g p (3 * r + k) = false ∧ Fr (sr_pl (sp_t p r c) (sp_a p (3 * r + k)))) with z | z
  · exact Or.inr ⟨r, hr, c, hc, hb, z, e⟩
  · exact Or.inl ⟨r, hr, c, hc, fun k hk => ⟨fun g => ⟨(hb k hk).1 g, fun f => z ⟨k, hk, g, f⟩⟩, (hb k hk).2⟩, e⟩
theorem sq_xs {p : SrP} {sk : Int32} {L : Nat} {N0 S Fr : Nat → Prop} (ok : sp_ok p) (h : sq_xi p sk L N0 S Fr) : sq_xi p sk L N0 (fun x => S x ∨ (sp_FN p sk L Fr S S x ∧ ¬ S x)) (fun x => sp_FN p sk L Fr S S x ∧ ¬ S x) := by
  obtain ⟨hi, h1, h2, h3⟩ := h
  refine ⟨⟨fun x z => Or.inl (hi.1 x z), ?_, ?_⟩, fun _ => Or.inr, fun x z w => z.2 (hi.1 x w), ?_⟩
  · intro x hx
    rcases hx with z | z
    · exact hi.2.1 x z
    · exact sp_LF_cl (sp_F_loc ok (sq_ag hi) (sp_F_mono hi.2.1 (sp_FN_F z.1)))
  · intro x hx hn
    rcases hx with z | z
    · exact hi.2.2 x z hn
    · exact sp_F_in (sp_FN_F z.1)
  · intro x hx
    have h4 : sp_F p sk L S N0 x := sp_F_mono (fun y hy => by
      rcases hy.1 with z | z
      · exact z
      · exact absurd z hy.2) hx
    rcases Classical.em (S x) with z | z
    · exact Or.inl z
    · rcases sp_F_cases (Fr := Fr) h4 with y | y
      · exact absurd (h3 x y) z
      · obtain ⟨r, hr, c, hc, hb, k, e⟩ := y
        have hb2 : sp_B p S S r c := sp_B_loc (ok.2 r hr.1) (by rw [hr.2.2]; exact fun w hw => (sq_ag hi w hw).symm) hb
        exact Or.inr ⟨⟨r, hr, c, hc, hb2, k, e⟩, z⟩
theorem sq_xe {p : SrP} {sk : Int32} {L : Nat} {N0 S Fr : Nat → Prop} (ok : sp_ok p) (h : sq_xi p sk L N0 S Fr) (hn : ∀ x, ¬ Fr x) : S = sp_LF p sk L N0 :=
  sq_end ok h.1 (fun x hx => h.2.2.2 x (sp_F_loc ok (sq_ag h.1) (sp_F_mono (fun y hy => ⟨hy, hn y⟩) hx)))
theorem sq_xm {p : SrP} {sk : Int32} {L : Nat} {N0 S Fr : Nat → Prop} {x : Nat} (hx : sp_FN p sk L Fr S S x) (hn : ¬ S x) : sq_m L S < sq_m L (fun y => S y ∨ (sp_FN p sk L Fr S S y ∧ ¬ S y)) :=
  sq_m_lt (fun _ => Or.inl) (sp_F_in (sp_FN_F hx)) (Or.inr ⟨hx, hn⟩) hn
theorem sq_xm0 {p : SrP} {sk : Int32} {L : Nat} {N0 : Nat → Prop} {x : Nat} (hx : sp_F p sk L N0 N0 x) (hn : ¬ N0 x) : sq_m L N0 < sq_m L (fun y => N0 y ∨ (sp_F p sk L N0 N0 y ∧ ¬ N0 y)) :=
  sq_m_lt (fun _ => Or.inl) (sp_F_in hx) (Or.inr ⟨hx, hn⟩) hn
end
section
/-! numbers of the program -/
theorem sn_d10 {a : Nat} (h : a < 2 ^ 31) : nI a / 10 = nI (a / 10) := pk_div (d := 10) h (by decide) (by decide)
theorem sn_r10 {a : Nat} (h : a < 2 ^ 31) : nI a - nI a / 10 * 10 = nI (a % 10) := pk_rem (d := 10) h (by decide) (by decide)
theorem sn_r10b {a : Nat} (h : a < 2 ^ 31) : nI a - nI (a / 10) * 10 = nI (a % 10) := by rw [← sn_d10 h]; exact sn_r10 h
theorem sn_d100 {a : Nat} (h : a < 2 ^ 31) : nI a / 100 = nI (a / 100) := pk_div (d := 100) h (by decide) (by decide)
theorem sn_d200 {a : Nat} (h : a < 2 ^ 31) : nI a / 200 = nI (a / 200) := pk_div (d := 200) h (by decide) (by decide)
theorem sn_d3 {a : Nat} (h : a < 2 ^ 31) : nI a / 3 = nI (a / 3) := pk_div (d := 3) h (by decide) (by decide)
theorem sn_r3 {a : Nat} (h : a < 2 ^ 31) : nI a - nI a / 3 * 3 = nI (a % 3) := pk_rem (d := 3) h (by decide) (by decide)
theorem sn_d6 {a : Nat} (h : a < 2 ^ 31) : nI a / 6 = nI (a / 6) := pk_div (d := 6) h (by decide) (by decide)
theorem sn_r6 {a : Nat} (h : a < 2 ^ 31) : nI a - nI a / 6 * 6 = nI (a % 6) := pk_rem (d := 6) h (by decide) (by decide)
theorem sn_d8 {a : Nat} (h : a < 2 ^ 31) : nI a / 8 = nI (a / 8) := pk_div (d := 8) h (by decide) (by decide)
theorem sn_r8 {a : Nat} (h : a < 2 ^ 31) : nI a - nI a / 8 * 8 = nI (a % 8) := pk_rem (d := 8) h (by decide) (by decide)
theorem sn_r36 {a : Nat} (h : a < 2 ^ 31) : nI a - nI a / 36 * 36 = nI (a % 36) := pk_rem (d := 36) h (by decide) (by decide)
theorem sn_m3 (a : Nat) : 3 * nI a = nI (3 * a) := pk_mul 3 a
theorem sn_m4 (a : Nat) : 4 * nI a = nI (4 * a) := pk_mul 4 a
theorem sn_m6 (a : Nat) : 6 * nI a = nI (6 * a) := pk_mul 6 a
theorem sn_m36 (a : Nat) : 36 * nI a = nI (36 * a) := pk_mul 36 a
theorem sn_a4 (a : Nat) : nI a + 4 = nI (a + 4) := nI_add a 4
theorem sn_a3 (a : Nat) : nI a + 3 = nI (a + 3) := nI_add a 3
theorem sn_s4 {a : Nat} (h : 4 ≤ a) : nI a - 4 = nI (a - 4) := pk_sub (b := 4) h
theorem sn_s3 {a : Nat} (h : 3 ≤ a) : nI a - 3 = nI (a - 3) := pk_sub (b := 3) h
theorem sn_s1 {a : Nat} (h : 1 ≤ a) : nI a - 1 = nI (a - 1) := pk_sub (b := 1) h
theorem sn_ne {a b : Nat} (ha : a < 2 ^ 31) (hb : b < 2 ^ 31) (h : a ≠ b) : ¬ nI a = nI b := fun e => h ((nI_eq ha hb).mp e)
/-- a boolean's int -/
def sn_b (b : Bool) : Int32 := if b then 1 else 0
theorem sn_b0 {b : Bool} : sn_b b = 0 ↔ b = false := by cases b <;> decide
theorem sn_b1 {b : Bool} : sn_b b = 1 ↔ b = true := by cases b <;> decide
theorem sn_bn (b : Bool) : vp_nar .boolean (sn_b b) = sn_b b := by cases b <;> rfl
theorem sn_n0 : vp_nar .boolean 0 = 0 := rfl
theorem sn_n1 : vp_nar .boolean 1 = 1 := rfl
theorem sn_z10 : ¬ (10 : Int32) = 0 := by decide
theorem sn_z100 : ¬ (100 : Int32) = 0 := by decide
theorem sn_z200 : ¬ (200 : Int32) = 0 := by decide
theorem sn_z3 : ¬ (3 : Int32) = 0 := by decide
theorem sn_z6 : ¬ (6 : Int32) = 0 := by decide
theorem sn_z8 : ¬ (8 : Int32) = 0 := by decide
theorem sn_z36 : ¬ (36 : Int32) = 0 := by decide
theorem sn_10 : ¬ (1 : Int32) = 0 := by decide
theorem sn_01 : ¬ (0 : Int32) = 1 := by decide
/-! words of 64 bits -/
theorem sw_ext {x y : Int64} (h : ∀ j, j < 64 → sr_lb x j = sr_lb y j) : x = y := Int64.toBitVec_inj.mp (BitVec.eq_of_getLsbD_eq (fun i hi => h i hi))
theorem sw_or (x y : Int64) (j : Nat) : sr_lb (x ||| y) j = (sr_lb x j || sr_lb y j) := by unfold sr_lb; rw [Int64.toBitVec_or, BitVec.getLsbD_or]
theorem sw_and (x y : Int64) (j : Nat) : sr_lb (x &&& y) j = (sr_lb x j && sr_lb y j) := by unfold sr_lb; rw [Int64.toBitVec_and, BitVec.getLsbD_and]
theorem sw_xor (x y : Int64) (j : Nat) : sr_lb (x ^^^ y) j = (sr_lb x j ^^ sr_lb y j) := by unfold sr_lb; rw [Int64.toBitVec_xor, BitVec.getLsbD_xor]
theorem sw_big {x : Int64} {j : Nat} (h : 64 ≤ j) : sr_lb x j = false := BitVec.getLsbD_of_ge _ _ h
theorem sw_m1 {j : Nat} (h : j < 64) : sr_lb (-1) j = true := by
  unfold sr_lb
  rw [show (-1 : Int64).toBitVec = BitVec.allOnes 64 from by decide, BitVec.getLsbD_allOnes]
  exact decide_eq_true h
theorem sw_0 (j : Nat) : sr_lb 0 j = false := BitVec.getLsbD_zero
theorem sw_not (x : Int64) {j : Nat} (h : j < 64) : sr_lb (x ^^^ (-1)) j = !sr_lb x j := by rw [sw_xor, sw_m1 h]; cases sr_lb x j <;> rfl
theorem sw_zero {x : Int64} : x = 0 ↔ ∀ j, j < 64 → sr_lb x j = false := ⟨fun e j _ => by rw [e]; exact sw_0 j, fun h => sw_ext fun j hj => by rw [h j hj, sw_0]⟩
def sw_bit (k : Nat) : Int64 := (1 : Int64) <<< ((nI k).toInt64 &&& 63)
theorem sw_bit_tp : ∀ k, k < 64 → (sw_bit k).toBitVec = BitVec.twoPow 64 k := by decide +kernel
theorem sw_bit_lb {k : Nat} (hk : k < 64) (j : Nat) : sr_lb (sw_bit k) j = decide (j = k) := by
  unfold sr_lb
  rw [sw_bit_tp k hk, BitVec.getLsbD_twoPow]
  by_cases e : j = k
  · subst e; simp [hk]
  · have e2 : ¬ k = j := fun z => e z.symm
    simp [e, e2]
theorem sw_shr (w : Int64) {k : Nat} (hk : k < 64) (j : Nat) : sr_lb ((w.toUInt64 >>> ((nI k).toInt64.toUInt64 &&& Int64.toUInt64 63)).toInt64) j = sr_lb w (k + j) := by
  rw [wb_cu k hk]
  have e : (w.toUInt64 >>> UInt64.ofNat k).toInt64.toBitVec = w.toBitVec >>> k := by
    apply BitVec.eq_of_toNat_eq
    show (w.toUInt64 >>> UInt64.ofNat k).toNat = _
    rw [UInt64.toNat_shiftRight, u_tn (show k < 2 ^ 64 by omega), Nat.mod_eq_of_lt hk, BitVec.toNat_ushiftRight]
    rfl
  unfold sr_lb
  rw [e, BitVec.getLsbD_ushiftRight]
theorem sw_one (x : Int64) : (x &&& 1).toInt32 = sn_b (sr_lb x 0) := by
  have e : x &&& 1 = if sr_lb x 0 then 1 else 0 := by
    apply sw_ext
    intro j hj
    have h1 : sr_lb 1 j = decide (j = 0) := by
      have : (1 : Int64) = sw_bit 0 := by decide
      rw [this, sw_bit_lb (by decide)]
    rw [sw_and, h1]
    by_cases e : j = 0
    · subst e
      cases h : sr_lb x 0
      · simp [sw_0]
      · simp [h1]
    · cases h : sr_lb x 0
      · simp [sw_0, e]
      · simp [h1, e]
  rw [e]
  cases sr_lb x 0 <;> rfl
theorem sw_bitAt (w : Int64) {k : Nat} (hk : k < 64) : ((((w.toUInt64 >>> ((nI k).toInt64.toUInt64 &&& Int64.toUInt64 63)).toInt64) &&& 1).toInt32) = sn_b (sr_lb w k) := by
  rw [sw_one, sw_shr w hk, Nat.add_zero]
/-! arrays of words and arrays of booleans as sets of places -/
def xs_ (W : Nat → Int64) (x : Nat) : Prop := x < 288 ∧ sr_lb (W (x / 36)) (x % 36) = true
def xs_hi (W : Nat → Int64) : Prop := ∀ r, r < 8 → ∀ j, sr_lb (W r) j = true → j < 36
def ys_ (t : Nat → Int32) (x : Nat) : Prop := x < 288 ∧ ¬ t x = 0
def ys_b (t : Nat → Int32) : Prop := ∀ x, x < 288 → t x = 0 ∨ t x = 1
theorem xs_at {W : Nat → Int64} {r f : Nat} (hr : r < 8) (hf : f < 36) : xs_ W (36 * r + f) ↔ sr_lb (W r) f = true := by
  have e1 : (36 * r + f) / 36 = r := by omega
  have e2 : (36 * r + f) % 36 = f := by omega
  unfold xs_
  rw [e1, e2]
  exact ⟨fun z => z.2, fun z => ⟨by omega, z⟩⟩
theorem xs_lt {W : Nat → Int64} {x : Nat} (h : xs_ W x) : x < 288 := h.1
theorem ys_lt {t : Nat → Int32} {x : Nat} (h : ys_ t x) : x < 288 := h.1
theorem xs_ext {W : Nat → Int64} {S : Nat → Prop} (hS : ∀ x, S x → x < 288) (h : ∀ r f, r < 8 → f < 36 → (sr_lb (W r) f = true ↔ S (36 * r + f))) : xs_ W = S := by
  funext x
  apply propext
  constructor
  · intro ⟨hx, hb⟩
    have := (h (x / 36) (x % 36) (by omega) (by omega)).mp hb
    rw [show 36 * (x / 36) + x % 36 = x by omega] at this
    exact this
  · intro hs
    have hx := hS x hs
    refine ⟨hx, (h (x / 36) (x % 36) (by omega) (by omega)).mpr ?_⟩
    rw [show 36 * (x / 36) + x % 36 = x by omega]
    exact hs
theorem xs_set {W : Nat → Int64} {r f : Nat} (hr : r < 8) (hf : f < 36) : xs_ (vp_updL W r (W r ||| sw_bit f)) = fun x => xs_ W x ∨ x = 36 * r + f := by
  apply xs_ext
  · intro x hx
    rcases hx with z | z
    · exact z.1
    · omega
  · intro s g hs hg
    rw [xs_at hs hg]
    by_cases e : s = r
    · subst e
      rw [pk_uLs, sw_or, sw_bit_lb (by omega), Bool.or_eq_true, decide_eq_true_eq]
      exact ⟨fun z => z.elim Or.inl (fun y => Or.inr (by omega)), fun z => z.elim Or.inl (fun y => Or.inr (by omega))⟩
    · rw [pk_uLn e]
      exact ⟨Or.inl, fun z => z.elim id (fun y => by omega)⟩
theorem xs_set_hi {W : Nat → Int64} {r f : Nat} (hf : f < 36) (h : xs_hi W) : xs_hi (vp_updL W r (W r ||| sw_bit f)) := by
  intro s hs j hj
  by_cases e : s = r
  · subst e
    rw [pk_uLs, sw_or, sw_bit_lb (by omega), Bool.or_eq_true, decide_eq_true_eq] at hj
    rcases hj with z | z
    · exact h s hs j z
    · omega
  · rw [pk_uLn e] at hj
    exact h s hs j hj
theorem xs_clr {W : Nat → Int64} {r f : Nat} (hr : r < 8) (hf : f < 36) : xs_ (vp_updL W r (W r &&& (sw_bit f ^^^ (-1)))) = fun x => xs_ W x ∧ x ≠ 36 * r + f := by
  apply xs_ext
  · exact fun x hx => hx.1.1
  · intro s g hs hg
    rw [xs_at hs hg]
    by_cases e : s = r
    · subst e
      rw [pk_uLs, sw_and, sw_not _ (by omega), sw_bit_lb (by omega), Bool.and_eq_true, Bool.not_eq_true', decide_eq_false_iff_not]
      exact ⟨fun z => ⟨z.1, fun y => z.2 (by omega)⟩, fun z => ⟨z.1, fun y => z.2 (by omega)⟩⟩
    · rw [pk_uLn e]
      exact ⟨fun z => ⟨z, by omega⟩, fun z => z.1⟩
theorem xs_clr_hi {W : Nat → Int64} {r f : Nat} (h : xs_hi W) : xs_hi (vp_updL W r (W r &&& (sw_bit f ^^^ (-1)))) := by
  intro s hs j hj
  by_cases e : s = r
  · subst e
    rw [pk_uLs, sw_and, Bool.and_eq_true] at hj
    exact h s hs j hj.1
  · rw [pk_uLn e] at hj
    exact h s hs j hj
theorem xs_z {W : Nat → Int64} (h : ∀ r, r < 8 → W r = 0) : xs_ W = fun _ => False := by
  apply xs_ext
  · exact fun _ z => z.elim
  · intro r f hr _
    rw [h r hr, sw_0]
    exact ⟨fun z => absurd z (by decide), fun z => False.elim z⟩
theorem xs_z_hi {W : Nat → Int64} (h : ∀ r, r < 8 → W r = 0) : xs_hi W := by
  intro r hr j hj
  rw [h r hr, sw_0] at hj
  exact nomatch hj
theorem xs_nz {W : Nat → Int64} {r : Nat} (hr : r < 8) (h : xs_hi W) : W r = 0 ↔ ∀ f, f < 36 → ¬ xs_ W (36 * r + f) := by
  rw [sw_zero]
  constructor
  · intro z f hf y
    rw [xs_at hr hf, z f (by omega)] at y
    exact nomatch y
  · intro z j _
    cases hb : sr_lb (W r) j with
    | false => rfl
    | true =>
      have hj := h r hr j hb
      exact absurd ((xs_at hr hj).mpr hb) (z j hj)
theorem ys_set {t : Nat → Int32} {a : Nat} (ha : a < 288) : ys_ (upd t a 1) = fun x => ys_ t x ∨ x = a := by
  funext x
  apply propext
  unfold ys_
  by_cases e : x = a
  · subst e
    rw [pk_us]
    exact ⟨fun _ => Or.inr rfl, fun _ => ⟨ha, sn_10⟩⟩
  · rw [pk_un e]
    exact ⟨Or.inl, fun z => z.elim id (fun y => absurd y e)⟩
theorem ys_clr {t : Nat → Int32} {a : Nat} : ys_ (upd t a 0) = fun x => ys_ t x ∧ x ≠ a := by
  funext x
  apply propext
  unfold ys_
  by_cases e : x = a
  · subst e
    rw [pk_us]
    exact ⟨fun z => absurd rfl z.2, fun z => absurd rfl z.2⟩
  · rw [pk_un e]
    exact ⟨fun z => ⟨z, e⟩, fun z => z.1⟩
theorem ys_b_upd {t : Nat → Int32} {a : Nat} {y : Int32} (hy : y = 0 ∨ y = 1) (h : ys_b t) : ys_b (upd t a y) := by
  intro x hx
  by_cases e : x = a
  · subst e; rw [pk_us]; exact hy
  · rw [pk_un e]; exact h x hx
theorem ys_val {t : Nat → Int32} {x : Nat} (h : ys_b t) (hx : x < 288) : t x = nI (sr_b (ys_ t x)) := by
  rcases h x hx with z | z
  · rw [z, sr_b_f (fun y => y.2 z)]; rfl
  · rw [z, sr_b_t ⟨hx, by rw [z]; exact sn_10⟩]; rfl
theorem sn_bP {b : Bool} {P : Prop} (h : b = true ↔ P) : sn_b b = nI (sr_b P) := by
  cases b with
  | false => rw [sr_b_f (fun z => nomatch h.mpr z)]; rfl
  | true => rw [sr_b_t (h.mp rfl)]; rfl
/-! the variables of an atom, as bits -/
def sr_v1 (t : Nat) : Int32 := if 4 ≤ t then 0 else (1 : Int32) <<< (nI t &&& 31)
def sr_vm (a : Nat) : Int32 := sr_v1 (a / 10 % 10) ||| sr_v1 (a % 10)
theorem sr_v1_bt : ∀ t, t < 10 → ∀ v, v < 32 → bt (sr_v1 t) v = decide (v < 4 ∧ v = t) := by decide +kernel
theorem sr_vm_bt (a : Nat) {v : Nat} (hv : v < 32) : bt (sr_vm a) v = true ↔ (v < 4 ∧ sr_oc a v) := by
  unfold sr_vm sr_oc
  rw [b_or, sr_v1_bt _ (by omega) v hv, sr_v1_bt _ (by omega) v hv, Bool.or_eq_true, decide_eq_true_eq, decide_eq_true_eq]
  omega
theorem sr_msk (x y : Int32) : (x &&& (y ^^^ (-1))) = 0 ↔ ∀ v, v < 32 → bt x v = true → bt y v = true := by
  constructor
  · intro h v hv hx
    have := congrArg (fun z => bt z v) h
    simp only [b_and, b_xor, b_m1 v hv, b_0, hx] at this
    cases hy : bt y v with
    | false => rw [hy] at this; exact nomatch this
    | true => rfl
  · intro h
    apply b_ext
    intro v hv
    rw [b_and, b_xor, b_m1 v hv, b_0]
    cases hx : bt x v with
    | false => rfl
    | true => rw [h v hv hx]; rfl
theorem sr_sbit (x : Int32) {v : Nat} (hv : v < 4) : ((x >>> (nI v &&& 31)) &&& 1) = 1 ↔ bt x v = true := by
  have h0 : bt (x >>> (nI v &&& 31)) 0 = bt x v := by rw [b_sshr v (by omega) x (by omega), if_pos (by omega), Nat.add_zero]
  have h1 : ∀ j, j < 32 → bt 1 j = decide (j = 0) := by decide +kernel
  constructor
  · intro h
    have := congrArg (fun z => bt z 0) h
    simp only [b_and, h0, h1 0 (by omega)] at this
    simpa using this
  · intro h
    apply b_ext
    intro j hj
    rw [b_and, h1 j hj]
    by_cases e : j = 0
    · subst e; rw [h0, h]; rfl
    · rw [decide_eq_false e, Bool.and_false]
end
section
/-! the reference: variables, places, bindings, bodies -/
def rp_ (p : SrP) (fc : Int32) (hs ss as ns : Nat → Int32) : Prop := fc = nI (sp_n p) ∧ ∀ r, r < sp_n p → hs r = nI (sp_h p r) ∧ ss r = nI (sp_s p r) ∧ ∀ k, k < sp_s p r → as (3 * r + k) = nI (sp_a p (3 * r + k)) ∧ ns (3 * r + k) = sn_b (sp_g p (3 * r + k))
section
variable {f_drafted f_count : Int32} {a_told a_now a_kept a_draft a_draftNot a_head a_size a_atoms a_not a_bound : Nat → Int32}
theorem sy_variables {post : Int32 → Prop} {a : Nat} (h : a < 800) (hp : post (sr_vm a)) : wpY_variables post (f_drafted, f_count, a_told, a_now, a_kept, a_draft, a_draftNot, a_head, a_size, a_atoms, a_not, a_bound) (nI a) := by
  have e1 : nI a / 10 - nI a / 10 / 10 * 10 = nI (a / 10 % 10) := by rw [sn_d10 (by omega), sn_r10 (by omega)]
  unfold wpY_variables
  refine ⟨sn_z10, sn_z10, nm_r e1 ⟨sn_z10, nm_r (sn_r10 (by omega)) ?_⟩⟩
  unfold sr_vm sr_v1 at hp
  refine pk_le 4 (a / 10 % 10) (fun h1 => ?_) (fun h1 => ?_)
  · rw [if_pos h1] at hp
    refine pk_le 4 (a % 10) (fun h2 => ?_) (fun h2 => ?_)
    · rw [if_pos h2] at hp; exact hp
    · rw [if_neg (by omega)] at hp; exact hp
  · rw [if_neg (by omega)] at hp
    refine pk_le 4 (a % 10) (fun h2 => ?_) (fun h2 => ?_)
    · rw [if_pos h2] at hp; exact hp
    · rw [if_neg (by omega)] at hp; exact hp
theorem sy_layer {post : Int32 → Prop} {a : Nat} (h : a < 800) (hp : post (nI (a / 200))) : wpY_layer post (f_drafted, f_count, a_told, a_now, a_kept, a_draft, a_draftNot, a_head, a_size, a_atoms, a_not, a_bound) (nI a) := by
  unfold wpY_layer
  refine ⟨sn_z200, ?_⟩
  rw [sn_d200 (by omega)]
  exact hp
theorem sy_thing {post : Int32 → Prop} {t : Nat} {θ : Nat → Nat} (hb : ∀ v, v < 4 → a_bound v = nI (θ v)) (h : t < 10) (hp : post (nI (sr_tv θ t))) : wpY_thing post (f_drafted, f_count, a_told, a_now, a_kept, a_draft, a_draftNot, a_head, a_size, a_atoms, a_not, a_bound) (nI t) := by
  unfold wpY_thing
  unfold sr_tv at hp
  refine pk_le 4 t (fun h1 => ?_) (fun h1 => ?_)
  · rw [if_neg (by omega)] at hp
    rw [sn_s4 h1]; exact hp
  · rw [if_pos h1] at hp
    refine ⟨pk_in t 4 h1, ?_⟩
    rw [nI_clamp (by omega), hb t h1]
    exact hp
theorem sy_place {post : Int32 → Prop} {a : Nat} {θ : Nat → Nat} (hb : ∀ v, v < 4 → a_bound v = nI (θ v)) (h : a < 800) (hp : post (nI (sr_pl θ a))) : wpY_place post (f_drafted, f_count, a_told, a_now, a_kept, a_draft, a_draftNot, a_head, a_size, a_atoms, a_not, a_bound) (nI a) := by
  have e1 : nI a / 10 - nI a / 10 / 10 * 10 = nI (a / 10 % 10) := by rw [sn_d10 (by omega), sn_r10 (by omega)]
  have e2 : nI a - nI a / 10 * 10 = nI (a % 10) := sn_r10 (by omega)
  unfold wpY_place
  refine ⟨sn_z10, sn_z10, ?_⟩
  rw [e1]
  refine sy_thing hb (by omega) ⟨sn_z10, ?_⟩
  rw [e2]
  refine sy_thing hb (by omega) ⟨sn_z100, ?_⟩
  rw [sn_d100 (by omega), sn_m36, sn_m6, nI_add, nI_add, Nat.add_assoc]
  exact hp
theorem sy_occ_l {post : Int32 → Prop} {p : SrP} {r : Nat} (hr14 : r < 14) (hr : sp_rk p r) (hz : a_size r = nI (sp_s p r)) (ha : ∀ k, k < sp_s p r → a_atoms (3 * r + k) = nI (sp_a p (3 * r + k)))
    (hp : ∀ x, (∀ v, v < 4 → (bt x v = true ↔ sp_S p r v)) → post x) : ∀ n k x, k ≤ sp_s p r → sp_s p r - k < n → (∀ v, v < 4 → (bt x v = true ↔ (sr_oc (sp_h p r) v ∨ ∃ j, j < k ∧ sr_oc (sp_a p (3 * r + j)) v))) → wY_occurring_13 post (nI r) f_drafted f_count a_told a_now a_kept a_draft a_draftNot a_head a_size a_atoms a_not a_bound n x (nI k) := by
  have h3 := hr.2.1
  intro n
  induction n with
  | zero => intro k x _ h; omega
  | succ n ih =>
    intro k x hk hn hx
    have fin : sp_s p r ≤ k → post x := fun h => hp x fun v hv => by
      rw [hx v hv]
      have ek : k = sp_s p r := by omega
      subst ek
      refine ⟨fun z => hr.2.2.2 v hv z, fun ⟨j, hj, _, ho⟩ => Or.inr ⟨j, hj, ho⟩⟩
    refine And.intro (vp_in_nI hr14 (by omega)) ?_
    rw [nI_clamp (by omega), hz]
    refine pk_le (sp_s p r) k fin (fun h1 => ?_)
    refine pk_le 3 k (fun h2 => fin (by omega)) (fun h2 => ?_)
    have e : (3 * nI r + nI k : Int32) = nI (3 * r + k) := by rw [sn_m3, nI_add]
    rw [e, nI_clamp (by omega), ha k h1]
    refine ⟨vp_in_nI (by omega) (by omega), sy_variables (hr.2.2.1 k h1).1 (nm_e (nm_r (nI_1 k) ?_))⟩
    refine ih (k + 1) _ (by omega) (by omega) (fun v hv => ?_)
    rw [b_or, Bool.or_eq_true, hx v hv, sr_vm_bt _ (by omega)]
    constructor
    · intro z
      rcases z with (z | ⟨j, hj, ho⟩) | z
      · exact Or.inl z
      · exact Or.inr ⟨j, by omega, ho⟩
      · exact Or.inr ⟨k, by omega, z.2⟩
    · intro z
      rcases z with z | ⟨j, hj, ho⟩
      · exact Or.inl (Or.inl z)
      · by_cases ej : j = k
        · subst ej; exact Or.inr ⟨hv, ho⟩
        · exact Or.inl (Or.inr ⟨j, by omega, ho⟩)
theorem sy_occ {post : Int32 → Prop} {p : SrP} {r : Nat} (ok : sp_ok p) (hP : rp_ p f_count a_head a_size a_atoms a_not) (hrn : r < sp_n p)
    (hp : ∀ x, (∀ v, v < 4 → (bt x v = true ↔ sp_S p r v)) → post x) : wpY_occurring post (f_drafted, f_count, a_told, a_now, a_kept, a_draft, a_draftNot, a_head, a_size, a_atoms, a_not, a_bound) (nI r) := by
  have hr14 : r < 14 := Nat.lt_of_lt_of_le hrn ok.1
  have hr := ok.2 r hrn
  obtain ⟨e1, e2, e3⟩ := hP.2 r hrn
  unfold wpY_occurring
  refine ⟨vp_in_nI hr14 (by omega), ?_⟩
  rw [nI_clamp (by omega), e1]
  refine sy_variables hr.1 ⟨_, sy_occ_l hr14 hr e2 (fun k hk => (e3 k hk).1) hp (sp_s p r + 1) 0 _ (by omega) (by omega) (fun v hv => ?_)⟩
  rw [sr_vm_bt _ (by omega)]
  exact ⟨fun z => Or.inl z.2, fun z => z.elim (fun y => ⟨hv, y⟩) (fun ⟨j, hj, _⟩ => by omega)⟩
theorem sy_num_l {post : Int32 → Prop} {S : Nat → Prop} {x : Int32} (hx : ∀ v, v < 4 → (bt x v = true ↔ S v)) (hp : post (nI (sr_Nn S 4))) : ∀ n v, v ≤ 4 → 4 - v < n → wY_number_4 post x f_drafted f_count a_told a_now a_kept a_draft a_draftNot a_head a_size a_atoms a_not a_bound n (nI (sr_Nn S v)) (nI v) := by
  intro n
  induction n with
  | zero => intro v _ h; omega
  | succ n ih =>
    intro v hv hn
    refine pk_le 4 v (fun h => ?_) (fun h => ?_)
    · have e : v = 4 := by omega
      subst e; exact hp
    · rw [sr_sbit x h, hx v h]
      refine br_c (fun hs => ?_) (fun hs => ?_)
      · have e : 6 * nI (sr_Nn S v) = nI (sr_Nn S (v + 1)) := by
          rw [sn_m6]; simp only [sr_Nn]; rw [sr_w_t hs]
        exact nm_r e (nm_r (nI_1 v) (ih (v + 1) (by omega) (by omega)))
      · have e : sr_Nn S v = sr_Nn S (v + 1) := by simp only [sr_Nn]; rw [sr_w_f hs, Nat.one_mul]
        rw [e]
        exact nm_r (nI_1 v) (ih (v + 1) (by omega) (by omega))
theorem sy_num {post : Int32 → Prop} {S : Nat → Prop} {x : Int32} (hx : ∀ v, v < 4 → (bt x v = true ↔ S v)) (hp : post (nI (sr_Nn S 4))) : wpY_number post (f_drafted, f_count, a_told, a_now, a_kept, a_draft, a_draftNot, a_head, a_size, a_atoms, a_not, a_bound) x := by
  unfold wpY_number
  exact ⟨5, sy_num_l hx hp 5 0 (by omega) (by omega)⟩
end
section
variable {f_drafted f_count : Int32} {a_told a_now a_kept a_draft a_draftNot a_head a_size a_atoms a_not : Nat → Int32}
theorem sy_bind_l {post : SY → Prop} {S : Nat → Prop} {x : Int32} {c : Nat} (hc : c < 2 ^ 31) (hx : ∀ v, v < 4 → (bt x v = true ↔ S v)) (hp : ∀ b : Nat → Int32, (∀ v, v < 4 → b v = nI (sr_th S c v)) → post (f_drafted, f_count, a_told, a_now, a_kept, a_draft, a_draftNot, a_head, a_size, a_atoms, a_not, b)) :
    ∀ n v b, v ≤ 4 → 4 - v < n → (∀ i, i < v → b i = nI (sr_th S c i)) → wY_bind_5 post x f_drafted f_count n (nI (sr_rs S c v)) (nI v) a_told a_now a_kept a_draft a_draftNot a_head a_size a_atoms a_not b := by
  intro n
  induction n with
  | zero => intro v b _ h; omega
  | succ n ih =>
    intro v b hv hn hb
    refine pk_le 4 v (fun h => ?_) (fun h => ?_)
    · have e : v = 4 := by omega
      subst e; exact hp b hb
    · have hlt : sr_rs S c v < 2 ^ 31 := by
        rw [sr_rs_div]
        exact Nat.lt_of_le_of_lt (Nat.div_le_self _ _) hc
      refine ⟨vp_in_nI h (by omega), nm_e ?_⟩
      rw [nI_clamp (by omega), sr_sbit x h, hx v h]
      refine br_c (fun hs => ?_) (fun hs => ?_)
      · refine ⟨sn_z6, vp_in_nI h (by omega), nm_e ⟨sn_z6, nm_r (e' := nI (sr_rs S c (v + 1))) ?_ (nm_r (nI_1 v) (ih (v + 1) _ (by omega) (by omega) ?_))⟩⟩
        · rw [sn_d6 hlt]; simp only [sr_rs]; rw [sr_w_t hs]
        · intro i hi
          by_cases e : i = v
          · subst e
            rw [pk_us, sn_r6 hlt]
            unfold sr_th
            rw [sr_w_t hs]
          · rw [pk_un e, pk_un e]
            exact hb i (by omega)
      · have e1 : sr_rs S c v = sr_rs S c (v + 1) := by simp only [sr_rs]; rw [sr_w_f hs, Nat.div_one]
        rw [e1]
        refine nm_r (nI_1 v) (ih (v + 1) _ (by omega) (by omega) ?_)
        intro i hi
        by_cases e : i = v
        · subst e
          rw [pk_us, sr_th_0 hs]
          rfl
        · rw [pk_un e]
          exact hb i (by omega)
theorem sy_bind {a_bound : Nat → Int32} {post : SY → Prop} {S : Nat → Prop} {x : Int32} {c : Nat} (hc : c < 2 ^ 31) (hx : ∀ v, v < 4 → (bt x v = true ↔ S v)) (hp : ∀ b : Nat → Int32, (∀ v, v < 4 → b v = nI (sr_th S c v)) → post (f_drafted, f_count, a_told, a_now, a_kept, a_draft, a_draftNot, a_head, a_size, a_atoms, a_not, b)) : wpY_bind post (f_drafted, f_count, a_told, a_now, a_kept, a_draft, a_draftNot, a_head, a_size, a_atoms, a_not, a_bound) x (nI c) := by
  unfold wpY_bind
  exact ⟨5, sy_bind_l hc hx hp 5 0 a_bound (by omega) (by omega) (fun i hi => by omega)⟩
end
section
variable {f_drafted f_count : Int32} {a_told a_now a_kept a_draft a_draftNot a_head a_size a_atoms a_not a_bound : Nat → Int32}
theorem sy_body_l {post : Int32 → Prop} {p : SrP} {r c : Nat} (hr14 : r < 14) (hr : sp_rk p r) (hz : a_size r = nI (sp_s p r)) (ha : ∀ k, k < sp_s p r → a_atoms (3 * r + k) = nI (sp_a p (3 * r + k)) ∧ a_not (3 * r + k) = sn_b (sp_g p (3 * r + k)))
    (hb : ∀ v, v < 4 → a_bound v = nI (sp_t p r c v)) (hy : ys_b a_now) (hT : sp_B p (ys_ a_now) (ys_ a_now) r c → post 1) (hF : ¬ sp_B p (ys_ a_now) (ys_ a_now) r c → post 0) :
    ∀ n k, k ≤ sp_s p r → sp_s p r - k < n → (∀ j, j < k → (sp_g p (3 * r + j) = false → ys_ a_now (sr_pl (sp_t p r c) (sp_a p (3 * r + j)))) ∧ (sp_g p (3 * r + j) = true → ¬ ys_ a_now (sr_pl (sp_t p r c) (sp_a p (3 * r + j))))) → wY_bodyHolds_2 post (nI r) f_drafted f_count a_told a_now a_kept a_draft a_draftNot a_head a_size a_atoms a_not a_bound n (nI k) := by
  have h3 := hr.2.1
  intro n
  induction n with
  | zero => intro k _ h; omega
  | succ n ih =>
    intro k hk hn hx
    have fin : sp_s p r ≤ k → post 1 := fun h => hT fun j hj => hx j (by omega)
    refine And.intro (vp_in_nI hr14 (by omega)) ?_
    rw [nI_clamp (by omega), hz]
    refine pk_le (sp_s p r) k fin (fun h1 => ?_)
    refine pk_le 3 k (fun h2 => fin (by omega)) (fun h2 => ?_)
    have e : (3 * nI r + nI k : Int32) = nI (3 * r + k) := by rw [sn_m3, nI_add]
    obtain ⟨e1, e2⟩ := ha k h1
    have hk8 := (hr.2.2.1 k h1).1
    have hpl := sp_pl_in p r c (sp_a p (3 * r + k))
    rw [e, nI_clamp (by omega), e1]
    refine ⟨vp_in_nI (by omega) (by omega), sy_place hb hk8 ⟨vp_in_nI (by omega) (by omega), vp_in_nI (by omega) (by omega), ?_⟩⟩
    rw [nI_clamp (by omega), e2]
    have key : a_now (sr_pl (sp_t p r c) (sp_a p (3 * r + k))) = sn_b (sp_g p (3 * r + k)) ↔ ¬ ((sp_g p (3 * r + k) = false → ys_ a_now (sr_pl (sp_t p r c) (sp_a p (3 * r + k)))) ∧ (sp_g p (3 * r + k) = true → ¬ ys_ a_now (sr_pl (sp_t p r c) (sp_a p (3 * r + k))))) := by
      have hlt : sr_pl (sp_t p r c) (sp_a p (3 * r + k)) < 288 := by omega
      unfold ys_
      rcases hy _ hlt with z | z
      · cases hg : sp_g p (3 * r + k) <;> simp [z, sn_b, hlt]
      · cases hg : sp_g p (3 * r + k) <;> simp [z, sn_b, hlt]
    rw [key]
    refine br_c (fun hn => hF fun hB => hn (hB k h1)) (fun hn => nm_r (nI_1 k) (ih (k + 1) (by omega) (by omega) (fun j hj => ?_)))
    by_cases ej : j = k
    · subst ej; exact Classical.byContradiction hn
    · exact hx j (by omega)
theorem sy_body {post : Int32 → Prop} {p : SrP} {r c : Nat} (ok : sp_ok p) (hP : rp_ p f_count a_head a_size a_atoms a_not) (hrn : r < sp_n p)
    (hb : ∀ v, v < 4 → a_bound v = nI (sp_t p r c v)) (hy : ys_b a_now) (hT : sp_B p (ys_ a_now) (ys_ a_now) r c → post 1) (hF : ¬ sp_B p (ys_ a_now) (ys_ a_now) r c → post 0) : wpY_bodyHolds post (f_drafted, f_count, a_told, a_now, a_kept, a_draft, a_draftNot, a_head, a_size, a_atoms, a_not, a_bound) (nI r) := by
  unfold wpY_bodyHolds
  obtain ⟨_, e2, e3⟩ := hP.2 r hrn
  exact ⟨_, sy_body_l (Nat.lt_of_lt_of_le hrn ok.1) (ok.2 r hrn) e2 e3 hb hy hT hF (sp_s p r + 1) 0 (by omega) (by omega) (fun j hj => by omega)⟩
end
end
section
/-! the reference: using a rule, all rules of a layer, all layers -/
theorem sq_fl {L : Nat} {Fi : (Nat → Prop) → (Nat → Prop) → Nat → Prop} {S S' : Nat → Prop} {fl f g : Prop} (h : sq_ST L Fi S False S' f) (hg : g ↔ (fl ∨ f)) : sq_ST L Fi S fl S' g := by
  obtain ⟨a, b, c, d, e⟩ := h
  refine ⟨a, b, c, ?_, ?_⟩
  · intro hn
    rw [hg] at hn
    exact ⟨fun z => hn (Or.inl z), (d (fun z => hn (Or.inr z))).2⟩
  · intro hh
    rcases hg.mp hh with z | z
    · exact Or.inl z
    · exact Or.inr ((e z).resolve_left id)
section
variable {f_drafted f_count : Int32} {a_told a_kept a_draft a_draftNot a_head a_size a_atoms a_not : Nat → Int32}
theorem sy_use_l {post : Int32 → SY → Prop} {p : SrP} {r L : Nat} {x : Int32} {now0 : Nat → Int32} (ok : sp_ok p) (hP : rp_ p f_count a_head a_size a_atoms a_not) (hrn : r < sp_n p) (hL : sp_h p r / 200 = L) (hx : ∀ v, v < 4 → (bt x v = true ↔ sp_S p r v))
    (hp : ∀ fl now bound, (fl = 0 ∨ fl = 1) → ys_b now → sq_ST L (sp_FR p r) (ys_ now0) False (ys_ now) (¬ fl = 0) → post fl (f_drafted, f_count, a_told, now, a_kept, a_draft, a_draftNot, a_head, a_size, a_atoms, a_not, bound)) :
    ∀ n i fl now bound, i ≤ sp_N p r → sp_N p r - i < n → (fl = 0 ∨ fl = 1) → ys_b now → sq_ST L (fun A B y => ∃ c, c < i ∧ sp_B p A B r c ∧ y = sp_hp p r c) (ys_ now0) False (ys_ now) (¬ fl = 0) → wY_use_18 post (nI r) x (nI (sp_N p r)) n fl (nI i) f_drafted f_count a_told now a_kept a_draft a_draftNot a_head a_size a_atoms a_not bound := by
  have hN : sp_N p r ≤ 1296 := sr_N4 _
  have hr := ok.2 r hrn
  have hr14 : r < 14 := Nat.lt_of_lt_of_le hrn ok.1
  intro n
  induction n with
  | zero => intro i _ _ _ _ h; omega
  | succ n ih =>
    intro i fl now bound hi hn hfl hy hst
    refine pk_le (sp_N p r) i (fun h => ⟨?_, ?_⟩) (fun h => ?_)
    · rcases hfl with z | z <;> rw [z] <;> rfl
    · have e : i = sp_N p r := by omega
      subst e
      exact hp fl now bound hfl hy (sq_ch hst (fun _ _ _ => Iff.rfl))
    · refine sy_bind (by omega) hx (fun b hb => ?_)
      have hFi : ∀ (C B : Nat → Prop) y, (∃ c, c < i + 1 ∧ sp_B p C B r c ∧ y = sp_hp p r c) ↔ ((∃ c, c < i ∧ sp_B p C B r c ∧ y = sp_hp p r c) ∨ (sp_B p C B r i ∧ y = sp_hp p r i)) := by
        intro C B y
        constructor
        · intro ⟨c, hc, h1, h2⟩
          by_cases e : c = i
          · subst e; exact Or.inr ⟨h1, h2⟩
          · exact Or.inl ⟨c, by omega, h1, h2⟩
        · intro z
          rcases z with ⟨c, hc, h1, h2⟩ | ⟨h1, h2⟩
          · exact ⟨c, by omega, h1, h2⟩
          · exact ⟨i, by omega, h1, h2⟩
      have hloc : ∀ (C B B' : Nat → Prop) y, (∀ z, z < 72 * L → (B z ↔ B' z)) → (sp_B p C B r i ∧ y = sp_hp p r i) → (sp_B p C B' r i ∧ y = sp_hp p r i) := by
        intro C B B' y hz hh
        subst hL
        exact ⟨sp_B_loc hr hz hh.1, hh.2⟩
      have hhp := sp_hp_in (p := p) (r := r) i
      rw [hL] at hhp
      have hL4 : L < 4 := by have := hr.1; omega
      refine sy_body (c := i) ok hP hrn hb hy (fun hB => ?_) (fun hB => ?_)
      · refine br_f sn_10 ⟨vp_in_nI hr14 (by omega), ?_⟩
        rw [nI_clamp (by omega), (hP.2 r hrn).1]
        refine sy_place hb hr.1 ⟨vp_in_nI (n := sp_hp p r i) (by omega) (by omega), ?_⟩
        have ecl : (nI (sr_pl (sr_th (sp_S p r) i) (sp_h p r))).toNatClampNeg = sp_hp p r i := nI_clamp (n := sp_hp p r i) (by omega)
        rw [ecl]
        have one : ∀ fl', (fl' = 0 ∨ fl' = 1) → ((¬ fl' = 0) ↔ ((¬ fl = 0) ∨ ¬ ys_ now (sp_hp p r i))) → wY_use_18 post (nI r) x (nI (sp_N p r)) n fl' (nI (i + 1)) f_drafted f_count a_told (upd now (sp_hp p r i) 1) a_kept a_draft a_draftNot a_head a_size a_atoms a_not b := by
          intro fl' h1 h2
          refine ih (i + 1) fl' _ b (by omega) (by omega) h1 (ys_b_upd (Or.inr rfl) hy) ?_
          rw [ys_set (by omega)]
          refine sq_co hst (sq_one (Fi := fun A B y => sp_B p A B r i ∧ y = sp_hp p r i) (sp_hp p r i) hhp (fun _ _ _ z => z.2) (fun A hA => ⟨sp_B_mono hA hB, rfl⟩) h2) hloc hFi
        refine br_c (fun h0 => ⟨vp_in_nI (n := sp_hp p r i) (by omega) (by omega), nm_e (nm_r (nI_1 i) (one 1 (Or.inr rfl) ?_))⟩) (fun h0 => ⟨vp_in_nI (n := sp_hp p r i) (by omega) (by omega), nm_e (nm_r (nI_1 i) (one fl hfl ?_))⟩)
        · exact ⟨fun _ => Or.inr (fun z => z.2 h0), fun _ => sn_10⟩
        · exact ⟨Or.inl, fun z => z.elim id (fun y => absurd ⟨by omega, h0⟩ y)⟩
      · refine br_t rfl (nm_r (nI_1 i) (ih (i + 1) fl now b (by omega) (by omega) hfl hy ?_))
        exact sq_co hst (sq_id (Fi := fun A B y => sp_B p A B r i ∧ y = sp_hp p r i) (fun y z => absurd z.1 hB)) hloc hFi
theorem sy_use {a_now a_bound : Nat → Int32} {post : Int32 → SY → Prop} {p : SrP} {r L : Nat} (ok : sp_ok p) (hP : rp_ p f_count a_head a_size a_atoms a_not) (hrn : r < sp_n p) (hL : sp_h p r / 200 = L) (hy : ys_b a_now)
    (hp : ∀ fl now bound, (fl = 0 ∨ fl = 1) → ys_b now → sq_ST L (sp_FR p r) (ys_ a_now) False (ys_ now) (¬ fl = 0) → post fl (f_drafted, f_count, a_told, now, a_kept, a_draft, a_draftNot, a_head, a_size, a_atoms, a_not, bound)) : wpY_use post (f_drafted, f_count, a_told, a_now, a_kept, a_draft, a_draftNot, a_head, a_size, a_atoms, a_not, a_bound) (nI r) := by
  unfold wpY_use
  refine sy_occ ok hP hrn (fun x hx => sy_num hx ?_)
  refine ⟨sp_N p r + 1, sy_use_l ok hP hrn hL hx hp (sp_N p r + 1) 0 0 a_now a_bound (by omega) (by omega) (Or.inl rfl) hy ?_⟩
  have e : (¬ (0 : Int32) = 0) = False := by simp
  rw [e]
  exact sq_id (fun y ⟨c, hc, _⟩ => by omega)
theorem sy_all_l {post : Int32 → SY → Prop} {p : SrP} {sk : Int32} {L : Nat} {now0 : Nat → Int32} (ok : sp_ok p) (hP : rp_ p f_count a_head a_size a_atoms a_not) (hL4 : L < 4)
    (hp : ∀ fl now bound, (fl = 0 ∨ fl = 1) → ys_b now → sq_ST L (sp_F p sk L) (ys_ now0) False (ys_ now) (¬ fl = 0) → post fl (f_drafted, f_count, a_told, now, a_kept, a_draft, a_draftNot, a_head, a_size, a_atoms, a_not, bound)) :
    ∀ n i fl now bound, i ≤ sp_n p → sp_n p - i < n → (fl = 0 ∨ fl = 1) → ys_b now → sq_ST L (fun A B y => ∃ r, r < i ∧ sp_ac p sk L r ∧ sp_FR p r A B y) (ys_ now0) False (ys_ now) (¬ fl = 0) → wY_useAll_5 post (nI L) sk n fl (nI i) f_drafted f_count a_told now a_kept a_draft a_draftNot a_head a_size a_atoms a_not bound := by
  have h14 := ok.1
  have efc := hP.1
  intro n
  induction n with
  | zero => intro i _ _ _ _ h; omega
  | succ n ih =>
    intro i fl now bound hi hn hfl hy hst
    have fin : sp_n p ≤ i → narrow .boolean (.int fl) = .int fl ∧ post fl (f_drafted, f_count, a_told, now, a_kept, a_draft, a_draftNot, a_head, a_size, a_atoms, a_not, bound) := by
      intro h
      refine ⟨?_, ?_⟩
      · rcases hfl with z | z <;> rw [z] <;> rfl
      · have e : i = sp_n p := by omega
        subst e
        refine hp fl now bound hfl hy (sq_ch hst (fun C B y => ?_))
        exact ⟨fun ⟨r, h1, h2⟩ => ⟨r, h1.1, h1, h2⟩, fun ⟨r, _, h1, h2⟩ => ⟨r, h1, h2⟩⟩
    have skip : ¬ sp_ac p sk L i → i < sp_n p → wY_useAll_5 post (nI L) sk n fl (nI (i + 1)) f_drafted f_count a_told now a_kept a_draft a_draftNot a_head a_size a_atoms a_not bound := by
      intro hna h
      refine ih (i + 1) fl now bound (by omega) (by omega) hfl hy (sq_ch hst (fun C B y => ?_))
      constructor
      · intro ⟨r, h1, h2, h3⟩
        by_cases e : r = i
        · subst e; exact absurd h2 hna
        · exact ⟨r, by omega, h2, h3⟩
      · intro ⟨r, h1, h2, h3⟩
        exact ⟨r, by omega, h2, h3⟩
    refine pk_le (sp_n p) i fin (fun h => ?_) efc
    refine pk_le 14 i (fun h2 => by omega) (fun h2 => ?_)
    refine br_c (fun hk => nm_r (nI_1 i) (skip (fun z => z.2.1 hk) h)) (fun hk => ⟨vp_in_nI h2 (by omega), sn_z200, ?_⟩)
    obtain ⟨e1, _, _⟩ := hP.2 i h
    have hr := ok.2 i h
    have h8 := hr.1
    rw [nI_clamp (by omega), e1, sn_d200 (by omega)]
    refine pk_eq (sp_h p i / 200) L (fun hl => ?_) (fun hl => nm_r (nI_1 i) (skip (fun z => hl z.2.2) h))
    refine sy_use ok hP h hl hy (fun f now' bound' hf hy' hst' => ?_)
    have go : ∀ g, (g = 0 ∨ g = 1) → ((¬ g = 0) ↔ ((¬ fl = 0) ∨ ¬ f = 0)) → wY_useAll_5 post (nI L) sk n g (nI (i + 1)) f_drafted f_count a_told now' a_kept a_draft a_draftNot a_head a_size a_atoms a_not bound' := by
      intro g hg1 hg2
      refine ih (i + 1) g now' bound' (by omega) (by omega) hg1 hy' (sq_co hst (sq_fl hst' hg2) (fun C B B' y hB hh => sp_FR_loc hr hl hB hh) (fun C B y => ?_))
      constructor
      · intro ⟨r, h1, h2, h3⟩
        by_cases e : r = i
        · subst e; exact Or.inr h3
        · exact Or.inl ⟨r, by omega, h2, h3⟩
      · intro z
        rcases z with ⟨r, h1, h2, h3⟩ | z
        · exact ⟨r, by omega, h2, h3⟩
        · exact ⟨i, by omega, ⟨h, hk, hl⟩, z⟩
    refine br_c (fun h0 => nm_r (nI_1 i) (go fl hfl ?_)) (fun h0 => nm_r (nI_1 i) (go 1 (Or.inr rfl) ?_))
    · exact ⟨Or.inl, fun z => z.elim id (fun y => absurd h0 y)⟩
    · exact ⟨fun _ => Or.inr h0, fun _ => sn_10⟩
theorem sy_all {a_now a_bound : Nat → Int32} {post : Int32 → SY → Prop} {p : SrP} {sk : Int32} {L : Nat} (ok : sp_ok p) (hP : rp_ p f_count a_head a_size a_atoms a_not) (hL4 : L < 4) (hy : ys_b a_now)
    (hp : ∀ fl now bound, (fl = 0 ∨ fl = 1) → ys_b now → sq_ST L (sp_F p sk L) (ys_ a_now) False (ys_ now) (¬ fl = 0) → post fl (f_drafted, f_count, a_told, now, a_kept, a_draft, a_draftNot, a_head, a_size, a_atoms, a_not, bound)) : wpY_useAll post (f_drafted, f_count, a_told, a_now, a_kept, a_draft, a_draftNot, a_head, a_size, a_atoms, a_not, a_bound) (nI L) sk := by
  unfold wpY_useAll
  refine ⟨sp_n p + 1, sy_all_l ok hP hL4 hp (sp_n p + 1) 0 0 a_now a_bound (by omega) (by omega) (Or.inl rfl) hy ?_⟩
  have e : (¬ (0 : Int32) = 0) = False := by simp
  rw [e]
  exact sq_id (fun y ⟨c, hc, _⟩ => by omega)
theorem sy_rounds {post : SY → Prop} {J : Int32 → Int32 → Int32 → (Nat → Int32) → (Nat → Int32) → (Nat → Int32) → (Nat → Int32) → (Nat → Int32) → (Nat → Int32) → (Nat → Int32) → (Nat → Int32) → (Nat → Int32) → (Nat → Int32) → Prop} {p : SrP} {sk : Int32} {L : Nat} {N0 : Nat → Prop} (ok : sp_ok p) (hP : rp_ p f_count a_head a_size a_atoms a_not) (hL4 : L < 4)
    (hp : ∀ now bound, ys_b now → ys_ now = sp_LF p sk L N0 → J (nI (L + 1)) f_drafted f_count a_told now a_kept a_draft a_draftNot a_head a_size a_atoms a_not bound) :
    ∀ n i fl now bound, i ≤ 80 → 80 - i < n → ys_b now → sq_in p sk L N0 (ys_ now) → (fl = 0 → ∀ x, sp_F p sk L (ys_ now) (ys_ now) x → ys_ now x) → (¬ fl = 0 → i ≤ sq_m L (ys_ now)) → wY_work_39 post J sk (nI L) n fl (nI i) f_drafted f_count a_told now a_kept a_draft a_draftNot a_head a_size a_atoms a_not bound := by
  intro n
  induction n with
  | zero => intro i _ _ _ _ h; omega
  | succ n ih =>
    intro i fl now bound hi hn hy hin hcl hm
    have fin : fl = 0 → J (nI (L + 1)) f_drafted f_count a_told now a_kept a_draft a_draftNot a_head a_size a_atoms a_not bound := fun h0 => hp now bound hy (sq_end ok hin (hcl h0))
    refine pk_le 80 i (fun h => nm_r (nI_1 L) (fin (Classical.byContradiction fun z => ?_))) (fun h => ?_)
    · have := hm z
      have := sq_m_le L (ys_ now)
      omega
    · refine br_c (fun h0 => nm_r (nI_1 L) (fin h0)) (fun h0 => ?_)
      refine sy_all ok hP hL4 hy (fun f now' bound' hf hy' hst => nm_r (nI_1 i) (ih (i + 1) f now' bound' (by omega) (by omega) hy' (sq_in1 ok hin hst) ?_ ?_))
      · intro hf0
        obtain ⟨_, k1, k2⟩ := hst.2.2.2.1 (fun z => z hf0)
        have e : ys_ now' = ys_ now := funext fun x => propext ⟨k1 x, hst.1 x⟩
        rw [e]; exact k2
      · intro hf0
        have := sq_m_st hst id hf0
        have := hm h0
        omega
theorem sy_layers {post : SY → Prop} {p : SrP} {sk : Int32} {G : Nat → Prop} (ok : sp_ok p) (hP : rp_ p f_count a_head a_size a_atoms a_not)
    (hp : ∀ now bound, ys_b now → ys_ now = sp_M p sk G 4 → post (f_drafted, f_count, a_told, now, a_kept, a_draft, a_draftNot, a_head, a_size, a_atoms, a_not, bound)) :
    ∀ n L now bound, L ≤ 4 → 4 - L < n → ys_b now → ys_ now = sp_M p sk G L → wY_work_29 post sk n (nI L) f_drafted f_count a_told now a_kept a_draft a_draftNot a_head a_size a_atoms a_not bound := by
  intro n
  induction n with
  | zero => intro L _ _ _ h; omega
  | succ n ih =>
    intro L now bound hL hn hy hM
    refine pk_le 4 L (fun h => ?_) (fun h => ?_)
    · have e : L = 4 := by omega
      subst e; exact hp now bound hy hM
    · refine ⟨81, ?_⟩
      have hin : sq_in p sk L (sp_M p sk G L) (ys_ now) := by rw [hM]; exact sq_in0 p sk L _
      exact sy_rounds ok hP h (N0 := sp_M p sk G L) (fun now' bound' hy' hM' => ih (L + 1) now' bound' (by omega) (by omega) hy' hM') 81 0 1 now bound (by omega) (by omega) hy hin (fun z => absurd z sn_10) (fun _ => Nat.zero_le _)
theorem sy_work_l {a_bound : Nat → Int32} {post : SY → Prop} {p : SrP} {sk : Int32} (ok : sp_ok p) (hP : rp_ p f_count a_head a_size a_atoms a_not) (ht : ys_b a_told)
    (hp : ∀ now bound, ys_b now → ys_ now = sp_M p sk (ys_ a_told) 4 → post (f_drafted, f_count, a_told, now, a_kept, a_draft, a_draftNot, a_head, a_size, a_atoms, a_not, bound)) :
    ∀ n i now, i ≤ 288 → 288 - i < n → (∀ x, x < i → now x = a_told x) → wY_work_2 post sk f_drafted f_count n (nI i) a_told now a_kept a_draft a_draftNot a_head a_size a_atoms a_not a_bound := by
  intro n
  induction n with
  | zero => intro i _ _ h; omega
  | succ n ih =>
    intro i now hi hn hx
    refine pk_le 288 i (fun h => ?_) (fun h => ?_)
    · have e : i = 288 := by omega
      subst e
      refine ⟨5, sy_layers (G := ys_ a_told) ok hP hp 5 0 now a_bound (by omega) (by omega) ?_ ?_⟩
      · intro x hx'; rw [hx x hx']; exact ht x hx'
      · funext x
        apply propext
        show ys_ now x ↔ ys_ a_told x
        unfold ys_
        exact ⟨fun z => ⟨z.1, by rw [← hx x z.1]; exact z.2⟩, fun z => ⟨z.1, by rw [hx x z.1]; exact z.2⟩⟩
    · refine ⟨vp_in_nI h (by omega), vp_in_nI h (by omega), nm_e (nm_r (nI_1 i) (ih (i + 1) _ (by omega) (by omega) (fun x hx' => ?_)))⟩
      rw [nI_clamp (by omega)]
      by_cases e : x = i
      · subst e
        rw [pk_us]
        rcases ht x h with z | z <;> rw [z] <;> rfl
      · rw [pk_un e]; exact hx x (by omega)
theorem sy_work {a_now a_bound : Nat → Int32} {post : SY → Prop} {p : SrP} {sk : Int32} (ok : sp_ok p) (hP : rp_ p f_count a_head a_size a_atoms a_not) (ht : ys_b a_told)
    (hp : ∀ now bound, ys_b now → ys_ now = sp_M p sk (ys_ a_told) 4 → post (f_drafted, f_count, a_told, now, a_kept, a_draft, a_draftNot, a_head, a_size, a_atoms, a_not, bound)) : wpY_work post (f_drafted, f_count, a_told, a_now, a_kept, a_draft, a_draftNot, a_head, a_size, a_atoms, a_not, a_bound) sk := by
  unfold wpY_work
  exact ⟨289, sy_work_l ok hP ht hp 289 0 a_now (by omega) (by omega) (fun x hx => by omega)⟩
end
end
section
/-! the component: facts of atoms, arriving, binding -/
def sx_met (met wanted : Int32) (h : Nat) : Int32 := if met = 0 then (if nI h = wanted then 1 else 0) else 1
def sx_q (p : SrP) (F : Nat → Int64) (r : Nat) (θ : Nat → Nat) : Prop := ∀ k, k < sp_s p r → sp_g p (3 * r + k) = true → sr_lb (F (sp_a p (3 * r + k) / 100)) (sr_fc θ (sp_a p (3 * r + k))) = false
def sx_cm (C : Nat → Int64) (h f : Nat) : Nat → Int64 := vp_updL C (h / 100) (C (h / 100) ||| sw_bit f)
section
variable {f_count f_draftSize f_skipped f_plainSize f_newAtom f_wayCount f_wanted f_met f_solved : Int32} {a_givens a_facts a_fresh a_coming a_kept : Nat → Int64} {a_heads a_sizes a_atoms a_negated a_draftAtom a_draftNegated a_plain a_cursor a_bound : Nat → Int32}
theorem sx_bitAt {post : Int32 → Prop} {w : Int64} {k : Nat} (hk : k < 64) (hp : post (sn_b (sr_lb w k))) : wpX_bitAt post w (nI k) := by
  unfold wpX_bitAt
  rw [sw_bitAt w hk]
  exact hp
theorem sx_thing {post : Int32 → Prop} {B t : Nat} {θ : Nat → Nat} (hB : B ≤ 12) (ht : t < 10) (hb : t < 4 → a_bound (B + t) = nI (θ t)) (hp : post (nI (sr_tv θ t))) : wpX_thingFor post (f_count, f_draftSize, f_skipped, f_plainSize, f_newAtom, f_wayCount, f_wanted, f_met, f_solved, a_givens, a_facts, a_fresh, a_coming, a_kept, a_heads, a_sizes, a_atoms, a_negated, a_draftAtom, a_draftNegated, a_plain, a_cursor, a_bound) (nI B) (nI t) := by
  unfold wpX_thingFor
  unfold sr_tv at hp
  refine pk_lt t 4 (fun h => ?_) (fun h => ?_)
  · rw [if_pos h] at hp
    rw [nI_add]
    refine ⟨vp_in_nI (by omega) (by omega), ?_⟩
    rw [nI_clamp (by omega), hb h]
    exact hp
  · rw [if_neg (by omega)] at hp
    rw [sn_s4 h]
    exact hp
theorem sx_fact {post : Int32 → Prop} {B a : Nat} {θ : Nat → Nat} (hB : B ≤ 12) (ha : a < 800) (hb : ∀ v, v < 4 → sr_oc a v → a_bound (B + v) = nI (θ v)) (hp : post (nI (sr_fc θ a))) : wpX_factFor post (f_count, f_draftSize, f_skipped, f_plainSize, f_newAtom, f_wayCount, f_wanted, f_met, f_solved, a_givens, a_facts, a_fresh, a_coming, a_kept, a_heads, a_sizes, a_atoms, a_negated, a_draftAtom, a_draftNegated, a_plain, a_cursor, a_bound) (nI B) (nI a) := by
  have e1 : nI a / 10 - nI a / 10 / 10 * 10 = nI (a / 10 % 10) := by rw [sn_d10 (by omega), sn_r10 (by omega)]
  have e2 : nI a - nI a / 10 * 10 = nI (a % 10) := sn_r10 (by omega)
  unfold wpX_factFor
  refine ⟨sn_z10, sn_z10, ?_⟩
  rw [e1]
  refine sx_thing hB (by omega) (fun h => hb _ h (Or.inl rfl)) ⟨sn_z10, ?_⟩
  rw [e2]
  refine sx_thing hB (by omega) (fun h => hb _ h (Or.inr rfl)) ?_
  rw [sn_m6, nI_add]
  exact hp
theorem sx_arr120 {post : SX → Prop} {p : SrP} {r f : Nat} {z : Int32} (hz : z = 0 ∨ z = 1) (hr14 : r < 14) (h8 : sp_h p r < 800) (hh : a_heads r = nI (sp_h p r)) (hf : f < 36)
    (hp : post (f_count, f_draftSize, f_skipped, f_plainSize, f_newAtom, f_wayCount, f_wanted, z, f_solved, a_givens, a_facts, a_fresh, sx_cm a_coming (sp_h p r) f, a_kept, a_heads, a_sizes, a_atoms, a_negated, a_draftAtom, a_draftNegated, a_plain, a_cursor, a_bound)) : wX_arrive_120 post (nI r) (nI f) z f_count f_draftSize f_skipped f_plainSize f_newAtom f_wayCount f_wanted f_met f_solved a_givens a_facts a_fresh a_coming a_kept a_heads a_sizes a_atoms a_negated a_draftAtom a_draftNegated a_plain a_cursor a_bound := by
  unfold wX_arrive_120
  refine ⟨by rcases hz with e | e <;> rw [e] <;> rfl, by rcases hz with e | e <;> rw [e] <;> decide, vp_in_nI hr14 (by omega), sn_z100, vp_in_nI hr14 (by omega), sn_z100, ?_⟩
  rw [nI_clamp (by omega), hh, sn_d100 (by omega), nI_clamp (by omega)]
  exact ⟨vp_in_nI (by omega) (by omega), vp_in_nI (by omega) (by omega), nm_e hp⟩
theorem sx_arr_l {post : SX → Prop} {p : SrP} {r B : Nat} {θ : Nat → Nat} (hr14 : r < 14) (hr : sp_rk p r) (hB : B ≤ 12) (hθ : ∀ v, v < 4 → θ v < 6) (hh : a_heads r = nI (sp_h p r)) (hs : a_sizes r = nI (sp_s p r)) (ha : ∀ k, k < sp_s p r → a_atoms (3 * r + k) = nI (sp_a p (3 * r + k)) ∧ a_negated (3 * r + k) = sn_b (sp_g p (3 * r + k)))
    (hb : ∀ v, v < 4 → sp_S p r v → a_bound (B + v) = nI (θ v)) (hN : ¬ sx_q p a_facts r θ → post (f_count, f_draftSize, f_skipped, f_plainSize, f_newAtom, f_wayCount, f_wanted, f_met, f_solved, a_givens, a_facts, a_fresh, a_coming, a_kept, a_heads, a_sizes, a_atoms, a_negated, a_draftAtom, a_draftNegated, a_plain, a_cursor, a_bound))
    (hY : sx_q p a_facts r θ → post (f_count, f_draftSize, f_skipped, f_plainSize, f_newAtom, f_wayCount + 1, f_wanted, sx_met f_met f_wanted (sr_fc θ (sp_h p r)), f_solved, a_givens, a_facts, a_fresh, sx_cm a_coming (sp_h p r) (sr_fc θ (sp_h p r)), a_kept, a_heads, a_sizes, a_atoms, a_negated, a_draftAtom, a_draftNegated, a_plain, a_cursor, a_bound)) :
    ∀ n k, k ≤ sp_s p r → sp_s p r - k < n → (∀ j, j < k → sp_g p (3 * r + j) = true → sr_lb (a_facts (sp_a p (3 * r + j) / 100)) (sr_fc θ (sp_a p (3 * r + j))) = false) → wX_arrive_11 post (nI r) (nI B) f_count f_draftSize f_skipped f_plainSize f_newAtom f_wayCount f_wanted f_met f_solved a_givens a_facts a_fresh a_coming a_kept a_heads a_sizes a_atoms a_negated a_draftAtom a_draftNegated a_plain a_cursor a_bound n (nI (3 * r + k)) := by
  have h3 := hr.2.1
  have h8 := hr.1
  intro n
  induction n with
  | zero => intro k _ h; omega
  | succ n ih =>
    intro k hk hn hx
    refine And.intro (vp_in_nI hr14 (by omega)) ?_
    rw [nI_clamp (show r < 2 ^ 31 by omega), hs]
    refine pk_le (3 * r + sp_s p r) (3 * r + k) (fun h => ?_) (fun h => ?_) (by rw [sn_m3, nI_add])
    · refine ⟨vp_in_nI hr14 (by omega), ?_⟩
      rw [hh]
      have hq : sx_q p a_facts r θ := fun j hj => hx j (by omega)
      have hfl := sr_fc_lt (sp_h p r) hθ
      refine sx_fact hB h8 (fun v hv ho => hb v hv (hr.2.2.2 v hv (Or.inl ho))) (nm_e ?_)
      have hY := hY hq
      unfold sx_met at hY
      refine br_c (fun h0 => ?_) (fun h0 => ?_)
      · rw [if_pos h0] at hY
        refine br_c (fun hw => ?_) (fun hw => ?_)
        · rw [if_pos hw] at hY
          exact sx_arr120 (Or.inr rfl) hr14 h8 hh hfl hY
        · rw [if_neg hw] at hY
          exact sx_arr120 (Or.inl rfl) hr14 h8 hh hfl hY
      · rw [if_neg h0] at hY
        exact sx_arr120 (Or.inr rfl) hr14 h8 hh hfl hY
    · have hk1 : k < sp_s p r := by omega
      obtain ⟨e1, e2⟩ := ha k hk1
      have ha8 := (hr.2.2.1 k hk1).1
      have hfl := sr_fc_lt (sp_a p (3 * r + k)) hθ
      refine ⟨vp_in_nI (by omega) (by omega), ?_⟩
      rw [nI_clamp (show 3 * r + k < 2 ^ 31 by omega), e2, e1, sn_b0]
      refine br_c (fun hg => nm_r (nI_1 _) (ih (k + 1) (by omega) (by omega) (fun j hj gj => ?_))) (fun hg => ⟨vp_in_nI (by omega) (by omega), ?_⟩)
      · by_cases e : j = k
        · subst e; rw [hg] at gj; exact nomatch gj
        · exact hx j (by omega) gj
      · have hgt : sp_g p (3 * r + k) = true := by cases hc : sp_g p (3 * r + k) with
          | false => exact absurd hc hg
          | true => rfl
        refine sx_fact hB ha8 (fun v hv ho => hb v hv (hr.2.2.2 v hv (Or.inr ⟨k, hk1, ho⟩))) ⟨vp_in_nI (by omega) (by omega), sn_z100, ?_⟩
        rw [sn_d100 (by omega), nI_clamp (by omega)]
        refine ⟨vp_in_nI (by omega) (by omega), sx_bitAt (by omega) ?_⟩
        rw [sn_b1]
        refine br_c (fun ht => hN fun hq => ?_) (fun ht => nm_r (nI_1 _) (ih (k + 1) (by omega) (by omega) (fun j hj gj => ?_)))
        · rw [hq k hk1 hgt] at ht; exact nomatch ht
        · by_cases e : j = k
          · subst e; exact Bool.eq_false_iff.mpr ht
          · exact hx j (by omega) gj
theorem sx_arrive {post : SX → Prop} {p : SrP} {r m : Nat} {θ : Nat → Nat} (hr14 : r < 14) (hr : sp_rk p r) (hm : m ≤ 3) (hθ : ∀ v, v < 4 → θ v < 6) (hh : a_heads r = nI (sp_h p r)) (hs : a_sizes r = nI (sp_s p r)) (ha : ∀ k, k < sp_s p r → a_atoms (3 * r + k) = nI (sp_a p (3 * r + k)) ∧ a_negated (3 * r + k) = sn_b (sp_g p (3 * r + k)))
    (hb : ∀ v, v < 4 → sp_S p r v → a_bound (4 * m + v) = nI (θ v)) (hN : ¬ sx_q p a_facts r θ → post (f_count, f_draftSize, f_skipped, nI m, f_newAtom, f_wayCount, f_wanted, f_met, f_solved, a_givens, a_facts, a_fresh, a_coming, a_kept, a_heads, a_sizes, a_atoms, a_negated, a_draftAtom, a_draftNegated, a_plain, a_cursor, a_bound))
    (hY : sx_q p a_facts r θ → post (f_count, f_draftSize, f_skipped, nI m, f_newAtom, f_wayCount + 1, f_wanted, sx_met f_met f_wanted (sr_fc θ (sp_h p r)), f_solved, a_givens, a_facts, a_fresh, sx_cm a_coming (sp_h p r) (sr_fc θ (sp_h p r)), a_kept, a_heads, a_sizes, a_atoms, a_negated, a_draftAtom, a_draftNegated, a_plain, a_cursor, a_bound)) :
    wpX_arrive post (f_count, f_draftSize, f_skipped, nI m, f_newAtom, f_wayCount, f_wanted, f_met, f_solved, a_givens, a_facts, a_fresh, a_coming, a_kept, a_heads, a_sizes, a_atoms, a_negated, a_draftAtom, a_draftNegated, a_plain, a_cursor, a_bound) (nI r) := by
  unfold wpX_arrive
  exact nm_r (sn_m4 m) (nm_r (sn_m3 r) ⟨sp_s p r + 1, sx_arr_l hr14 hr (by omega) hθ hh hs ha hb hN hY (sp_s p r + 1) 0 (by omega) (by omega) (fun j hj => by omega)⟩)
theorem sx_agree {post : Int32 → SX → Prop} {B t x : Nat} {β : Nat → Int32} (hB : B ≤ 12) (ht : t < 10) (hx : x < 6) (hb : ∀ v, v < 4 → a_bound (B + v) = β v) (hN : sr_ag β t x = none → post 0 (f_count, f_draftSize, f_skipped, f_plainSize, f_newAtom, f_wayCount, f_wanted, f_met, f_solved, a_givens, a_facts, a_fresh, a_coming, a_kept, a_heads, a_sizes, a_atoms, a_negated, a_draftAtom, a_draftNegated, a_plain, a_cursor, a_bound))
    (hS : ∀ γ b, sr_ag β t x = some γ → (∀ i, i < B → b i = a_bound i) → (∀ v, v < 4 → b (B + v) = γ v) → post 1 (f_count, f_draftSize, f_skipped, f_plainSize, f_newAtom, f_wayCount, f_wanted, f_met, f_solved, a_givens, a_facts, a_fresh, a_coming, a_kept, a_heads, a_sizes, a_atoms, a_negated, a_draftAtom, a_draftNegated, a_plain, a_cursor, b)) : wpX_agree post (f_count, f_draftSize, f_skipped, f_plainSize, f_newAtom, f_wayCount, f_wanted, f_met, f_solved, a_givens, a_facts, a_fresh, a_coming, a_kept, a_heads, a_sizes, a_atoms, a_negated, a_draftAtom, a_draftNegated, a_plain, a_cursor, a_bound) (nI B) (nI t) (nI x) := by
  unfold wpX_agree
  unfold sr_ag at hN hS
  refine pk_lt t 4 (fun h => ?_) (fun h => ?_)
  · rw [if_pos h] at hN hS
    rw [nI_add, nI_clamp (by omega), hb t h]
    refine ⟨vp_in_nI (by omega) (by omega), br_c (fun h1 => ?_) (fun h1 => ?_)⟩
    · rw [if_pos h1] at hN hS
      refine ⟨vp_in_nI (by omega) (by omega), nm_e ?_⟩
      unfold wX_agree_39
      rw [nI_add, nI_clamp (by omega), pk_us]
      refine ⟨vp_in_nI (by omega) (by omega), br_t rfl (hS _ _ rfl (fun i hi => pk_un (by omega)) (fun v hv => ?_))⟩
      by_cases e : v = t
      · subst e; rw [pk_us, pk_us]
      · rw [pk_un e, pk_un (by omega)]; exact hb v hv
    · rw [if_neg h1] at hN hS
      unfold wX_agree_39
      rw [nI_add, nI_clamp (by omega), hb t h]
      refine ⟨vp_in_nI (by omega) (by omega), br_c (fun h2 => ?_) (fun h2 => ?_)⟩
      · rw [if_pos h2] at hS
        exact hS _ _ rfl (fun _ _ => rfl) hb
      · rw [if_neg h2] at hN
        exact hN rfl
  · rw [if_neg (by omega)] at hN hS
    rw [sn_s4 h]
    refine pk_eq (t - 4) x (fun h2 => ?_) (fun h2 => ?_)
    · rw [if_pos h2] at hS
      exact hS _ _ rfl (fun _ _ => rfl) hb
    · rw [if_neg h2] at hN
      exact hN rfl
theorem sx_bind_l {post : Int32 → SX → Prop} {d f j a : Nat} {β : Nat → Int32} (hd : d < 3) (hf : f < 36) (hj : j < 42) (ha : a < 800) (hat : a_atoms j = nI a) (hb : ∀ v, v < 4 → a_bound (4 * d + v) = β v)
    (hN : sr_bd β a f = none → ∀ b, (∀ i, i < 4 * d + 4 → b i = a_bound i) → post 0 (f_count, f_draftSize, f_skipped, f_plainSize, f_newAtom, f_wayCount, f_wanted, f_met, f_solved, a_givens, a_facts, a_fresh, a_coming, a_kept, a_heads, a_sizes, a_atoms, a_negated, a_draftAtom, a_draftNegated, a_plain, a_cursor, b))
    (hS : ∀ γ b, sr_bd β a f = some γ → (∀ i, i < 4 * d + 4 → b i = a_bound i) → (∀ v, v < 4 → b (4 * d + 4 + v) = γ v) → post 1 (f_count, f_draftSize, f_skipped, f_plainSize, f_newAtom, f_wayCount, f_wanted, f_met, f_solved, a_givens, a_facts, a_fresh, a_coming, a_kept, a_heads, a_sizes, a_atoms, a_negated, a_draftAtom, a_draftNegated, a_plain, a_cursor, b)) :
    ∀ n i b, i ≤ 4 → 4 - i < n → (∀ z, z < 4 * d + 4 → b z = a_bound z) → (∀ v, v < i → b (4 * d + 4 + v) = β v) → wX_bind_62 post (nI d) (nI f) (nI j) f_count f_draftSize f_skipped f_plainSize f_newAtom f_wayCount f_wanted f_met f_solved n (nI i) a_givens a_facts a_fresh a_coming a_kept a_heads a_sizes a_atoms a_negated a_draftAtom a_draftNegated a_plain a_cursor b := by
  have e1 : nI a / 10 - nI a / 10 / 10 * 10 = nI (a / 10 % 10) := by rw [sn_d10 (by omega), sn_r10 (by omega)]
  have e2 : nI a - nI a / 10 * 10 = nI (a % 10) := sn_r10 (by omega)
  have e3 : (4 * nI d + 4 : Int32) = nI (4 * d + 4) := by rw [sn_m4, sn_a4]
  have e4 : nI f / 6 = nI (f / 6) := sn_d6 (by omega)
  have e5 : nI f - nI (f / 6) * 6 = nI (f % 6) := by rw [← e4]; exact sn_r6 (by omega)
  have ecl : (nI j).toNatClampNeg = j := nI_clamp (by omega)
  intro n
  induction n with
  | zero => intro i _ _ h; omega
  | succ n ih =>
    intro i b hi hn hlo hro
    refine pk_le 4 i (fun h => ?_) (fun h => ?_)
    · have ei : i = 4 := by omega
      subst ei
      refine ⟨vp_in_nI hj (by omega), sn_z10, sn_z10, sn_z6, ?_⟩
      rw [ecl, hat, e1, e3, e4]
      refine sx_agree (by omega) (by omega) (by omega) hro (fun hg => ?_) (fun γ b1 hg hb1 hg1 => ?_)
      · exact br_t rfl (hN (by unfold sr_bd; rw [hg]; rfl) b hlo)
      · refine br_f sn_10 ⟨vp_in_nI hj (by omega), sn_z10, sn_z6, ?_⟩
        rw [hat, e2, e5]
        refine sx_agree (by omega) (by omega) (by omega) hg1 (fun hg' => ?_) (fun δ b2 hg' hb2 hg2 => ?_)
        · exact br_t rfl (hN (by unfold sr_bd; rw [hg]; exact hg') b1 (fun z hz => by rw [hb1 z hz, hlo z hz]))
        · exact br_f sn_10 (hS δ b2 (by unfold sr_bd; rw [hg]; exact hg') (fun z hz => by rw [hb2 z hz, hb1 z hz, hlo z hz]) hg2)
    · rw [e3, sn_m4, nI_add, nI_add]
      refine ⟨vp_in_nI (by omega) (by omega), vp_in_nI (by omega) (by omega), nm_e (nm_r (nI_1 i) (ih (i + 1) _ (by omega) (by omega) (fun z hz => ?_) (fun v hv => ?_)))⟩
      · rw [nI_clamp (by omega), pk_un (by omega)]
        exact hlo z hz
      · rw [nI_clamp (by omega), nI_clamp (by omega)]
        by_cases e : v = i
        · subst e
          rw [pk_us, hlo _ (by omega)]
          exact hb v (by omega)
        · rw [pk_un (by omega)]
          exact hro v (by omega)
theorem sx_bind {post : Int32 → SX → Prop} {d f j a : Nat} {β : Nat → Int32} {w : Int64} (hd : d < 3) (hf : f < 36) (hj : j < 42) (ha : a < 800) (hpl : a_plain d = nI j) (hat : a_atoms j = nI a) (hw : w = if nI j = f_newAtom then a_fresh (a / 100) else a_facts (a / 100)) (hb : ∀ v, v < 4 → a_bound (4 * d + v) = β v)
    (hN : sr_bq β a w f = none → ∀ b, (∀ i, i < 4 * d + 4 → b i = a_bound i) → post 0 (f_count, f_draftSize, f_skipped, f_plainSize, f_newAtom, f_wayCount, f_wanted, f_met, f_solved, a_givens, a_facts, a_fresh, a_coming, a_kept, a_heads, a_sizes, a_atoms, a_negated, a_draftAtom, a_draftNegated, a_plain, a_cursor, b))
    (hS : ∀ γ b, sr_bq β a w f = some γ → (∀ i, i < 4 * d + 4 → b i = a_bound i) → (∀ v, v < 4 → b (4 * d + 4 + v) = γ v) → post 1 (f_count, f_draftSize, f_skipped, f_plainSize, f_newAtom, f_wayCount, f_wanted, f_met, f_solved, a_givens, a_facts, a_fresh, a_coming, a_kept, a_heads, a_sizes, a_atoms, a_negated, a_draftAtom, a_draftNegated, a_plain, a_cursor, b)) :
    wpX_bind post (f_count, f_draftSize, f_skipped, f_plainSize, f_newAtom, f_wayCount, f_wanted, f_met, f_solved, a_givens, a_facts, a_fresh, a_coming, a_kept, a_heads, a_sizes, a_atoms, a_negated, a_draftAtom, a_draftNegated, a_plain, a_cursor, a_bound) (nI d) (nI f) := by
  have go : wX_bind_46 post (nI d) (nI f) (nI j) w f_count f_draftSize f_skipped f_plainSize f_newAtom f_wayCount f_wanted f_met f_solved a_givens a_facts a_fresh a_coming a_kept a_heads a_sizes a_atoms a_negated a_draftAtom a_draftNegated a_plain a_cursor a_bound := by
    unfold wX_bind_46
    refine sx_bitAt (by omega) ?_
    rw [sn_b0]
    unfold sr_bq at hN hS
    refine br_c (fun h => ?_) (fun h => ?_)
    · rw [if_neg (by rw [h]; decide)] at hN
      exact hN rfl _ (fun _ _ => rfl)
    · have ht : sr_lb w f = true := by cases hc : sr_lb w f with
        | false => exact absurd hc h
        | true => rfl
      rw [if_pos ht] at hN hS
      exact ⟨5, sx_bind_l hd hf hj ha hat hb hN hS 5 0 a_bound (by omega) (by omega) (fun _ _ => rfl) (fun v hv => by omega)⟩
  have ecl : (nI j).toNatClampNeg = j := nI_clamp (by omega)
  unfold wpX_bind
  refine ⟨vp_in_nI hd (by omega), ?_⟩
  rw [nI_clamp (show d < 2 ^ 31 by omega), hpl]
  refine nm_e ?_
  rw [ecl, hat, sn_d100 (by omega), nI_clamp (by omega)]
  refine br_c (fun h => ?_) (fun h => ?_)
  · rw [if_pos h] at hw
    subst hw
    exact ⟨vp_in_nI hj (by omega), sn_z100, vp_in_nI (by omega) (by omega), go⟩
  · rw [if_neg h] at hw
    subst hw
    exact ⟨vp_in_nI hj (by omega), sn_z100, vp_in_nI (by omega) (by omega), go⟩
end
end
section
/-! the component: the walk through all ways of a rule -/
def sx_th (β : Nat → Int32) : Nat → Nat := fun v => (β v).toNatClampNeg
noncomputable def sx_lf (p : SrP) (F : Nat → Int64) (wanted : Int32) (r : Nat) (acc : Int32 × Int32 × (Nat → Int64)) (β : Nat → Int32) : Int32 × Int32 × (Nat → Int64) :=
  @ite _ (sx_q p F r (sx_th β)) (Classical.propDecidable _) (acc.1 + 1, sx_met acc.2.1 wanted (sr_fc (sx_th β) (sp_h p r)), sx_cm acc.2.2 (sp_h p r) (sr_fc (sx_th β) (sp_h p r))) acc
theorem sx_lf_t {p : SrP} {F : Nat → Int64} {wanted : Int32} {r : Nat} {acc : Int32 × Int32 × (Nat → Int64)} {β : Nat → Int32} (h : sx_q p F r (sx_th β)) : sx_lf p F wanted r acc β = (acc.1 + 1, sx_met acc.2.1 wanted (sr_fc (sx_th β) (sp_h p r)), sx_cm acc.2.2 (sp_h p r) (sr_fc (sx_th β) (sp_h p r))) := if_pos h
theorem sx_lf_f {p : SrP} {F : Nat → Int64} {wanted : Int32} {r : Nat} {acc : Int32 × Int32 × (Nat → Int64)} {β : Nat → Int32} (h : ¬ sx_q p F r (sx_th β)) : sx_lf p F wanted r acc β = acc := if_neg h
def sx_al (A : Nat → Nat) (W : Nat → Int64) : Nat → Nat → List (Nat × Int64)
  | 0, _ => []
  | k + 1, d => (A d, W d) :: sx_al A W k (d + 1)
theorem sx_al_mem {A : Nat → Nat} {W : Nat → Int64} : ∀ {k d : Nat} {x : Nat × Int64}, x ∈ sx_al A W k d ↔ ∃ i, d ≤ i ∧ i < d + k ∧ x = (A i, W i)
  | 0, d, x => ⟨fun h => by simp [sx_al] at h, fun ⟨i, h1, h2, _⟩ => by omega⟩
  | k + 1, d, x => by
    simp only [sx_al, List.mem_cons]
    rw [sx_al_mem]
    constructor
    · intro z
      rcases z with z | ⟨i, h1, h2, h3⟩
      · exact ⟨d, by omega, by omega, z⟩
      · exact ⟨i, by omega, by omega, h3⟩
    · intro ⟨i, h1, h2, h3⟩
      by_cases e : i = d
      · subst e; exact Or.inl h3
      · exact Or.inr ⟨i, by omega, by omega, h3⟩
theorem sx_al_len {A : Nat → Nat} {W : Nat → Int64} : ∀ k d : Nat, (sx_al A W k d).length = k
  | 0, _ => rfl
  | k + 1, d => by simp only [sx_al, List.length_cons, sx_al_len k (d + 1)]
/-! the walk over an abstract machine: n steps of fuel, depth, steps so far, what has been gathered, cursors, rows -/
def sx_SUB (Wd : Nat → Int32 → Int32 → (Int32 × Int32 × (Nat → Int64)) → (Nat → Int32) → (Nat → Int32) → Prop) (lf : (Int32 × Int32 × (Nat → Int64)) → (Nat → Int32) → (Int32 × Int32 × (Nat → Int64))) (d : Nat) (β : Nat → Int32) (st : Nat) (en : List (Nat → Int32)) : Prop :=
  ∀ n s (acc : Int32 × Int32 × (Nat → Int64)) (cursor bound : Nat → Int32), (∀ v, v < 4 → bound (4 * d + v) = β v) → cursor d = 0 → s + st ≤ 60000 →
    (∀ cursor' bound' : Nat → Int32, (∀ i, i < d → cursor' i = cursor i) → (∀ i, i < 4 * d + 4 → bound' i = bound i) → Wd n (nI d + (-1)) (nI (s + st)) (en.foldl lf acc) cursor' bound') → Wd (n + st) (nI d) (nI s) acc cursor bound
section
variable {Wd : Nat → Int32 → Int32 → (Int32 × Int32 × (Nat → Int64)) → (Nat → Int32) → (Nat → Int32) → Prop} {lf : (Int32 × Int32 × (Nat → Int64)) → (Nat → Int32) → (Int32 × Int32 × (Nat → Int64))}
theorem sx_fan {d a : Nat} {w : Int64} {β : Nat → Int32}
    (R36 : ∀ n s acc (cursor bound : Nat → Int32), s < 60000 → cursor d = nI 36 → Wd n (nI d + (-1)) (nI (s + 1)) acc cursor bound → Wd (n + 1) (nI d) (nI s) acc cursor bound)
    (Rn : ∀ n s c acc (cursor bound : Nat → Int32), s < 60000 → c < 36 → cursor d = nI c → (∀ v, v < 4 → bound (4 * d + v) = β v) → sr_bq β a w c = none → (∀ b : Nat → Int32, (∀ i, i < 4 * d + 4 → b i = bound i) → Wd n (nI d) (nI (s + 1)) acc (upd cursor d (nI (c + 1))) b) → Wd (n + 1) (nI d) (nI s) acc cursor bound)
    (Rs : ∀ n s c acc (cursor bound γ : Nat → Int32), s < 60000 → c < 36 → cursor d = nI c → (∀ v, v < 4 → bound (4 * d + v) = β v) → sr_bq β a w c = some γ → (∀ b : Nat → Int32, (∀ i, i < 4 * d + 4 → b i = bound i) → (∀ v, v < 4 → b (4 * d + 4 + v) = γ v) → Wd n (nI (d + 1)) (nI (s + 1)) acc (upd (upd cursor d (nI (c + 1))) (d + 1) 0) b) → Wd (n + 1) (nI d) (nI s) acc cursor bound)
    (h : Nat → Nat) (g : Nat → List (Nat → Int32)) (hn : ∀ f, f < 36 → sr_bq β a w f = none → h f = 0 ∧ g f = []) (hs : ∀ f γ, f < 36 → sr_bq β a w f = some γ → sx_SUB Wd lf (d + 1) γ (h f) (g f)) :
    ∀ mm c, c + mm = 36 → ∀ n s (acc : Int32 × Int32 × (Nat → Int64)) (cursor bound : Nat → Int32), (∀ v, v < 4 → bound (4 * d + v) = β v) → cursor d = nI c → s + sr_sf h mm c ≤ 60000 →
      (∀ cursor' bound' : Nat → Int32, (∀ i, i < d → cursor' i = cursor i) → (∀ i, i < 4 * d + 4 → bound' i = bound i) → Wd n (nI d + (-1)) (nI (s + sr_sf h mm c)) ((sr_fl g mm c).foldl lf acc) cursor' bound') → Wd (n + sr_sf h mm c) (nI d) (nI s) acc cursor bound := by
  intro mm
  induction mm with
  | zero =>
    intro c hcm n s acc cursor bound hb hc hst hK
    have ec : c = 36 := by omega
    subst ec
    simp only [sr_sf, sr_fl, List.foldl_nil] at hst hK ⊢
    exact R36 n s acc cursor bound (by omega) hc (hK cursor bound (fun _ _ => rfl) (fun _ _ => rfl))
  | succ mm ihm =>
    intro c hcm n s acc cursor bound hb hc hst hK
    simp only [sr_sf, sr_fl, List.foldl_append] at hst hK ⊢
    cases hg : sr_bq β a w c with
    | none =>
      obtain ⟨h0, g0⟩ := hn c (by omega) hg
      rw [h0] at hst ⊢
      rw [h0, g0] at hK
      rw [show n + (1 + 0 + sr_sf h mm (c + 1)) = (n + sr_sf h mm (c + 1)) + 1 by omega]
      rw [show s + (1 + 0 + sr_sf h mm (c + 1)) = (s + 1) + sr_sf h mm (c + 1) by omega] at hst hK
      refine Rn _ s c acc cursor bound (by omega) (by omega) hc hb hg (fun b hlo => ?_)
      refine ihm (c + 1) (by omega) n (s + 1) acc _ b (fun v hv => by rw [hlo _ (by omega)]; exact hb v hv) pk_us hst (fun cursor' bound' h1 h2 => hK cursor' bound' (fun i hi => ?_) (fun i hi => ?_))
      · rw [h1 i hi, pk_un (by omega)]
      · rw [h2 i hi, hlo i hi]
    | some γ =>
      have sub := hs c γ (by omega) hg
      rw [show n + (1 + h c + sr_sf h mm (c + 1)) = ((n + sr_sf h mm (c + 1)) + h c) + 1 by omega]
      rw [show s + (1 + h c + sr_sf h mm (c + 1)) = (s + 1 + h c) + sr_sf h mm (c + 1) by omega] at hst hK
      refine Rs _ s c acc cursor bound γ (by omega) (by omega) hc hb hg (fun b hlo hrow => ?_)
      refine sub _ (s + 1) acc _ b ?_ pk_us (by omega) (fun cursor' bound' h1 h2 => ?_)
      · intro v hv
        rw [show 4 * (d + 1) + v = 4 * d + 4 + v by omega]
        exact hrow v hv
      · rw [pk_m1]
        refine ihm (c + 1) (by omega) n (s + 1 + h c) _ cursor' bound' (fun v hv => ?_) ?_ hst (fun cursor2 bound2 h3 h4 => hK cursor2 bound2 (fun i hi => ?_) (fun i hi => ?_))
        · rw [h2 _ (by omega), hlo _ (by omega)]; exact hb v hv
        · rw [h1 d (by omega), pk_un (by omega), pk_us]
        · rw [h3 i hi, h1 i (by omega), pk_un (by omega), pk_un (by omega)]
        · rw [h4 i hi, h2 i (by omega), hlo i hi]
theorem sr_st_c (a : Nat) (w : Int64) (l : List (Nat × Int64)) (β : Nat → Int32) : sr_st ((a, w) :: l) β = sr_sf (fun f => sr_on (sr_st l) (sr_bq β a w f)) 36 0 := by rw [sr_st]
theorem sr_en_c (a : Nat) (w : Int64) (l : List (Nat × Int64)) (β : Nat → Int32) : sr_en ((a, w) :: l) β = sr_fl (fun f => sr_ol (sr_en l) (sr_bq β a w f)) 36 0 := by rw [sr_en]
theorem sx_tree {S : Nat → Prop} {m : Nat} {A : Nat → Nat} {W : Nat → Int64}
    (Rl : ∀ (D : Nat → Prop) (β : Nat → Int32), sr_ro D β → (∀ v, v < 4 → (S v ↔ D v)) → ∀ n s acc (cursor bound : Nat → Int32), s < 60000 → (∀ v, v < 4 → bound (4 * m + v) = β v) → Wd n (nI m + (-1)) (nI (s + 1)) (lf acc β) cursor bound → Wd (n + 1) (nI m) (nI s) acc cursor bound)
    (R36 : ∀ d, d < m → ∀ n s acc (cursor bound : Nat → Int32), s < 60000 → cursor d = nI 36 → Wd n (nI d + (-1)) (nI (s + 1)) acc cursor bound → Wd (n + 1) (nI d) (nI s) acc cursor bound)
    (Rn : ∀ d, d < m → ∀ (β : Nat → Int32) n s c acc (cursor bound : Nat → Int32), s < 60000 → c < 36 → cursor d = nI c → (∀ v, v < 4 → bound (4 * d + v) = β v) → sr_bq β (A d) (W d) c = none → (∀ b : Nat → Int32, (∀ i, i < 4 * d + 4 → b i = bound i) → Wd n (nI d) (nI (s + 1)) acc (upd cursor d (nI (c + 1))) b) → Wd (n + 1) (nI d) (nI s) acc cursor bound)
    (Rs : ∀ d, d < m → ∀ (β : Nat → Int32) n s c acc (cursor bound γ : Nat → Int32), s < 60000 → c < 36 → cursor d = nI c → (∀ v, v < 4 → bound (4 * d + v) = β v) → sr_bq β (A d) (W d) c = some γ → (∀ b : Nat → Int32, (∀ i, i < 4 * d + 4 → b i = bound i) → (∀ v, v < 4 → b (4 * d + 4 + v) = γ v) → Wd n (nI (d + 1)) (nI (s + 1)) acc (upd (upd cursor d (nI (c + 1))) (d + 1) 0) b) → Wd (n + 1) (nI d) (nI s) acc cursor bound) :
    ∀ k d, d + k = m → ∀ (D : Nat → Prop) (β : Nat → Int32), sr_ro D β → (∀ v, v < 4 → (S v ↔ (D v ∨ ∃ x, x ∈ sx_al A W k d ∧ sr_oc x.1 v))) → sx_SUB Wd lf d β (sr_st (sx_al A W k d) β) (sr_en (sx_al A W k d) β) := by
  intro k
  induction k with
  | zero =>
    intro d hd D β hro hS n s acc cursor bound hb hc hst hK
    have ed : d = m := by omega
    subst ed
    simp only [sx_al, sr_st, sr_en, List.foldl_cons, List.foldl_nil] at hst hK ⊢
    refine Rl D β hro ?_ n s acc cursor bound (by omega) hb (hK cursor bound (fun _ _ => rfl) (fun _ _ => rfl))
    intro v hv
    rw [hS v hv]
    refine ⟨fun z => z.elim id (fun ⟨x, hx, _⟩ => ?_), Or.inl⟩
    simp [sx_al] at hx
  | succ k ih =>
    intro d hd D β hro hS n s acc cursor bound hb hc hst hK
    have hdm : d < m := by omega
    rw [show sx_al A W (k + 1) d = (A d, W d) :: sx_al A W k (d + 1) from rfl, sr_st_c] at hst ⊢
    rw [show sx_al A W (k + 1) d = (A d, W d) :: sx_al A W k (d + 1) from rfl, sr_st_c, sr_en_c] at hK
    refine sx_fan (R36 d hdm) (Rn d hdm β) (Rs d hdm β) (fun f => sr_on (sr_st (sx_al A W k (d + 1))) (sr_bq β (A d) (W d) f)) (fun f => sr_ol (sr_en (sx_al A W k (d + 1))) (sr_bq β (A d) (W d) f)) ?_ ?_ 36 0 (by omega) n s acc cursor bound hb hc hst hK
    · intro f _ hg
      rw [hg]
      exact ⟨rfl, rfl⟩
    · intro f γ hf hg
      rw [hg]
      refine ih (d + 1) (by omega) (fun v => D v ∨ sr_oc (A d) v) γ (sr_bq_ro hf hro hg) ?_
      intro v hv
      rw [hS v hv]
      simp only [sx_al, List.mem_cons]
      constructor
      · intro z
        rcases z with z | ⟨x, hx | hx, ho⟩
        · exact Or.inl (Or.inl z)
        · subst hx; exact Or.inl (Or.inr ho)
        · exact Or.inr ⟨x, hx, ho⟩
      · intro z
        rcases z with (z | z) | ⟨x, hx, ho⟩
        · exact Or.inl z
        · exact Or.inr ⟨_, Or.inl rfl, z⟩
        · exact Or.inr ⟨x, Or.inr hx, ho⟩
end
section
variable {f_count f_draftSize f_skipped f_newAtom f_wanted f_solved : Int32} {a_givens a_facts a_fresh a_kept : Nat → Int64} {a_heads a_sizes a_atoms a_negated a_draftAtom a_draftNegated a_plain : Nat → Int32}
theorem sx_r36 {post : SX → Prop} {r m d n s : Nat} {acc : Int32 × Int32 × (Nat → Int64)} {cursor bound : Nat → Int32} (hm : m ≤ 3) (hd : d < m) (hs : s < 60000) (hc : cursor d = nI 36)
    (hK : wX_join_100 post (nI r) n (nI d + (-1)) (nI (s + 1)) f_count f_draftSize f_skipped (nI m) f_newAtom acc.1 f_wanted acc.2.1 f_solved a_givens a_facts a_fresh acc.2.2 a_kept a_heads a_sizes a_atoms a_negated a_draftAtom a_draftNegated a_plain cursor bound) :
    wX_join_100 post (nI r) (n + 1) (nI d) (nI s) f_count f_draftSize f_skipped (nI m) f_newAtom acc.1 f_wanted acc.2.1 f_solved a_givens a_facts a_fresh acc.2.2 a_kept a_heads a_sizes a_atoms a_negated a_draftAtom a_draftNegated a_plain cursor bound := by
  refine pk_le 60000 s (fun h => by omega) (fun h => ?_)
  refine br_f (nI_pos (by omega)) (pk_eq d m (fun h => by omega) (fun h => ⟨vp_in_nI (by omega) (by omega), ?_⟩))
  rw [nI_clamp (by omega), hc]
  exact br_t rfl (nm_e (nm_r (nI_1 s) hK))
theorem sx_rn {post : SX → Prop} {r m d n s c j a : Nat} {w : Int64} {acc : Int32 × Int32 × (Nat → Int64)} {β cursor bound : Nat → Int32} (hm : m ≤ 3) (hd : d < m) (hs : s < 60000) (hc36 : c < 36) (hc : cursor d = nI c) (hj : j < 42) (ha : a < 800) (hpl : a_plain d = nI j) (hat : a_atoms j = nI a) (hw : w = if nI j = f_newAtom then a_fresh (a / 100) else a_facts (a / 100)) (hb : ∀ v, v < 4 → bound (4 * d + v) = β v) (hg : sr_bq β a w c = none)
    (hK : ∀ b : Nat → Int32, (∀ i, i < 4 * d + 4 → b i = bound i) → wX_join_100 post (nI r) n (nI d) (nI (s + 1)) f_count f_draftSize f_skipped (nI m) f_newAtom acc.1 f_wanted acc.2.1 f_solved a_givens a_facts a_fresh acc.2.2 a_kept a_heads a_sizes a_atoms a_negated a_draftAtom a_draftNegated a_plain (upd cursor d (nI (c + 1))) b) :
    wX_join_100 post (nI r) (n + 1) (nI d) (nI s) f_count f_draftSize f_skipped (nI m) f_newAtom acc.1 f_wanted acc.2.1 f_solved a_givens a_facts a_fresh acc.2.2 a_kept a_heads a_sizes a_atoms a_negated a_draftAtom a_draftNegated a_plain cursor bound := by
  refine pk_le 60000 s (fun h => by omega) (fun h => ?_)
  refine br_f (nI_pos (by omega)) (pk_eq d m (fun h => by omega) (fun h => ⟨vp_in_nI (by omega) (by omega), ?_⟩))
  rw [nI_clamp (by omega), hc, nI_1 c]
  refine pk_eq c 36 (fun h => by omega) (fun h => ⟨vp_in_nI (by omega) (by omega), nm_e ⟨vp_in_nI (by omega) (by omega), vp_in_nI (by omega) (by omega), nm_e ?_⟩⟩)
  refine sx_bind (by omega) (by omega) hj ha hpl hat hw hb (fun _ b hlo => ?_) (fun γ b hg2 _ _ => ?_)
  · exact br_t rfl (nm_r (nI_1 s) (hK b hlo))
  · rw [hg] at hg2; cases hg2
theorem sx_rs {post : SX → Prop} {r m d n s c j a : Nat} {w : Int64} {acc : Int32 × Int32 × (Nat → Int64)} {β γ cursor bound : Nat → Int32} (hm : m ≤ 3) (hd : d < m) (hs : s < 60000) (hc36 : c < 36) (hc : cursor d = nI c) (hj : j < 42) (ha : a < 800) (hpl : a_plain d = nI j) (hat : a_atoms j = nI a) (hw : w = if nI j = f_newAtom then a_fresh (a / 100) else a_facts (a / 100)) (hb : ∀ v, v < 4 → bound (4 * d + v) = β v) (hg : sr_bq β a w c = some γ)
    (hK : ∀ b : Nat → Int32, (∀ i, i < 4 * d + 4 → b i = bound i) → (∀ v, v < 4 → b (4 * d + 4 + v) = γ v) → wX_join_100 post (nI r) n (nI (d + 1)) (nI (s + 1)) f_count f_draftSize f_skipped (nI m) f_newAtom acc.1 f_wanted acc.2.1 f_solved a_givens a_facts a_fresh acc.2.2 a_kept a_heads a_sizes a_atoms a_negated a_draftAtom a_draftNegated a_plain (upd (upd cursor d (nI (c + 1))) (d + 1) 0) b) :
    wX_join_100 post (nI r) (n + 1) (nI d) (nI s) f_count f_draftSize f_skipped (nI m) f_newAtom acc.1 f_wanted acc.2.1 f_solved a_givens a_facts a_fresh acc.2.2 a_kept a_heads a_sizes a_atoms a_negated a_draftAtom a_draftNegated a_plain cursor bound := by
  refine pk_le 60000 s (fun h => by omega) (fun h => ?_)
  refine br_f (nI_pos (by omega)) (pk_eq d m (fun h => by omega) (fun h => ⟨vp_in_nI (by omega) (by omega), ?_⟩))
  rw [nI_clamp (by omega), hc, nI_1 c]
  refine pk_eq c 36 (fun h => by omega) (fun h => ⟨vp_in_nI (by omega) (by omega), nm_e ⟨vp_in_nI (by omega) (by omega), vp_in_nI (by omega) (by omega), nm_e ?_⟩⟩)
  refine sx_bind (by omega) (by omega) hj ha hpl hat hw hb (fun hg2 _ _ => ?_) (fun γ2 b hg2 hlo hrow => ?_)
  · rw [hg] at hg2; cases hg2
  · rw [hg] at hg2
    cases hg2
    refine br_f sn_10 (nm_r (nI_1 d) ⟨vp_in_nI (by omega) (by omega), nm_e (nm_r (nI_1 s) ?_)⟩)
    rw [nI_clamp (by omega)]
    exact hK b hlo hrow
theorem sx_rl {post : SX → Prop} {p : SrP} {r m n s : Nat} {D : Nat → Prop} {acc : Int32 × Int32 × (Nat → Int64)} {β cursor bound : Nat → Int32} (hr14 : r < 14) (hr : sp_rk p r) (hm : m ≤ 3) (hh : a_heads r = nI (sp_h p r)) (hs : a_sizes r = nI (sp_s p r)) (ha : ∀ k, k < sp_s p r → a_atoms (3 * r + k) = nI (sp_a p (3 * r + k)) ∧ a_negated (3 * r + k) = sn_b (sp_g p (3 * r + k)))
    (hro : sr_ro D β) (hS : ∀ v, v < 4 → (sp_S p r v ↔ D v)) (hst : s < 60000) (hb : ∀ v, v < 4 → bound (4 * m + v) = β v)
    (hK : wX_join_100 post (nI r) n (nI m + (-1)) (nI (s + 1)) f_count f_draftSize f_skipped (nI m) f_newAtom ((sx_lf p a_facts f_wanted r acc β).1) f_wanted ((sx_lf p a_facts f_wanted r acc β).2.1) f_solved a_givens a_facts a_fresh ((sx_lf p a_facts f_wanted r acc β).2.2) a_kept a_heads a_sizes a_atoms a_negated a_draftAtom a_draftNegated a_plain cursor bound) :
    wX_join_100 post (nI r) (n + 1) (nI m) (nI s) f_count f_draftSize f_skipped (nI m) f_newAtom acc.1 f_wanted acc.2.1 f_solved a_givens a_facts a_fresh acc.2.2 a_kept a_heads a_sizes a_atoms a_negated a_draftAtom a_draftNegated a_plain cursor bound := by
  have hθ : ∀ v, v < 4 → sx_th β v < 6 := by
    intro v hv
    unfold sx_th
    rcases hro v hv with ⟨_, b, hb6, e⟩ | ⟨_, e⟩
    · rw [e, nI_clamp (by omega)]; exact hb6
    · rw [e]; decide
  have hbd : ∀ v, v < 4 → sp_S p r v → bound (4 * m + v) = nI (sx_th β v) := by
    intro v hv hSv
    rw [hb v hv]
    unfold sx_th
    rcases hro v hv with ⟨_, b, hb6, e⟩ | ⟨hn, e⟩
    · rw [e, nI_clamp (by omega)]
    · exact absurd ((hS v hv).mp hSv) hn
  refine pk_le 60000 s (fun h => by omega) (fun h => ?_)
  refine br_f (nI_pos (by omega)) (br_t rfl ?_)
  refine sx_arrive hr14 hr hm hθ hh hs ha hbd (fun hq => nm_e (nm_r (nI_1 s) ?_)) (fun hq => nm_e (nm_r (nI_1 s) ?_))
  · rw [sx_lf_f hq] at hK
    exact hK
  · rw [sx_lf_t hq] at hK
    exact hK
end
end
section
/-! what a join gathers, by codes of bindings -/
theorem sr_fl_mem {α : Type} {g : Nat → List α} {x : α} : ∀ {m c : Nat}, x ∈ sr_fl g m c → ∃ f, c ≤ f ∧ f < c + m ∧ x ∈ g f
  | 0, c, h => by simp [sr_fl] at h
  | m + 1, c, h => by
    simp only [sr_fl, List.mem_append] at h
    rcases h with z | z
    · exact ⟨c, by omega, by omega, z⟩
    · obtain ⟨f, h1, h2, h3⟩ := sr_fl_mem z
      exact ⟨f, by omega, by omega, h3⟩
theorem sr_en_ro : ∀ (l : List (Nat × Int64)) (D : Nat → Prop) (β : Nat → Int32), sr_ro D β → ∀ γ, γ ∈ sr_en l β → ∃ E, sr_ro E γ
  | [], D, β, h, γ, hm => by
    simp only [sr_en, List.mem_singleton] at hm
    subst hm
    exact ⟨D, h⟩
  | (a, w) :: l, D, β, h, γ, hm => by
    rw [sr_en_c] at hm
    obtain ⟨f, _, h2, h3⟩ := sr_fl_mem hm
    cases hg : sr_bq β a w f with
    | none => rw [hg] at h3; simp [sr_ol] at h3
    | some δ =>
      rw [hg] at h3
      exact sr_en_ro l _ δ (sr_bq_ro (by omega) h hg) γ h3
theorem sx_ro_lt {D : Nat → Prop} {β : Nat → Int32} (h : sr_ro D β) : ∀ v, v < 4 → sx_th β v < 6 := by
  intro v hv
  unfold sx_th
  rcases h v hv with ⟨_, b, hb6, e⟩ | ⟨_, e⟩
  · rw [e, nI_clamp (by omega)]; exact hb6
  · rw [e]; decide
section
variable {p : SrP} {F : Nat → Int64} {wanted : Int32} {r : Nat}
theorem sx_fold_wc : ∀ (l : List (Nat → Int32)) (acc : Int32 × Int32 × (Nat → Int64)), (l.foldl (sx_lf p F wanted r) acc).1 = acc.1 + nI (sr_lc (fun β => sx_q p F r (sx_th β)) l)
  | [], acc => by simp only [List.foldl_nil, sr_lc]; rw [nI_0, Int32.add_zero]
  | β :: l, acc => by
    simp only [List.foldl_cons, sr_lc]
    rw [sx_fold_wc l]
    rcases Classical.em (sx_q p F r (sx_th β)) with h | h
    · rw [sx_lf_t h, sr_b_t h, ← nI_add, ← Int32.add_assoc]; rfl
    · rw [sx_lf_f h, sr_b_f h, Nat.zero_add]
theorem sx_met_ne (met : Int32) (h : Nat) : ¬ sx_met met wanted h = 0 ↔ (¬ met = 0 ∨ nI h = wanted) := by
  unfold sx_met
  by_cases h0 : met = 0
  · rw [if_pos h0]
    by_cases h1 : nI h = wanted
    · rw [if_pos h1]; exact ⟨fun _ => Or.inr h1, fun _ => sn_10⟩
    · rw [if_neg h1]; exact ⟨fun z => absurd rfl z, fun z => z.elim (fun y => absurd h0 y) (fun y => absurd y h1)⟩
  · rw [if_neg h0]; exact ⟨fun _ => Or.inl h0, fun _ => sn_10⟩
theorem sx_fold_met : ∀ (l : List (Nat → Int32)) (acc : Int32 × Int32 × (Nat → Int64)), ¬ (l.foldl (sx_lf p F wanted r) acc).2.1 = 0 ↔ (¬ acc.2.1 = 0 ∨ ∃ β, β ∈ l ∧ sx_q p F r (sx_th β) ∧ nI (sr_fc (sx_th β) (sp_h p r)) = wanted)
  | [], acc => by
    simp only [List.foldl_nil]
    exact ⟨Or.inl, fun z => z.elim id (fun ⟨β, hb, _⟩ => by simp at hb)⟩
  | β :: l, acc => by
    simp only [List.foldl_cons]
    rw [sx_fold_met l]
    rcases Classical.em (sx_q p F r (sx_th β)) with h | h
    · rw [sx_lf_t h]
      show (¬ sx_met acc.2.1 wanted _ = 0 ∨ _) ↔ _
      rw [sx_met_ne]
      constructor
      · intro z
        rcases z with (z | z) | ⟨γ, h1, h2⟩
        · exact Or.inl z
        · exact Or.inr ⟨β, by simp, h, z⟩
        · exact Or.inr ⟨γ, by simp [h1], h2⟩
      · intro z
        rcases z with z | ⟨γ, h1, h2⟩
        · exact Or.inl (Or.inl z)
        · rcases List.mem_cons.mp h1 with e | e
          · subst e; exact Or.inl (Or.inr h2.2)
          · exact Or.inr ⟨γ, e, h2⟩
    · rw [sx_lf_f h]
      constructor
      · intro z
        rcases z with z | ⟨γ, h1, h2⟩
        · exact Or.inl z
        · exact Or.inr ⟨γ, by simp [h1], h2⟩
      · intro z
        rcases z with z | ⟨γ, h1, h2⟩
        · exact Or.inl z
        · rcases List.mem_cons.mp h1 with e | e
          · subst e; exact absurd h2.1 h
          · exact Or.inr ⟨γ, e, h2⟩
theorem sx_fold_cm (h8 : sp_h p r < 800) : ∀ (l : List (Nat → Int32)) (acc : Int32 × Int32 × (Nat → Int64)), (∀ β, β ∈ l → ∀ v, v < 4 → sx_th β v < 6) → xs_hi acc.2.2 →
    xs_hi (l.foldl (sx_lf p F wanted r) acc).2.2 ∧ ∀ x, xs_ (l.foldl (sx_lf p F wanted r) acc).2.2 x ↔ (xs_ acc.2.2 x ∨ ∃ β, β ∈ l ∧ sx_q p F r (sx_th β) ∧ x = sr_pl (sx_th β) (sp_h p r))
  | [], acc, _, hh => by
    simp only [List.foldl_nil]
    exact ⟨hh, fun x => ⟨Or.inl, fun z => z.elim id (fun ⟨β, hb, _⟩ => by simp at hb)⟩⟩
  | β :: l, acc, hl, hh => by
    simp only [List.foldl_cons]
    have hfc := sr_fc_lt (sp_h p r) (hl β (by simp))
    rcases Classical.em (sx_q p F r (sx_th β)) with h | h
    · rw [sx_lf_t h]
      have hh2 : xs_hi (sx_cm acc.2.2 (sp_h p r) (sr_fc (sx_th β) (sp_h p r))) := xs_set_hi hfc hh
      have hx2 : xs_ (sx_cm acc.2.2 (sp_h p r) (sr_fc (sx_th β) (sp_h p r))) = fun x => xs_ acc.2.2 x ∨ x = sr_pl (sx_th β) (sp_h p r) := xs_set (by omega) hfc
      obtain ⟨i1, i2⟩ := sx_fold_cm h8 l (acc.1 + 1, sx_met acc.2.1 wanted (sr_fc (sx_th β) (sp_h p r)), sx_cm acc.2.2 (sp_h p r) (sr_fc (sx_th β) (sp_h p r))) (fun γ hg => hl γ (by simp [hg])) hh2
      refine ⟨i1, fun x => ?_⟩
      rw [i2 x]
      show (xs_ (sx_cm acc.2.2 (sp_h p r) (sr_fc (sx_th β) (sp_h p r))) x ∨ _) ↔ _
      rw [hx2]
      constructor
      · intro z
        rcases z with (z | z) | ⟨γ, h1, h2⟩
        · exact Or.inl z
        · exact Or.inr ⟨β, by simp, h, z⟩
        · exact Or.inr ⟨γ, by simp [h1], h2⟩
      · intro z
        rcases z with z | ⟨γ, h1, h2⟩
        · exact Or.inl (Or.inl z)
        · rcases List.mem_cons.mp h1 with e | e
          · subst e; exact Or.inl (Or.inr h2.2)
          · exact Or.inr ⟨γ, e, h2⟩
    · rw [sx_lf_f h]
      obtain ⟨i1, i2⟩ := sx_fold_cm h8 l acc (fun γ hg => hl γ (by simp [hg])) hh
      refine ⟨i1, fun x => ?_⟩
      rw [i2 x]
      constructor
      · intro z
        rcases z with z | ⟨γ, h1, h2⟩
        · exact Or.inl z
        · exact Or.inr ⟨γ, by simp [h1], h2⟩
      · intro z
        rcases z with z | ⟨γ, h1, h2⟩
        · exact Or.inl z
        · rcases List.mem_cons.mp h1 with e | e
          · subst e; exact absurd h2.1 h
          · exact Or.inr ⟨γ, e, h2⟩
end
theorem sr_fc_c {θ η : Nat → Nat} (h : ∀ v, v < 4 → θ v = η v) (a : Nat) : sr_fc θ a = sr_fc η a := by
  have ht : ∀ t, sr_tv θ t = sr_tv η t := by
    intro t
    unfold sr_tv
    by_cases e : t < 4
    · rw [if_pos e, if_pos e, h t e]
    · rw [if_neg e, if_neg e]
  unfold sr_fc
  rw [ht, ht]
theorem sx_q_c {p : SrP} {F : Nat → Int64} {r : Nat} {θ η : Nat → Nat} (h : ∀ v, v < 4 → θ v = η v) : sx_q p F r θ ↔ sx_q p F r η := by
  unfold sx_q
  constructor
  · intro z k hk hg
    rw [← sr_fc_c h]; exact z k hk hg
  · intro z k hk hg
    rw [sr_fc_c h]; exact z k hk hg
def sx_JB (p : SrP) (A Fr : Nat → Prop) (sp : Int32) (r c : Nat) : Prop := ∀ k, k < sp_s p r → (sp_g p (3 * r + k) = false → (nI (3 * r + k) = sp → Fr (sr_pl (sp_t p r c) (sp_a p (3 * r + k)))) ∧ (¬ nI (3 * r + k) = sp → A (sr_pl (sp_t p r c) (sp_a p (3 * r + k))))) ∧ (sp_g p (3 * r + k) = true → ¬ A (sr_pl (sp_t p r c) (sp_a p (3 * r + k))))
/-- counts of what the join reaches -/
theorem sx_cnt {p : SrP} {r m : Nat} {sp : Int32} {F N : Nat → Int64} {pl : Nat → Nat} {W : Nat → Int64} (hr : sp_rk p r)
    (h1 : ∀ d, d < m → ∃ k, k < sp_s p r ∧ pl d = 3 * r + k ∧ sp_g p (3 * r + k) = false) (h2 : ∀ k, k < sp_s p r → sp_g p (3 * r + k) = false → ∃ d, d < m ∧ pl d = 3 * r + k)
    (hW : ∀ d, d < m → W d = if nI (pl d) = sp then N (sp_a p (pl d) / 100) else F (sp_a p (pl d) / 100)) (q : (Nat → Nat) → Prop) (hq : ∀ θ η : Nat → Nat, (∀ v, v < 4 → θ v = η v) → (q θ ↔ q η)) :
    sr_lc (fun β => sx_q p F r (sx_th β) ∧ q (sx_th β)) (sr_en (sx_al (fun i => sp_a p (pl i)) W m 0) (fun _ => -1)) = sr_cn (fun c => sx_JB p (xs_ F) (xs_ N) sp r c ∧ q (sp_t p r c)) (sp_N p r) := by
  have hro : sr_ro (fun _ => False) (fun _ => (-1 : Int32)) := fun v _ => Or.inr ⟨id, rfl⟩
  have hS : ∀ v, v < 4 → (sp_S p r v ↔ (False ∨ ∃ x, x ∈ sx_al (fun i => sp_a p (pl i)) W m 0 ∧ sr_oc x.1 v)) := by
    intro v _
    constructor
    · intro ⟨k, hk, hg, ho⟩
      obtain ⟨d, hd, e⟩ := h2 k hk hg
      exact Or.inr ⟨_, sx_al_mem.mpr ⟨d, by omega, by omega, rfl⟩, by rw [e]; exact ho⟩
    · intro z
      rcases z with z | ⟨x, hx, ho⟩
      · exact z.elim
      · obtain ⟨d, _, hd, e⟩ := sx_al_mem.mp hx
        obtain ⟨k, hk, e2, hg⟩ := h1 d (by omega)
        subst e
        exact ⟨k, hk, hg, by rw [← e2]; exact ho⟩
  have key := sr_en_cn (S := sp_S p r) (fun θ => sx_q p F r θ ∧ q θ) (fun θ η h => and_congr (sx_q_c h) (hq θ η h)) (sx_al (fun i => sp_a p (pl i)) W m 0) (fun _ => False) (fun _ => -1) hro hS
  refine Eq.trans key (sr_cn_eq fun c _ => ?_)
  have hpa : ∀ k, k < sp_s p r → sr_fc (sp_t p r c) (sp_a p (3 * r + k)) < 36 ∧ sp_a p (3 * r + k) / 100 < 8 := by
    intro k hk
    have := (hr.2.2.1 k hk).1
    exact ⟨sr_fc_lt _ (fun v _ => sp_t_lt p r c v), by omega⟩
  constructor
  · intro ⟨_, ha, hqq, hq2⟩
    refine ⟨fun k hk => ⟨fun hg => ?_, fun hg z => ?_⟩, hq2⟩
    · obtain ⟨d, hd, e⟩ := h2 k hk hg
      have hx := ha _ (sx_al_mem.mpr ⟨d, by omega, by omega, rfl⟩)
      have hx2 : sr_lb (W d) (sr_fc (sp_t p r c) (sp_a p (pl d))) = true := hx
      rw [hW d hd, e] at hx2
      obtain ⟨p1, p2⟩ := hpa k hk
      refine ⟨fun hs => ?_, fun hs => ?_⟩
      · rw [if_pos hs] at hx2
        exact (xs_at p2 p1).mpr hx2
      · rw [if_neg hs] at hx2
        exact (xs_at p2 p1).mpr hx2
    · obtain ⟨p1, p2⟩ := hpa k hk
      have := (xs_at p2 p1).mp z
      have h3 : sr_lb (F (sp_a p (3 * r + k) / 100)) (sr_fc (sp_t p r c) (sp_a p (3 * r + k))) = false := hqq k hk hg
      rw [h3] at this
      exact nomatch this
  · intro ⟨hJ, hq2⟩
    refine ⟨fun v _ => Or.inl rfl, fun x hx => ?_, fun k hk hg => ?_, hq2⟩
    · obtain ⟨d, _, hd, e⟩ := sx_al_mem.mp hx
      obtain ⟨k, hk, e2, hg⟩ := h1 d (by omega)
      subst e
      obtain ⟨p1, p2⟩ := hpa k hk
      show sr_lb (W d) (sr_fc (sp_t p r c) (sp_a p (pl d))) = true
      rw [hW d (by omega), e2]
      by_cases hs : nI (3 * r + k) = sp
      · rw [if_pos hs]
        exact (xs_at p2 p1).mp (((hJ k hk).1 hg).1 hs)
      · rw [if_neg hs]
        exact (xs_at p2 p1).mp (((hJ k hk).1 hg).2 hs)
    · obtain ⟨p1, p2⟩ := hpa k hk
      apply Bool.eq_false_iff.mpr
      intro z
      exact (hJ k hk).2 hg ((xs_at p2 p1).mpr z)
section
variable {f_count f_draftSize f_skipped f_newAtom f_wanted f_solved f_wayCount f_met f_plainSize : Int32} {a_givens a_facts a_fresh a_kept a_coming : Nat → Int64} {a_heads a_sizes a_atoms a_negated a_draftAtom a_draftNegated a_cursor a_bound : Nat → Int32}
theorem sx_j19 {post : SX → Prop} {p : SrP} {r : Nat} (hr14 : r < 14) (hr : sp_rk p r) (hs : a_sizes r = nI (sp_s p r)) (ha : ∀ k, k < sp_s p r → a_negated (3 * r + k) = sn_b (sp_g p (3 * r + k)))
    (hK : ∀ (m : Nat) (pl : Nat → Nat) (plain : Nat → Int32), m ≤ 3 → (∀ d, d < m → plain d = nI (pl d)) → (∀ d, d < m → ∃ k, k < sp_s p r ∧ pl d = 3 * r + k ∧ sp_g p (3 * r + k) = false) → (∀ k, k < sp_s p r → sp_g p (3 * r + k) = false → ∃ d, d < m ∧ pl d = 3 * r + k) → ∃ n, wX_join_70 post (nI r) f_count f_draftSize f_skipped (nI m) f_newAtom f_wayCount f_wanted f_met f_solved n 0 a_givens a_facts a_fresh a_coming a_kept a_heads a_sizes a_atoms a_negated a_draftAtom a_draftNegated plain a_cursor a_bound) :
    ∀ (n k m : Nat) (pl : Nat → Nat) (plain : Nat → Int32), k ≤ sp_s p r → sp_s p r - k < n → m ≤ k → (∀ d, d < m → plain d = nI (pl d)) → (∀ d, d < m → ∃ k', k' < k ∧ pl d = 3 * r + k' ∧ sp_g p (3 * r + k') = false) → (∀ k', k' < k → sp_g p (3 * r + k') = false → ∃ d, d < m ∧ pl d = 3 * r + k') →
      wX_join_19 post (nI r) f_count f_draftSize f_skipped f_newAtom f_wayCount f_wanted f_met f_solved n (nI (3 * r + k)) (nI m) a_givens a_facts a_fresh a_coming a_kept a_heads a_sizes a_atoms a_negated a_draftAtom a_draftNegated plain a_cursor a_bound := by
  have h3 := hr.2.1
  intro n
  induction n with
  | zero => intro k _ _ _ _ h; omega
  | succ n ih =>
    intro k m pl plain hk hn hm e1 e2 e3
    refine And.intro (vp_in_nI hr14 (by omega)) ?_
    rw [nI_clamp (show r < 2 ^ 31 by omega), hs]
    refine pk_le (3 * r + sp_s p r) (3 * r + k) (fun h => ?_) (fun h => ?_) (by rw [sn_m3, nI_add])
    · have ek : k = sp_s p r := by omega
      subst ek
      exact hK m pl plain (by omega) e1 e2 e3
    · have hk1 : k < sp_s p r := by omega
      refine ⟨vp_in_nI (by omega) (by omega), ?_⟩
      rw [nI_clamp (show 3 * r + k < 2 ^ 31 by omega), ha k hk1, sn_b0]
      refine br_c (fun hg => ⟨vp_in_nI (by omega) (by omega), nm_e (nm_r (nI_1 m) (nm_r (nI_1 _) ?_))⟩) (fun hg => nm_r (nI_1 _) ?_)
      · rw [nI_clamp (by omega)]
        refine ih (k + 1) (m + 1) (fun d => if d = m then 3 * r + k else pl d) _ (by omega) (by omega) (by omega) (fun d hd => ?_) (fun d hd => ?_) (fun k' hk' hg' => ?_)
        · by_cases e : d = m
          · subst e; rw [pk_us, if_pos rfl]
          · rw [pk_un e, if_neg e]; exact e1 d (by omega)
        · by_cases e : d = m
          · subst e; rw [if_pos rfl]; exact ⟨k, by omega, rfl, hg⟩
          · rw [if_neg e]
            obtain ⟨k', h1, h2⟩ := e2 d (by omega)
            exact ⟨k', by omega, h2⟩
        · by_cases e : k' = k
          · subst e; exact ⟨m, by omega, if_pos rfl⟩
          · obtain ⟨d, h1, h2⟩ := e3 k' (by omega) hg'
            exact ⟨d, by omega, by rw [if_neg (by omega)]; exact h2⟩
      · refine ih (k + 1) m pl plain (by omega) (by omega) (by omega) e1 (fun d hd => ?_) (fun k' hk' hg' => ?_)
        · obtain ⟨k', h1, h2⟩ := e2 d hd
          exact ⟨k', by omega, h2⟩
        · by_cases e : k' = k
          · subst e; exact absurd hg' hg
          · exact e3 k' (by omega) hg'
theorem sx_j70 {a_plain : Nat → Int32} {post : SX → Prop} {r : Nat}
    (hK : ∀ bound : Nat → Int32, (∀ v, v < 4 → bound v = -1) → ∃ n, wX_join_100 post (nI r) n 0 0 f_count f_draftSize f_skipped f_plainSize f_newAtom f_wayCount f_wanted f_met f_solved a_givens a_facts a_fresh a_coming a_kept a_heads a_sizes a_atoms a_negated a_draftAtom a_draftNegated a_plain (upd a_cursor 0 0) bound) :
    ∀ n v bound, v ≤ 4 → 4 - v < n → (∀ i, i < v → bound i = -1) → wX_join_70 post (nI r) f_count f_draftSize f_skipped f_plainSize f_newAtom f_wayCount f_wanted f_met f_solved n (nI v) a_givens a_facts a_fresh a_coming a_kept a_heads a_sizes a_atoms a_negated a_draftAtom a_draftNegated a_plain a_cursor bound := by
  intro n
  induction n with
  | zero => intro v _ _ h; omega
  | succ n ih =>
    intro v bound hv hn hb
    refine pk_le 4 v (fun h => nm_e (hK bound (fun i hi => hb i (by omega)))) (fun h => ⟨vp_in_nI (by omega) (by omega), nm_e (nm_r (nI_1 v) (ih (v + 1) _ (by omega) (by omega) (fun i hi => ?_)))⟩)
    rw [nI_clamp (by omega)]
    by_cases e : i = v
    · subst e; exact pk_us
    · rw [pk_un e]; exact hb i (by omega)
end
end
section
/-! the component's join, whole -/
section
variable {f_count f_draftSize f_skipped f_plainSize f_newAtom f_wayCount f_wanted f_met f_solved : Int32} {a_givens a_facts a_fresh a_coming a_kept : Nat → Int64} {a_heads a_sizes a_atoms a_negated a_draftAtom a_draftNegated a_plain a_cursor a_bound : Nat → Int32}
theorem sx_join0 {post : SX → Prop} {p : SrP} {r : Nat} {sp : Int32} (ok : sp_ok p) (hP : rp_ p f_count a_heads a_sizes a_atoms a_negated) (hrn : r < sp_n p)
    (hp : ∀ (ps wc met : Int32) (coming : Nat → Int64) (plain cursor bound : Nat → Int32), wc = nI (sr_cn (fun c => sx_JB p (xs_ a_facts) (xs_ a_fresh) sp r c) (sp_N p r)) →
      (¬ met = 0 ↔ (¬ f_met = 0 ∨ ∃ c, c < sp_N p r ∧ sx_JB p (xs_ a_facts) (xs_ a_fresh) sp r c ∧ nI (sr_fc (sp_t p r c) (sp_h p r)) = f_wanted)) →
      (xs_hi a_coming → xs_hi coming ∧ xs_ coming = (fun x => xs_ a_coming x ∨ ∃ c, c < sp_N p r ∧ sx_JB p (xs_ a_facts) (xs_ a_fresh) sp r c ∧ x = sp_hp p r c)) →
      post (f_count, f_draftSize, f_skipped, ps, sp, wc, f_wanted, met, f_solved, a_givens, a_facts, a_fresh, coming, a_kept, a_heads, a_sizes, a_atoms, a_negated, a_draftAtom, a_draftNegated, plain, cursor, bound)) :
    wpX_join post (f_count, f_draftSize, f_skipped, f_plainSize, f_newAtom, f_wayCount, f_wanted, f_met, f_solved, a_givens, a_facts, a_fresh, a_coming, a_kept, a_heads, a_sizes, a_atoms, a_negated, a_draftAtom, a_draftNegated, a_plain, a_cursor, a_bound) (nI r) sp := by
  have hr14 : r < 14 := Nat.lt_of_lt_of_le hrn ok.1
  have hr := ok.2 r hrn
  obtain ⟨e1, e2, e3⟩ := hP.2 r hrn
  unfold wpX_join
  refine nm_r (sn_m3 r) ⟨sp_s p r + 1, ?_⟩
  refine sx_j19 hr14 hr e2 (fun k hk => (e3 k hk).2) ?_ (sp_s p r + 1) 0 0 (fun _ => 0) a_plain (by omega) (by omega) (by omega) (fun d hd => by omega) (fun d hd => by omega) (fun d hd => by omega)
  intro m pl plain hm h1 h2 h3
  refine ⟨5, sx_j70 ?_ 5 0 a_bound (by omega) (by omega) (fun i hi => by omega)⟩
  intro bound hb
  have hW : ∀ d, d < m → (fun d => if nI (pl d) = sp then a_fresh (sp_a p (pl d) / 100) else a_facts (sp_a p (pl d) / 100)) d = if nI (pl d) = sp then a_fresh (sp_a p (pl d) / 100) else a_facts (sp_a p (pl d) / 100) := fun _ _ => rfl
  generalize hWe : (fun d => if nI (pl d) = sp then a_fresh (sp_a p (pl d) / 100) else a_facts (sp_a p (pl d) / 100)) = W at hW
  have hro : sr_ro (fun _ => False) (fun _ => (-1 : Int32)) := fun v _ => Or.inr ⟨id, rfl⟩
  have hS : ∀ v, v < 4 → (sp_S p r v ↔ (False ∨ ∃ x, x ∈ sx_al (fun i => sp_a p (pl i)) W m 0 ∧ sr_oc x.1 v)) := by
    intro v _
    constructor
    · intro ⟨k, hk, hg, ho⟩
      obtain ⟨d, hd, e⟩ := h3 k hk hg
      exact Or.inr ⟨_, sx_al_mem.mpr ⟨d, by omega, by omega, rfl⟩, by rw [e]; exact ho⟩
    · intro z
      rcases z with z | ⟨x, hx, ho⟩
      · exact z.elim
      · obtain ⟨d, _, hd, e⟩ := sx_al_mem.mp hx
        obtain ⟨k, hk, e2, hg⟩ := h2 d (by omega)
        subst e
        exact ⟨k, hk, hg, by rw [← e2]; exact ho⟩
  have hst := sr_st_bd (S := sp_S p r) (D := fun _ => False) (sx_al (fun i => sp_a p (pl i)) W m 0) (fun _ => -1) (by rw [sx_al_len]; exact hm) hro hS
  have hat : ∀ d, d < m → pl d < 42 ∧ a_atoms (pl d) = nI (sp_a p (pl d)) ∧ sp_a p (pl d) < 800 := by
    intro d hd
    obtain ⟨k, hk, e, hg⟩ := h2 d hd
    rw [e]
    have := hr.2.1
    exact ⟨by omega, (e3 k hk).1, (hr.2.2.1 k hk).1⟩
  have tree := sx_tree (Wd := fun n x3 x4 acc cursor bound => wX_join_100 post (nI r) n x3 x4 f_count f_draftSize f_skipped (nI m) sp acc.1 f_wanted acc.2.1 f_solved a_givens a_facts a_fresh acc.2.2 a_kept a_heads a_sizes a_atoms a_negated a_draftAtom a_draftNegated plain cursor bound) (lf := sx_lf p a_facts f_wanted r) (S := sp_S p r) (m := m) (A := fun i => sp_a p (pl i)) (W := W)
    (fun D β hro hSD n s acc cursor bound hs hb hK => sx_rl hr14 hr hm e1 e2 e3 hro hSD hs hb hK)
    (fun d hd n s acc cursor bound hs hc hK => sx_r36 hm hd hs hc hK)
    (fun d hd β n s c acc cursor bound hs hc36 hc hb hg hK => sx_rn hm hd hs hc36 hc (hat d hd).1 (hat d hd).2.2 (h1 d hd) (hat d hd).2.1 (hW d hd) hb hg hK)
    (fun d hd β n s c acc cursor bound γ hs hc36 hc hb hg hK => sx_rs hm hd hs hc36 hc (hat d hd).1 (hat d hd).2.2 (h1 d hd) (hat d hd).2.1 (hW d hd) hb hg hK)
    m 0 (by omega) (fun _ => False) (fun _ => -1) hro hS
  refine ⟨_, tree 1 0 (0, f_met, a_coming) (upd a_cursor 0 0) bound (fun v hv => by rw [show 4 * 0 + v = v by omega]; exact hb v hv) pk_us (by omega) (fun cursor' bound' _ _ => ?_)⟩
  have hro2 : ∀ β, β ∈ sr_en (sx_al (fun i => sp_a p (pl i)) W m 0) (fun _ => -1) → ∀ v, v < 4 → sx_th β v < 6 := by
    intro β hβ
    obtain ⟨E, hE⟩ := sr_en_ro _ _ _ hro β hβ
    exact sx_ro_lt hE
  have hex : ∀ q : (Nat → Nat) → Prop, (∀ θ η : Nat → Nat, (∀ v, v < 4 → θ v = η v) → (q θ ↔ q η)) → ((∃ β, β ∈ sr_en (sx_al (fun i => sp_a p (pl i)) W m 0) (fun _ => -1) ∧ sx_q p a_facts r (sx_th β) ∧ q (sx_th β)) ↔ ∃ c, c < sp_N p r ∧ sx_JB p (xs_ a_facts) (xs_ a_fresh) sp r c ∧ q (sp_t p r c)) := by
    intro q hq
    have := sx_cnt (F := a_facts) (N := a_fresh) (sp := sp) hr h2 h3 hW q hq
    rw [← sr_lc_pos (P := fun β => sx_q p a_facts r (sx_th β) ∧ q (sx_th β)), this, sr_cn_pos]
  have fin : post (f_count, f_draftSize, f_skipped, nI m, sp, ((sr_en (sx_al (fun i => sp_a p (pl i)) W m 0) (fun _ => -1)).foldl (sx_lf p a_facts f_wanted r) (0, f_met, a_coming)).1, f_wanted, ((sr_en (sx_al (fun i => sp_a p (pl i)) W m 0) (fun _ => -1)).foldl (sx_lf p a_facts f_wanted r) (0, f_met, a_coming)).2.1, f_solved, a_givens, a_facts, a_fresh, ((sr_en (sx_al (fun i => sp_a p (pl i)) W m 0) (fun _ => -1)).foldl (sx_lf p a_facts f_wanted r) (0, f_met, a_coming)).2.2, a_kept, a_heads, a_sizes, a_atoms, a_negated, a_draftAtom, a_draftNegated, plain, cursor', bound') := by
    apply hp
    · rw [sx_fold_wc]
      have := sx_cnt (F := a_facts) (N := a_fresh) (sp := sp) hr h2 h3 hW (fun _ => True) (fun _ _ _ => Iff.rfl)
      simp only [and_true] at this
      rw [this]
      exact Int32.zero_add _
    · rw [sx_fold_met]
      have := hex (fun θ => nI (sr_fc θ (sp_h p r)) = f_wanted) (fun θ η h => by rw [sr_fc_c h])
      rw [this]
    · intro hC
      obtain ⟨c1, c2⟩ := sx_fold_cm (F := a_facts) (wanted := f_wanted) hr.1 _ (0, f_met, a_coming) hro2 hC
      refine ⟨c1, ?_⟩
      funext x
      apply propext
      rw [c2 x]
      have := hex (fun θ => x = sr_pl θ (sp_h p r)) (fun θ η h => by unfold sr_pl; rw [sr_fc_c h])
      rw [this]
      exact Iff.rfl
  refine br_c (fun _ => fin) (fun _ => br_t (by decide) fin)
theorem sx_join {post : SX → Prop} {p : SrP} {r : Nat} {sp : Int32} (ok : sp_ok p) (hP : rp_ p f_count a_heads a_sizes a_atoms a_negated) (hrn : r < sp_n p) (hC : xs_hi a_coming)
    (hp : ∀ (ps wc met : Int32) (coming : Nat → Int64) (plain cursor bound : Nat → Int32), wc = nI (sr_cn (fun c => sx_JB p (xs_ a_facts) (xs_ a_fresh) sp r c) (sp_N p r)) →
      (¬ met = 0 ↔ (¬ f_met = 0 ∨ ∃ c, c < sp_N p r ∧ sx_JB p (xs_ a_facts) (xs_ a_fresh) sp r c ∧ nI (sr_fc (sp_t p r c) (sp_h p r)) = f_wanted)) →
      xs_hi coming → xs_ coming = (fun x => xs_ a_coming x ∨ ∃ c, c < sp_N p r ∧ sx_JB p (xs_ a_facts) (xs_ a_fresh) sp r c ∧ x = sp_hp p r c) →
      post (f_count, f_draftSize, f_skipped, ps, sp, wc, f_wanted, met, f_solved, a_givens, a_facts, a_fresh, coming, a_kept, a_heads, a_sizes, a_atoms, a_negated, a_draftAtom, a_draftNegated, plain, cursor, bound)) :
    wpX_join post (f_count, f_draftSize, f_skipped, f_plainSize, f_newAtom, f_wayCount, f_wanted, f_met, f_solved, a_givens, a_facts, a_fresh, a_coming, a_kept, a_heads, a_sizes, a_atoms, a_negated, a_draftAtom, a_draftNegated, a_plain, a_cursor, a_bound) (nI r) sp :=
  sx_join0 ok hP hrn (fun ps wc met coming plain cursor bound h1 h2 h3 => hp ps wc met coming plain cursor bound h1 h2 (h3 hC).1 (h3 hC).2)
end
end
section
/-! the component: settling, joining what is new, solving -/
theorem sx_JB_m1 {p : SrP} {A Fr : Nat → Prop} {r c : Nat} (hr : r < 14) (h3 : sp_s p r ≤ 3) : sx_JB p A Fr (-1) r c ↔ sp_B p A A r c := by
  have hne : ∀ k, k < sp_s p r → ¬ nI (3 * r + k) = -1 := by
    intro k hk e
    have a := congrArg Int32.toInt e
    rw [nI_toInt (by omega), show (-1 : Int32).toInt = -1 from by decide] at a
    omega
  unfold sx_JB sp_B
  constructor
  · intro h k hk
    exact ⟨fun g => ((h k hk).1 g).2 (hne k hk), (h k hk).2⟩
  · intro h k hk
    exact ⟨fun g => ⟨fun z => absurd z (hne k hk), fun _ => (h k hk).1 g⟩, (h k hk).2⟩
theorem sx_JB_k {p : SrP} {A Fr : Nat → Prop} {r c k : Nat} (hr : r < 14) (h3 : sp_s p r ≤ 3) (hk : k < sp_s p r) (hg : sp_g p (3 * r + k) = false) (hF : ∀ x, Fr x → A x) : sx_JB p A Fr (nI (3 * r + k)) r c ↔ (sp_B p A A r c ∧ Fr (sr_pl (sp_t p r c) (sp_a p (3 * r + k)))) := by
  unfold sx_JB sp_B
  constructor
  · intro h
    refine ⟨fun j hj => ⟨fun g => ?_, (h j hj).2⟩, ((h k hk).1 hg).1 rfl⟩
    rcases Classical.em (nI (3 * r + j) = nI (3 * r + k)) with e | e
    · exact hF _ (((h j hj).1 g).1 e)
    · exact ((h j hj).1 g).2 e
  · intro ⟨h, hf⟩ j hj
    refine ⟨fun g => ⟨fun e => ?_, fun _ => (h j hj).1 g⟩, (h j hj).2⟩
    have e2 := (nI_eq (by omega) (by omega)).mp e
    rw [e2]; exact hf
section
variable {f_count f_draftSize f_skipped f_plainSize f_newAtom f_wayCount f_wanted f_met f_solved : Int32} {a_givens a_kept : Nat → Int64} {a_heads a_sizes a_atoms a_negated a_draftAtom a_draftNegated a_plain a_cursor a_bound : Nat → Int32}
theorem sx_settle_l {f0 c0 : Nat → Int64} {post : Int32 → SX → Prop}
    (hp : ∀ (fl : Int32) (facts fresh coming : Nat → Int64), (∀ r, r < 8 → fresh r = (c0 r &&& (f0 r ^^^ (-1))) ∧ facts r = (f0 r ||| (c0 r &&& (f0 r ^^^ (-1)))) ∧ coming r = 0) → (fl = 0 ↔ ∀ r, r < 8 → (c0 r &&& (f0 r ^^^ (-1))) = 0) → post fl (f_count, f_draftSize, f_skipped, f_plainSize, f_newAtom, f_wayCount, f_wanted, f_met, f_solved, a_givens, facts, fresh, coming, a_kept, a_heads, a_sizes, a_atoms, a_negated, a_draftAtom, a_draftNegated, a_plain, a_cursor, a_bound)) :
    ∀ n i (fl : Int32) (facts fresh coming : Nat → Int64), i ≤ 8 → 8 - i < n → (fl = 0 ∨ fl = 1) → (∀ r, r < i → fresh r = (c0 r &&& (f0 r ^^^ (-1))) ∧ facts r = (f0 r ||| (c0 r &&& (f0 r ^^^ (-1)))) ∧ coming r = 0) → (∀ r, i ≤ r → facts r = f0 r ∧ coming r = c0 r) → (fl = 0 ↔ ∀ r, r < i → (c0 r &&& (f0 r ^^^ (-1))) = 0) → wX_settle_4 post f_count f_draftSize f_skipped f_plainSize f_newAtom f_wayCount f_wanted f_met f_solved n fl (nI i) a_givens facts fresh coming a_kept a_heads a_sizes a_atoms a_negated a_draftAtom a_draftNegated a_plain a_cursor a_bound := by
  intro n
  induction n with
  | zero => intro i _ _ _ _ _ h; omega
  | succ n ih =>
    intro i fl facts fresh coming hi hn hfl h1 h2 h3
    refine pk_le 8 i (fun h => ⟨?_, ?_⟩) (fun h => ?_)
    · rcases hfl with z | z <;> rw [z] <;> rfl
    · have e : i = 8 := by omega
      subst e
      exact hp fl facts fresh coming h1 h3
    · have hv := vp_in_nI (n := i) (N := 8) h (by omega)
      refine ⟨hv, hv, hv, nm_e ⟨hv, hv, hv, nm_e ⟨hv, nm_e ?_⟩⟩⟩
      rw [nI_clamp (by omega), pk_uLs, (h2 i (by omega)).1, (h2 i (by omega)).2]
      have go : ∀ fl' : Int32, (fl' = 0 ∨ fl' = 1) → (fl' = 0 ↔ (fl = 0 ∧ (c0 i &&& (f0 i ^^^ (-1))) = 0)) → wX_settle_4 post f_count f_draftSize f_skipped f_plainSize f_newAtom f_wayCount f_wanted f_met f_solved n fl' (nI (i + 1)) a_givens (vp_updL facts i (f0 i ||| (c0 i &&& (f0 i ^^^ (-1))))) (vp_updL fresh i (c0 i &&& (f0 i ^^^ (-1)))) (vp_updL coming i 0) a_kept a_heads a_sizes a_atoms a_negated a_draftAtom a_draftNegated a_plain a_cursor a_bound := by
        intro fl' g1 g2
        refine ih (i + 1) fl' _ _ _ (by omega) (by omega) g1 (fun r hr => ?_) (fun r hr => ?_) ?_
        · by_cases e : r = i
          · subst e; exact ⟨pk_uLs, pk_uLs, pk_uLs⟩
          · rw [pk_uLn e, pk_uLn e, pk_uLn e]; exact h1 r (by omega)
        · rw [pk_uLn (by omega), pk_uLn (by omega)]; exact h2 r (by omega)
        · rw [g2, h3]
          constructor
          · intro ⟨z1, z2⟩ r hr
            by_cases e : r = i
            · subst e; exact z2
            · exact z1 r (by omega)
          · intro z
            exact ⟨fun r hr => z r (by omega), z i (by omega)⟩
      refine br_c (fun z => ⟨hv, br_c (fun y => nm_r (nI_1 i) (go 0 (Or.inl rfl) ⟨fun _ => ⟨z, y⟩, fun _ => rfl⟩)) (fun y => nm_r (nI_1 i) (go 1 (Or.inr rfl) ⟨fun w => absurd w sn_10, fun w => absurd w.2 y⟩))⟩) (fun z => nm_r (nI_1 i) (go 1 (Or.inr rfl) ⟨fun w => absurd w sn_10, fun w => absurd w.1 z⟩))
theorem sx_settle {a_facts a_fresh a_coming : Nat → Int64} {post : Int32 → SX → Prop} (hF : xs_hi a_facts) (hC : xs_hi a_coming)
    (hp : ∀ (fl : Int32) (facts fresh coming : Nat → Int64), xs_hi facts → xs_hi fresh → xs_hi coming → (xs_ coming = fun _ => False) → (xs_ fresh = fun x => xs_ a_coming x ∧ ¬ xs_ a_facts x) → (xs_ facts = fun x => xs_ a_facts x ∨ (xs_ a_coming x ∧ ¬ xs_ a_facts x)) → (fl = 0 ↔ ∀ x, ¬ (xs_ a_coming x ∧ ¬ xs_ a_facts x)) → post fl (f_count, f_draftSize, f_skipped, f_plainSize, f_newAtom, f_wayCount, f_wanted, f_met, f_solved, a_givens, facts, fresh, coming, a_kept, a_heads, a_sizes, a_atoms, a_negated, a_draftAtom, a_draftNegated, a_plain, a_cursor, a_bound)) : wpX_settle post (f_count, f_draftSize, f_skipped, f_plainSize, f_newAtom, f_wayCount, f_wanted, f_met, f_solved, a_givens, a_facts, a_fresh, a_coming, a_kept, a_heads, a_sizes, a_atoms, a_negated, a_draftAtom, a_draftNegated, a_plain, a_cursor, a_bound) := by
  unfold wpX_settle
  refine ⟨9, sx_settle_l (f0 := a_facts) (c0 := a_coming) ?_ 9 0 0 a_facts a_fresh a_coming (by omega) (by omega) (Or.inl rfl) (fun r hr => by omega) (fun r _ => ⟨rfl, rfl⟩) ⟨fun _ r hr => by omega, fun _ => rfl⟩⟩
  intro fl facts fresh coming h1 h2
  have hb : ∀ r, r < 8 → ∀ j, (sr_lb (a_coming r &&& (a_facts r ^^^ (-1))) j = true ↔ (sr_lb (a_coming r) j = true ∧ ¬ sr_lb (a_facts r) j = true)) := by
    intro r hr j
    rw [sw_and, Bool.and_eq_true]
    constructor
    · intro ⟨z1, z2⟩
      have hj := hC r hr j z1
      rw [sw_not _ (by omega)] at z2
      exact ⟨z1, fun w => by rw [w] at z2; exact nomatch z2⟩
    · intro ⟨z1, z2⟩
      have hj := hC r hr j z1
      rw [sw_not _ (by omega)]
      exact ⟨z1, by rw [Bool.eq_false_iff.mpr z2]; rfl⟩
  have hfr : xs_ fresh = fun x => xs_ a_coming x ∧ ¬ xs_ a_facts x := by
    apply xs_ext
    · exact fun x hx => hx.1.1
    · intro r f hr hf
      rw [xs_at hr hf, xs_at hr hf, (h1 r hr).1]
      exact hb r hr f
  refine hp fl facts fresh coming ?_ ?_ ?_ (xs_z fun r hr => (h1 r hr).2.2) hfr ?_ ?_
  · intro r hr j hj
    rw [(h1 r hr).2.1, sw_or, Bool.or_eq_true] at hj
    rcases hj with z | z
    · exact hF r hr j z
    · exact hC r hr j ((hb r hr j).mp z).1
  · intro r hr j hj
    rw [(h1 r hr).1] at hj
    exact hC r hr j ((hb r hr j).mp hj).1
  · exact xs_z_hi fun r hr => (h1 r hr).2.2
  · apply xs_ext
    · exact fun x hx => hx.elim (fun z => z.1) (fun z => z.1.1)
    · intro r f hr hf
      rw [xs_at hr hf, xs_at hr hf, (h1 r hr).2.1, sw_or, Bool.or_eq_true, hb r hr f]
  · rw [h2]
    constructor
    · intro z x ⟨y1, y2⟩
      have hx := y1.1
      have := (hb (x / 36) (by omega) (x % 36)).mpr ⟨y1.2, fun w => y2 ⟨hx, w⟩⟩
      rw [z (x / 36) (by omega), sw_0] at this
      exact nomatch this
    · intro z r hr
      rw [sw_zero]
      intro j _
      cases hc : sr_lb (a_coming r &&& (a_facts r ^^^ (-1))) j with
      | false => rfl
      | true =>
        have hh := (hb r hr j).mp hc
        have hj := hC r hr j hh.1
        exact absurd ⟨(xs_at hr hj).mpr hh.1, fun w => hh.2 ((xs_at hr hj).mp w)⟩ (z (36 * r + j))
end
section
variable {f_count f_draftSize f_skipped f_wanted f_solved : Int32} {a_givens a_facts a_fresh a_kept : Nat → Int64} {a_heads a_sizes a_atoms a_negated a_draftAtom a_draftNegated : Nat → Int32}
def sx_hit (p : SrP) (sk : Int32) (L : Nat) (Fr A : Nat → Prop) (j x : Nat) : Prop := j % 3 < sp_s p (j / 3) ∧ sp_ac p sk L (j / 3) ∧ sp_g p j = false ∧ ∃ c, c < sp_N p (j / 3) ∧ sx_JB p A Fr (nI j) (j / 3) c ∧ x = sp_hp p (j / 3) c
theorem sx_jn_l {post : SX → Prop} {p : SrP} {L : Nat} (hL4 : L < 4) (ok : sp_ok p) (hP : rp_ p f_count a_heads a_sizes a_atoms a_negated) (hF : xs_hi a_fresh)
    (hp : ∀ (ps na wc met : Int32) (coming : Nat → Int64) (plain cursor bound : Nat → Int32), xs_hi coming → (xs_ coming = fun x => ∃ j, j < 3 * sp_n p ∧ sx_hit p f_skipped L (xs_ a_fresh) (xs_ a_facts) j x) → post (f_count, f_draftSize, f_skipped, ps, na, wc, f_wanted, met, f_solved, a_givens, a_facts, a_fresh, coming, a_kept, a_heads, a_sizes, a_atoms, a_negated, a_draftAtom, a_draftNegated, plain, cursor, bound)) :
    ∀ n i (ps na wc met : Int32) (coming : Nat → Int64) (plain cursor bound : Nat → Int32), i ≤ 3 * sp_n p → 3 * sp_n p - i < n → xs_hi coming → (xs_ coming = fun x => ∃ j, j < i ∧ sx_hit p f_skipped L (xs_ a_fresh) (xs_ a_facts) j x) → wX_joinNew_2 post (nI L) n (nI i) f_count f_draftSize f_skipped ps na wc f_wanted met f_solved a_givens a_facts a_fresh coming a_kept a_heads a_sizes a_atoms a_negated a_draftAtom a_draftNegated plain cursor bound := by
  have h14 := ok.1
  have efc := hP.1
  intro n
  induction n with
  | zero => intro i _ _ _ _ _ _ _ _ _ h; omega
  | succ n ih =>
    intro i ps na wc met coming plain cursor bound hi hn hC hX
    refine pk_le (3 * sp_n p) i (fun h => ?_) (fun h => ?_) (by rw [efc, sn_m3])
    · have e : i = 3 * sp_n p := by omega
      subst e
      exact hp ps na wc met coming plain cursor bound hC hX
    · have hq : i / 3 < sp_n p := by omega
      have hr := ok.2 (i / 3) hq
      obtain ⟨e1, e2, e3⟩ := hP.2 (i / 3) hq
      have h3 := hr.2.1
      have h8 := hr.1
      have skip : (∀ x, ¬ sx_hit p f_skipped L (xs_ a_fresh) (xs_ a_facts) i x) → wX_joinNew_2 post (nI L) n (nI (i + 1)) f_count f_draftSize f_skipped ps na wc f_wanted met f_solved a_givens a_facts a_fresh coming a_kept a_heads a_sizes a_atoms a_negated a_draftAtom a_draftNegated plain cursor bound := by
        intro hno
        refine ih (i + 1) ps na wc met coming plain cursor bound (by omega) (by omega) hC ?_
        rw [hX]
        funext x
        apply propext
        constructor
        · intro ⟨j, h1, h2⟩; exact ⟨j, by omega, h2⟩
        · intro ⟨j, h1, h2⟩
          by_cases e : j = i
          · subst e; exact absurd h2 (hno x)
          · exact ⟨j, by omega, h2⟩
      refine ⟨sn_z3, nm_r (sn_d3 (by omega)) ⟨sn_z3, vp_in_nI (by omega) (by omega), ?_⟩⟩
      rw [nI_clamp (by omega), e2, sn_r3 (by omega)]
      refine pk_le (sp_s p (i / 3)) (i % 3) (fun h4 => br_t rfl (nm_r (nI_1 i) (skip (fun x z => by have := z.1; omega)))) (fun h4 => ⟨vp_in_nI (by omega) (by omega), ?_⟩)
      have ei : 3 * (i / 3) + i % 3 = i := by omega
      obtain ⟨e4, e5⟩ := e3 (i % 3) h4
      have ha8 := (hr.2.2.1 (i % 3) h4).1
      rw [ei] at e4 e5 ha8
      rw [e1]
      unfold wpX_layerOf
      refine ⟨sn_z200, ?_⟩
      rw [sn_d200 (by omega)]
      refine pk_eq (sp_h p (i / 3) / 200) L (fun hl => ?_) (fun hl => br_t rfl (nm_r (nI_1 i) (skip (fun x z => hl z.2.1.2.2))))
      refine br_c (fun hk => br_t rfl (nm_r (nI_1 i) (skip (fun x z => z.2.1.2.1 hk)))) (fun hk => br_f sn_10 ⟨vp_in_nI (by omega) (by omega), ?_⟩)
      rw [nI_clamp (by omega), e5, e4, sn_b0]
      refine br_c (fun hg => ⟨vp_in_nI (by omega) (by omega), sn_z100, ?_⟩) (fun hg => nm_r (nI_1 i) (skip (fun x z => hg z.2.2.1)))
      rw [sn_d100 (by omega), nI_clamp (by omega)]
      refine ⟨vp_in_nI (by omega) (by omega), br_c (fun hz => nm_r (nI_1 i) (skip (fun x z => ?_))) (fun hz => ?_)⟩
      · obtain ⟨_, _, _, c, hc, hJ, _⟩ := z
        have hJk := ((hJ (i % 3) h4).1 (by rw [ei]; exact hg)).1 (by rw [ei])
        rw [ei] at hJk
        exact (xs_nz (by omega) hF).mp hz (sr_fc (sp_t p (i / 3) c) (sp_a p i)) (sr_fc_lt _ (fun v _ => sp_t_lt p (i / 3) c v)) hJk
      · refine sx_join ok hP hq hC (fun ps' wc' met' coming' plain' cursor' bound' _ _ hC' hX' => nm_r (nI_1 i) (ih (i + 1) _ _ _ _ _ _ _ _ (by omega) (by omega) hC' ?_))
        rw [hX', hX]
        funext x
        apply propext
        constructor
        · intro z
          rcases z with ⟨j, h1, h2⟩ | ⟨c, hc, hJ, hx⟩
          · exact ⟨j, by omega, h2⟩
          · exact ⟨i, by omega, h4, ⟨hq, hk, hl⟩, hg, c, hc, hJ, hx⟩
        · intro ⟨j, h1, h2⟩
          by_cases e : j = i
          · subst e
            exact Or.inr h2.2.2.2
          · exact Or.inl ⟨j, by omega, h2⟩
theorem sx_joinNew {f_plainSize f_newAtom f_wayCount f_met : Int32} {a_coming : Nat → Int64} {a_plain a_cursor a_bound : Nat → Int32} {post : SX → Prop} {p : SrP} {L : Nat} (hL4 : L < 4) (ok : sp_ok p) (hP : rp_ p f_count a_heads a_sizes a_atoms a_negated) (hF : xs_hi a_fresh) (hC : xs_hi a_coming) (hX : xs_ a_coming = fun _ => False) (hFF : ∀ x, xs_ a_fresh x → xs_ a_facts x)
    (hp : ∀ (ps na wc met : Int32) (coming : Nat → Int64) (plain cursor bound : Nat → Int32), xs_hi coming → xs_ coming = sp_FN p f_skipped L (xs_ a_fresh) (xs_ a_facts) (xs_ a_facts) → post (f_count, f_draftSize, f_skipped, ps, na, wc, f_wanted, met, f_solved, a_givens, a_facts, a_fresh, coming, a_kept, a_heads, a_sizes, a_atoms, a_negated, a_draftAtom, a_draftNegated, plain, cursor, bound)) : wpX_joinNew post (f_count, f_draftSize, f_skipped, f_plainSize, f_newAtom, f_wayCount, f_wanted, f_met, f_solved, a_givens, a_facts, a_fresh, a_coming, a_kept, a_heads, a_sizes, a_atoms, a_negated, a_draftAtom, a_draftNegated, a_plain, a_cursor, a_bound) (nI L) := by
  unfold wpX_joinNew
  refine ⟨3 * sp_n p + 1, sx_jn_l hL4 ok hP hF (fun ps na wc met coming plain cursor bound hC' hX' => hp ps na wc met coming plain cursor bound hC' ?_) (3 * sp_n p + 1) 0 f_plainSize f_newAtom f_wayCount f_met a_coming a_plain a_cursor a_bound (by omega) (by omega) hC ?_⟩
  · rw [hX']
    have h14 := ok.1
    funext x
    apply propext
    constructor
    · intro ⟨j, h1, h2, h3, h4, c, h5, h6, h7⟩
      have ei : 3 * (j / 3) + j % 3 = j := by omega
      have hr := ok.2 (j / 3) h3.1
      rw [← ei] at h4 h6
      rw [show (3 * (j / 3) + j % 3) / 3 = j / 3 by omega] at h6
      have := (sx_JB_k (by omega) hr.2.1 h2 h4 hFF).mp h6
      exact ⟨j / 3, h3, c, h5, this.1, ⟨j % 3, h2, h4, this.2⟩, h7⟩
    · intro ⟨r, h3, c, h5, h6, ⟨k, h2, h4, hf⟩, h7⟩
      have hr := ok.2 r h3.1
      have hk3 : k < 3 := Nat.lt_of_lt_of_le h2 hr.2.1
      have hrn := h3.1
      have eq1 : (3 * r + k) / 3 = r := by omega
      have eq2 : (3 * r + k) % 3 = k := by omega
      refine ⟨3 * r + k, by omega, ?_⟩
      unfold sx_hit
      rw [eq1, eq2]
      exact ⟨h2, h3, h4, c, h5, (sx_JB_k (by omega) hr.2.1 h2 h4 hFF).mpr ⟨h6, hf⟩, h7⟩
  · rw [hX]
    funext x
    exact propext ⟨fun z => z.elim, fun ⟨j, h, _⟩ => by omega⟩
end
section
variable {f_count f_draftSize f_skipped f_solved : Int32} {a_givens a_kept : Nat → Int64} {a_heads a_sizes a_atoms a_negated a_draftAtom a_draftNegated : Nat → Int32}
theorem sx_rounds {post : SX → Prop} {J : Int32 → Int32 → Int32 → Int32 → Int32 → Int32 → Int32 → Int32 → Int32 → Int32 → (Nat → Int64) → (Nat → Int64) → (Nat → Int64) → (Nat → Int64) → (Nat → Int64) → (Nat → Int32) → (Nat → Int32) → (Nat → Int32) → (Nat → Int32) → (Nat → Int32) → (Nat → Int32) → (Nat → Int32) → (Nat → Int32) → (Nat → Int32) → Prop} {p : SrP} {L : Nat} {N0 : Nat → Prop} (hL4 : L < 4) (ok : sp_ok p) (hP : rp_ p f_count a_heads a_sizes a_atoms a_negated)
    (hp : ∀ (ps na wc wn met : Int32) (facts fresh coming : Nat → Int64) (plain cursor bound : Nat → Int32), xs_hi facts → xs_hi coming → (xs_ coming = fun _ => False) → xs_ facts = sp_LF p f_skipped L N0 → J (nI (L + 1)) f_count f_draftSize f_skipped ps na wc wn met f_solved a_givens facts fresh coming a_kept a_heads a_sizes a_atoms a_negated a_draftAtom a_draftNegated plain cursor bound) :
    ∀ n i (fl ps na wc wn met : Int32) (facts fresh coming : Nat → Int64) (plain cursor bound : Nat → Int32), i ≤ 74 → 74 - i < n → xs_hi facts → xs_hi fresh → xs_hi coming → (xs_ coming = fun _ => False) → sq_xi p f_skipped L N0 (xs_ facts) (xs_ fresh) → (fl = 0 → ∀ x, ¬ xs_ fresh x) → (¬ fl = 0 → i < sq_m L (xs_ facts)) →
      wX_solve_102 post J (nI L) n fl (nI i) f_count f_draftSize f_skipped ps na wc wn met f_solved a_givens facts fresh coming a_kept a_heads a_sizes a_atoms a_negated a_draftAtom a_draftNegated plain cursor bound := by
  intro n
  induction n with
  | zero => intro i _ _ _ _ _ _ _ _ _ _ _ _ _ h; omega
  | succ n ih =>
    intro i fl ps na wc wn met facts fresh coming plain cursor bound hi hn hF hFr hC hX hxi hz hm
    have fin : fl = 0 → J (nI (L + 1)) f_count f_draftSize f_skipped ps na wc wn met f_solved a_givens facts fresh coming a_kept a_heads a_sizes a_atoms a_negated a_draftAtom a_draftNegated plain cursor bound := fun h0 => hp _ _ _ _ _ _ _ _ _ _ _ hF hC hX (sq_xe ok hxi (hz h0))
    refine pk_le 74 i (fun h => nm_r (nI_1 L) (fin (Classical.byContradiction fun z => ?_))) (fun h => ?_)
    · have := hm z
      have := sq_m_le L (xs_ facts)
      omega
    · refine br_c (fun h0 => nm_r (nI_1 L) (fin h0)) (fun h0 => ?_)
      refine sx_joinNew hL4 ok hP hFr hC hX hxi.2.1 (fun ps' na' wc' met' coming' plain' cursor' bound' hC' hX' => ?_)
      refine sx_settle hF hC' (fun fl' facts' fresh' coming2 k1 k2 k3 k4 k5 k6 k7 => nm_r (nI_1 i) ?_)
      rw [hX'] at k5 k6 k7
      refine ih (i + 1) _ _ _ _ _ _ _ _ _ _ _ _ (by omega) (by omega) k1 k2 k3 k4 ?_ ?_ ?_
      · rw [k5, k6]; exact sq_xs ok hxi
      · intro h x
        rw [k5]
        exact k7.mp h x
      · intro h
        have hmm := hm h0
        rw [k6]
        obtain ⟨x, hx⟩ : ∃ x, sp_FN p f_skipped L (xs_ fresh) (xs_ facts) (xs_ facts) x ∧ ¬ xs_ facts x := Classical.byContradiction fun z => h (k7.mpr fun x y => z ⟨x, y⟩)
        have := sq_xm (N0 := N0) hx.1 hx.2
        omega
theorem sx_first {post : SX → Prop} {J : Int32 → Int32 → Int32 → Int32 → Int32 → Int32 → Int32 → Int32 → Int32 → Int32 → (Nat → Int64) → (Nat → Int64) → (Nat → Int64) → (Nat → Int64) → (Nat → Int64) → (Nat → Int32) → (Nat → Int32) → (Nat → Int32) → (Nat → Int32) → (Nat → Int32) → (Nat → Int32) → (Nat → Int32) → (Nat → Int32) → (Nat → Int32) → Prop} {p : SrP} {L : Nat} {facts fresh : Nat → Int64} (hL4 : L < 4) (ok : sp_ok p) (hP : rp_ p f_count a_heads a_sizes a_atoms a_negated) (hF : xs_hi facts)
    (hp : ∀ (ps na wc wn met : Int32) (facts' fresh coming : Nat → Int64) (plain cursor bound : Nat → Int32), xs_hi facts' → xs_hi coming → (xs_ coming = fun _ => False) → xs_ facts' = sp_LF p f_skipped L (xs_ facts) → J (nI (L + 1)) f_count f_draftSize f_skipped ps na wc wn met f_solved a_givens facts' fresh coming a_kept a_heads a_sizes a_atoms a_negated a_draftAtom a_draftNegated plain cursor bound) :
    ∀ n i (ps na wc wn met : Int32) (coming : Nat → Int64) (plain cursor bound : Nat → Int32), i ≤ sp_n p → sp_n p - i < n → xs_hi coming → (xs_ coming = fun x => ∃ r, r < i ∧ sp_ac p f_skipped L r ∧ sp_FR p r (xs_ facts) (xs_ facts) x) →
      wX_solve_49 post J (nI L) n (nI i) f_count f_draftSize f_skipped ps na wc wn met f_solved a_givens facts fresh coming a_kept a_heads a_sizes a_atoms a_negated a_draftAtom a_draftNegated plain cursor bound := by
  have h14 := ok.1
  have efc := hP.1
  intro n
  induction n with
  | zero => intro i _ _ _ _ _ _ _ _ _ _ h; omega
  | succ n ih =>
    intro i ps na wc wn met coming plain cursor bound hi hn hC hX
    refine pk_le (sp_n p) i (fun h => ?_) (fun h => ?_) efc
    · have e : i = sp_n p := by omega
      subst e
      have hX2 : xs_ coming = sp_F p f_skipped L (xs_ facts) (xs_ facts) := by
        rw [hX]
        funext x
        exact propext ⟨fun ⟨r, _, h1, h2⟩ => ⟨r, h1, h2⟩, fun ⟨r, h1, h2⟩ => ⟨r, h1.1, h1, h2⟩⟩
      refine sx_settle hF hC (fun fl' facts' fresh' coming2 k1 k2 k3 k4 k5 k6 k7 => ⟨75, ?_⟩)
      rw [hX2] at k5 k6 k7
      refine sx_rounds (N0 := xs_ facts) hL4 ok hP hp 75 0 _ _ _ _ _ _ _ _ _ _ _ _ (by omega) (by omega) k1 k2 k3 k4 ?_ ?_ ?_
      · rw [k5, k6]; exact sq_x0 p f_skipped L _
      · intro h x
        rw [k5]
        exact k7.mp h x
      · intro h
        rw [k6]
        obtain ⟨x, hx⟩ : ∃ x, sp_F p f_skipped L (xs_ facts) (xs_ facts) x ∧ ¬ xs_ facts x := Classical.byContradiction fun z => h (k7.mpr fun x y => z ⟨x, y⟩)
        have := sq_xm0 hx.1 hx.2
        omega
    · have hr := ok.2 i h
      have h8 := hr.1
      obtain ⟨e1, _, _⟩ := hP.2 i h
      have skip : ¬ sp_ac p f_skipped L i → wX_solve_49 post J (nI L) n (nI (i + 1)) f_count f_draftSize f_skipped ps na wc wn met f_solved a_givens facts fresh coming a_kept a_heads a_sizes a_atoms a_negated a_draftAtom a_draftNegated plain cursor bound := by
        intro hna
        refine ih (i + 1) _ _ _ _ _ _ _ _ _ (by omega) (by omega) hC ?_
        rw [hX]
        funext x
        apply propext
        constructor
        · intro ⟨r, h1, h2⟩; exact ⟨r, by omega, h2⟩
        · intro ⟨r, h1, h2, h3⟩
          by_cases e : r = i
          · subst e; exact absurd h2 hna
          · exact ⟨r, by omega, h2, h3⟩
      refine ⟨vp_in_nI (by omega) (by omega), ?_⟩
      rw [nI_clamp (by omega), e1]
      unfold wpX_layerOf
      refine ⟨sn_z200, ?_⟩
      rw [sn_d200 (by omega)]
      refine pk_eq (sp_h p i / 200) L (fun hl => br_c (fun hk => nm_r (nI_1 i) (skip (fun z => z.2.1 hk))) (fun hk => ?_)) (fun hl => nm_r (nI_1 i) (skip (fun z => hl z.2.2)))
      refine sx_join ok hP h hC (fun ps' wc' met' coming' plain' cursor' bound' _ _ hC' hX' => nm_r (nI_1 i) (ih (i + 1) _ _ _ _ _ _ _ _ _ (by omega) (by omega) hC' ?_))
      rw [hX', hX]
      funext x
      apply propext
      constructor
      · intro z
        rcases z with ⟨r, h1, h2⟩ | ⟨c, hc, hJ, hx⟩
        · exact ⟨r, by omega, h2⟩
        · exact ⟨i, by omega, ⟨h, hk, hl⟩, c, hc, (sx_JB_m1 (by omega) hr.2.1).mp hJ, hx⟩
      · intro ⟨r, h1, h2, h3⟩
        by_cases e : r = i
        · subst e
          obtain ⟨c, hc, hB, hx⟩ := h3
          exact Or.inr ⟨c, hc, (sx_JB_m1 (by omega) hr.2.1).mpr hB, hx⟩
        · exact Or.inl ⟨r, by omega, h2, h3⟩
theorem sx_layers {post : SX → Prop} {p : SrP} {G : Nat → Prop} (ok : sp_ok p) (hP : rp_ p f_count a_heads a_sizes a_atoms a_negated)
    (hp : ∀ (ps na wc wn met : Int32) (facts fresh coming : Nat → Int64) (plain cursor bound : Nat → Int32), xs_hi facts → xs_ facts = sp_M p f_skipped G 4 → post (f_count, f_draftSize, f_skipped, ps, na, wc, wn, met, f_solved, a_givens, facts, fresh, coming, a_kept, a_heads, a_sizes, a_atoms, a_negated, a_draftAtom, a_draftNegated, plain, cursor, bound)) :
    ∀ n L (ps na wc wn met : Int32) (facts fresh coming : Nat → Int64) (plain cursor bound : Nat → Int32), L ≤ 4 → 4 - L < n → xs_hi facts → xs_hi coming → (xs_ coming = fun _ => False) → xs_ facts = sp_M p f_skipped G L →
      wX_solve_42 post n (nI L) f_count f_draftSize f_skipped ps na wc wn met f_solved a_givens facts fresh coming a_kept a_heads a_sizes a_atoms a_negated a_draftAtom a_draftNegated plain cursor bound := by
  intro n
  induction n with
  | zero => intro L _ _ _ _ _ _ _ _ _ _ _ _ h; omega
  | succ n ih =>
    intro L ps na wc wn met facts fresh coming plain cursor bound hL hn hF hC hX hM
    refine pk_le 4 L (fun h => ?_) (fun h => ⟨sp_n p + 1, ?_⟩)
    · have e : L = 4 := by omega
      subst e
      exact hp _ _ _ _ _ _ _ _ _ _ _ hF hM
    · refine sx_first h ok hP hF (fun ps' na' wc' wn' met' facts' fresh' coming' plain' cursor' bound' k1 k2 k3 k4 => ih (L + 1) _ _ _ _ _ _ _ _ _ _ _ (by omega) (by omega) k1 k2 k3 ?_) (sp_n p + 1) 0 _ _ _ _ _ _ _ _ _ (by omega) (by omega) hC ?_
      · rw [k4, hM]; rfl
      · rw [hX]
        funext x
        exact propext ⟨fun z => z.elim, fun ⟨j, hj, _⟩ => by omega⟩
theorem sx_solve_l {f_plainSize f_newAtom f_wayCount f_wanted f_met : Int32} {a_plain a_cursor a_bound : Nat → Int32} {post : SX → Prop} {p : SrP} (ok : sp_ok p) (hP : rp_ p f_count a_heads a_sizes a_atoms a_negated) (hG : xs_hi a_givens)
    (hp : ∀ (ps na wc wn met : Int32) (facts fresh coming : Nat → Int64) (plain cursor bound : Nat → Int32), xs_hi facts → xs_ facts = sp_M p f_skipped (xs_ a_givens) 4 → post (f_count, f_draftSize, f_skipped, ps, na, wc, wn, met, f_solved, a_givens, facts, fresh, coming, a_kept, a_heads, a_sizes, a_atoms, a_negated, a_draftAtom, a_draftNegated, plain, cursor, bound)) :
    ∀ n i (facts fresh coming : Nat → Int64), i ≤ 8 → 8 - i < n → (∀ r, r < i → facts r = a_givens r ∧ coming r = 0) → wX_solve_2 post f_count f_draftSize f_skipped f_plainSize f_newAtom f_wayCount f_wanted f_met f_solved n (nI i) a_givens facts fresh coming a_kept a_heads a_sizes a_atoms a_negated a_draftAtom a_draftNegated a_plain a_cursor a_bound := by
  intro n
  induction n with
  | zero => intro i _ _ _ _ h; omega
  | succ n ih =>
    intro i facts fresh coming hi hn h1
    refine pk_le 8 i (fun h => ⟨5, ?_⟩) (fun h => ?_)
    · have e : i = 8 := by omega
      subst e
      refine sx_layers (G := xs_ a_givens) ok hP hp 5 0 _ _ _ _ _ _ _ _ _ _ _ (by omega) (by omega) ?_ (xs_z_hi fun r hr => (h1 r hr).2) (xs_z fun r hr => (h1 r hr).2) ?_
      · intro r hr j hj
        rw [(h1 r hr).1] at hj
        exact hG r hr j hj
      · show xs_ facts = xs_ a_givens
        refine xs_ext (fun x hx => hx.1) (fun r f hr hf => ?_)
        rw [(h1 r hr).1, xs_at hr hf]
    · have hv := vp_in_nI (n := i) (N := 8) h (by omega)
      refine ⟨hv, hv, nm_e ⟨hv, nm_e ⟨hv, nm_e (nm_r (nI_1 i) (ih (i + 1) _ _ _ (by omega) (by omega) (fun r hr => ?_)))⟩⟩⟩
      rw [nI_clamp (by omega)]
      by_cases e : r = i
      · subst e; exact ⟨pk_uLs, pk_uLs⟩
      · rw [pk_uLn e, pk_uLn e]; exact h1 r (by omega)
theorem sx_solve {f_plainSize f_newAtom f_wayCount f_wanted f_met : Int32} {a_facts a_fresh a_coming : Nat → Int64} {a_plain a_cursor a_bound : Nat → Int32} {post : SX → Prop} {p : SrP} (ok : sp_ok p) (hP : rp_ p f_count a_heads a_sizes a_atoms a_negated) (hG : xs_hi a_givens)
    (hp : ∀ (ps na wc wn met : Int32) (facts fresh coming : Nat → Int64) (plain cursor bound : Nat → Int32), xs_hi facts → xs_ facts = sp_M p f_skipped (xs_ a_givens) 4 → post (f_count, f_draftSize, f_skipped, ps, na, wc, wn, met, f_solved, a_givens, facts, fresh, coming, a_kept, a_heads, a_sizes, a_atoms, a_negated, a_draftAtom, a_draftNegated, plain, cursor, bound)) : wpX_solve post (f_count, f_draftSize, f_skipped, f_plainSize, f_newAtom, f_wayCount, f_wanted, f_met, f_solved, a_givens, a_facts, a_fresh, a_coming, a_kept, a_heads, a_sizes, a_atoms, a_negated, a_draftAtom, a_draftNegated, a_plain, a_cursor, a_bound) := by
  unfold wpX_solve
  exact ⟨9, sx_solve_l ok hP hG hp 9 0 a_facts a_fresh a_coming (by omega) (by omega) (fun r hr => by omega)⟩
end
end
section
/-! the relation: one rule program, one draft, one set of given facts for both -/
def ir_X (p : SrP) (ds : Nat) (da : Nat → Nat) (dn : Nat → Bool) (G : Nat → Prop) (u : SX) : Prop := match u with
  | (f_count, f_draftSize, f_skipped, f_plainSize, f_newAtom, f_wayCount, f_wanted, f_met, f_solved, a_givens, a_facts, a_fresh, a_coming, a_kept, a_heads, a_sizes, a_atoms, a_negated, a_draftAtom, a_draftNegated, a_plain, a_cursor, a_bound) => rp_ p f_count a_heads a_sizes a_atoms a_negated ∧ f_draftSize = nI ds ∧ (∀ k, k < ds → a_draftAtom k = nI (da k) ∧ a_draftNegated k = sn_b (dn k)) ∧ f_skipped = -1 ∧ xs_hi a_givens ∧ xs_ a_givens = G ∧ (f_solved = 0 ∨ (f_solved = 1 ∧ xs_hi a_facts ∧ xs_ a_facts = sp_M p (-1) G 4))
def ir_Y (p : SrP) (ds : Nat) (da : Nat → Nat) (dn : Nat → Bool) (G : Nat → Prop) (v : SY) : Prop := match v with
  | (f_drafted, f_count, a_told, a_now, a_kept, a_draft, a_draftNot, a_head, a_size, a_atoms, a_not, a_bound) => rp_ p f_count a_head a_size a_atoms a_not ∧ f_drafted = nI ds ∧ (∀ k, k < ds → a_draft k = nI (da k) ∧ a_draftNot k = sn_b (dn k)) ∧ ys_b a_told ∧ ys_ a_told = G
def i_Rel (_ : Nat) (u : SX) (v : SY) : Prop := ∃ (p : SrP) (ds : Nat) (da : Nat → Nat) (dn : Nat → Bool) (G : Nat → Prop), sp_ok p ∧ ds ≤ 3 ∧ (∀ k, k < ds → da k < 800) ∧ ir_X p ds da dn G u ∧ ir_Y p ds da dn G v
theorem i_up {k : Nat} {u : SX} {v : SY} (h : i_Rel k u v) : i_Rel (k + 5) u v := h
theorem i_vc0 : wpX_init (fun u => wpY_init (fun v => i_Rel 0 u v)) := by
  unfold wpX_init wpY_init
  refine ⟨(0, fun _ => 0, fun _ => 0, fun _ => 0, fun _ => false), 0, fun _ => 0, fun _ => false, fun _ => False, ⟨Nat.zero_le _, fun r hr => absurd hr (Nat.not_lt_zero r)⟩, by omega, fun k hk => absurd hk (Nat.not_lt_zero k), ?_, ?_⟩
  · exact ⟨⟨rfl, fun r hr => absurd hr (Nat.not_lt_zero r)⟩, rfl, fun k hk => absurd hk (Nat.not_lt_zero k), rfl, xs_z_hi fun _ _ => rfl, xs_z fun _ _ => rfl, Or.inl rfl⟩
  · refine ⟨⟨rfl, fun r hr => absurd hr (Nat.not_lt_zero r)⟩, rfl, fun k hk => absurd hk (Nat.not_lt_zero k), fun _ _ => Or.inl rfl, ?_⟩
    funext x
    exact propext ⟨fun z => z.2 rfl, fun z => z.elim⟩
theorem sg_ix (v : Int32) (n : Nat) (h : n < 2 ^ 31) : (v < 0 ∨ nI n ≤ v) ∨ ∃ r : Nat, r < n ∧ v = nI r := by
  rcases pk_ix v h with z | z | z
  · exact Or.inl (Or.inl z)
  · exact Or.inl (Or.inr z)
  · exact Or.inr z
theorem sg_rel_t {post : Int32 → Prop} {r : Nat} (hr : r < 8) (h : post 1) : wpX_isRelation post (nI r) := by
  unfold wpX_isRelation
  exact br_f (nI_pos (by omega)) (pk_le 8 r (fun z => by omega) (fun _ => h))
theorem sg_rel_f {post : Int32 → Prop} {v : Int32} (hv : v < 0 ∨ nI 8 ≤ v) (h : post 0) : wpX_isRelation post v := by
  unfold wpX_isRelation
  rcases hv with z | z
  · exact br_t z h
  · exact br_c (fun _ => h) (fun _ => br_t z h)
theorem sg_thg_t {post : Int32 → Prop} {r : Nat} (hr : r < 6) (h : post 1) : wpX_isThing post (nI r) := by
  unfold wpX_isThing
  exact br_f (nI_pos (by omega)) (pk_le 6 r (fun z => by omega) (fun _ => h))
theorem sg_thg_f {post : Int32 → Prop} {v : Int32} (hv : v < 0 ∨ nI 6 ≤ v) (h : post 0) : wpX_isThing post v := by
  unfold wpX_isThing
  rcases hv with z | z
  · exact br_t z h
  · exact br_c (fun _ => h) (fun _ => br_t z h)
theorem sg_nle {v : Int32} {a b : Nat} (hb : b < 2 ^ 31) (h : nI b ≤ v) (hab : a < b) : ¬ v ≤ nI a := by
  intro z
  rw [Int32.le_iff_toInt_le, nI_toInt (by omega)] at h z
  omega
section
variable {f_count f_draftSize f_skipped f_plainSize f_newAtom f_wayCount f_wanted f_met f_solved : Int32} {a_givens a_facts a_fresh a_coming a_kept : Nat → Int64} {a_heads a_sizes a_atoms a_negated a_draftAtom a_draftNegated a_plain a_cursor a_bound : Nat → Int32}
theorem sg_rule_t {post : Int32 → Prop} {r n : Nat} (hn : n ≤ 14) (hf : f_count = nI n) (hr : r < n) (h : post 1) : wpX_isRule post (f_count, f_draftSize, f_skipped, f_plainSize, f_newAtom, f_wayCount, f_wanted, f_met, f_solved, a_givens, a_facts, a_fresh, a_coming, a_kept, a_heads, a_sizes, a_atoms, a_negated, a_draftAtom, a_draftNegated, a_plain, a_cursor, a_bound) (nI r) := by
  unfold wpX_isRule
  exact br_f (nI_pos (by omega)) (pk_le n r (fun z => by omega) (fun _ => h) hf)
theorem sg_rule_f {post : Int32 → Prop} {v : Int32} {n : Nat} (hf : f_count = nI n) (hv : v < 0 ∨ nI n ≤ v) (h : post 0) : wpX_isRule post (f_count, f_draftSize, f_skipped, f_plainSize, f_newAtom, f_wayCount, f_wanted, f_met, f_solved, a_givens, a_facts, a_fresh, a_coming, a_kept, a_heads, a_sizes, a_atoms, a_negated, a_draftAtom, a_draftNegated, a_plain, a_cursor, a_bound) v := by
  unfold wpX_isRule
  rcases hv with z | z
  · exact br_t z h
  · exact br_c (fun _ => h) (fun _ => br_t (by rw [hf]; exact z) h)
end
section
variable {f_drafted f_count : Int32} {a_told a_now a_kept a_draft a_draftNot a_head a_size a_atoms a_not a_bound : Nat → Int32}
theorem sg_bad_t {post : Int32 → Prop} {r : Nat} (hr : r < 8) (h : post 0) : wpY_bad post (f_drafted, f_count, a_told, a_now, a_kept, a_draft, a_draftNot, a_head, a_size, a_atoms, a_not, a_bound) (nI r) := by
  unfold wpY_bad
  exact br_f (nI_pos (by omega)) (pk_le r 7 (fun _ => h) (fun z => by omega))
theorem sg_bad_f {post : Int32 → Prop} {v : Int32} (hv : v < 0 ∨ nI 8 ≤ v) (h : post 1) : wpY_bad post (f_drafted, f_count, a_told, a_now, a_kept, a_draft, a_draftNot, a_head, a_size, a_atoms, a_not, a_bound) v := by
  unfold wpY_bad
  rcases hv with z | z
  · exact br_t z h
  · exact br_c (fun _ => h) (fun _ => br_f (sg_nle (a := 7) (by omega) z (by omega)) h)
theorem sg_bth_t {post : Int32 → Prop} {r : Nat} (hr : r < 6) (h : post 0) : wpY_badThing post (f_drafted, f_count, a_told, a_now, a_kept, a_draft, a_draftNot, a_head, a_size, a_atoms, a_not, a_bound) (nI r) := by
  unfold wpY_badThing
  exact br_f (nI_pos (by omega)) (pk_le r 5 (fun _ => h) (fun z => by omega))
theorem sg_bth_f {post : Int32 → Prop} {v : Int32} (hv : v < 0 ∨ nI 6 ≤ v) (h : post 1) : wpY_badThing post (f_drafted, f_count, a_told, a_now, a_kept, a_draft, a_draftNot, a_head, a_size, a_atoms, a_not, a_bound) v := by
  unfold wpY_badThing
  rcases hv with z | z
  · exact br_t z h
  · exact br_c (fun _ => h) (fun _ => br_f (sg_nle (a := 5) (by omega) z (by omega)) h)
theorem sg_brl_t {post : Int32 → Prop} {r n : Nat} (hn : n ≤ 14) (hf : f_count = nI n) (hr : r < n) (h : post 0) : wpY_badRule post (f_drafted, f_count, a_told, a_now, a_kept, a_draft, a_draftNot, a_head, a_size, a_atoms, a_not, a_bound) (nI r) := by
  unfold wpY_badRule
  exact br_f (nI_pos (by omega)) (pk_le n r (fun z => by omega) (fun _ => pk_le r 13 (fun _ => h) (fun z => by omega)) hf)
theorem sg_brl_f {post : Int32 → Prop} {v : Int32} {n : Nat} (hf : f_count = nI n) (hv : v < 0 ∨ nI n ≤ v) (h : post 1) : wpY_badRule post (f_drafted, f_count, a_told, a_now, a_kept, a_draft, a_draftNot, a_head, a_size, a_atoms, a_not, a_bound) v := by
  unfold wpY_badRule
  rcases hv with z | z
  · exact br_t z h
  · exact br_c (fun _ => h) (fun _ => br_t (by rw [hf]; exact z) h)
end
theorem sg_ones_l {post : Int32 → Prop} {w : Int64} (hp : post (nI (sr_cn (fun f => sr_lb w f = true) 36))) : ∀ n i, i ≤ 36 → 36 - i < n → wX_ones_4 post w n (nI (sr_cn (fun f => sr_lb w f = true) i)) (nI i) := by
  intro n
  induction n with
  | zero => intro i _ h; omega
  | succ n ih =>
    intro i hi hn
    refine pk_le 36 i (fun h => ?_) (fun h => ?_)
    · have e : i = 36 := by omega
      subst e; exact hp
    · refine sx_bitAt (by omega) (nm_r (e' := nI (sr_cn (fun f => sr_lb w f = true) (i + 1))) ?_ (nm_r (nI_1 i) (ih (i + 1) (by omega) (by omega))))
      rw [sn_bP (P := sr_lb w i = true) Iff.rfl, nI_add]
      rfl
theorem sg_ones {post : Int32 → Prop} {w : Int64} (hp : post (nI (sr_cn (fun f => sr_lb w f = true) 36))) : wpX_ones post w := by
  unfold wpX_ones
  exact ⟨37, sg_ones_l hp 37 0 (by omega) (by omega)⟩
theorem sg_ones_xs {post : Int32 → Prop} {W : Nat → Int64} {r : Nat} (hr : r < 8) (hp : post (nI (sr_cn (fun f => xs_ W (36 * r + f)) 36))) : wpX_ones post (W r) := by
  apply sg_ones
  rw [sr_cn_eq (Q := fun f => xs_ W (36 * r + f)) (fun f hf => (xs_at hr hf).symm)]
  exact hp
theorem sg_bit0 {W : Nat → Int64} {r f : Nat} (hr : r < 8) (hf : f < 36) : (W r &&& sw_bit f) = 0 ↔ ¬ xs_ W (36 * r + f) := by
  rw [xs_at hr hf, sw_zero]
  constructor
  · intro z y
    have := z f (by omega)
    rw [sw_and, sw_bit_lb (by omega), y] at this
    simp at this
  · intro z j _
    rw [sw_and, sw_bit_lb (by omega)]
    by_cases e : j = f
    · subst e; rw [Bool.eq_false_iff.mpr z]; rfl
    · rw [decide_eq_false e, Bool.and_false]
end
section
/-! giving facts, drafting, asking what is given -/
theorem i_vc_blank {k : Nat} {u : SX} {v : SY} (I : i_Rel k u v) (hk : k + 5 ≤ 2560) : wpX_blank (fun r u' => wpY_blank (fun r' v' => r' = r ∧ i_Rel (k + 5) u' v') v) u := by
  obtain ⟨p, ds, da, dn, G, ok, hds3, hda, hx, hy⟩ := I
  obtain ⟨f_count, f_draftSize, f_skipped, f_plainSize, f_newAtom, f_wayCount, f_wanted, f_met, f_solved, a_givens, a_facts, a_fresh, a_coming, a_kept, a_heads, a_sizes, a_atoms, a_negated, a_draftAtom, a_draftNegated, a_plain, a_cursor, a_bound⟩ := u
  obtain ⟨y_drafted, y_count, y_told, y_now, y_kept, y_draft, y_draftNot, y_head, y_size, y_atoms, y_not, y_bound⟩ := v
  have back : i_Rel (k + 5) (f_count, f_draftSize, f_skipped, f_plainSize, f_newAtom, f_wayCount, f_wanted, f_met, f_solved, a_givens, a_facts, a_fresh, a_coming, a_kept, a_heads, a_sizes, a_atoms, a_negated, a_draftAtom, a_draftNegated, a_plain, a_cursor, a_bound) (y_drafted, y_count, y_told, y_now, y_kept, y_draft, y_draftNot, y_head, y_size, y_atoms, y_not, y_bound) := ⟨p, ds, da, dn, G, ok, hds3, hda, hx, hy⟩
  obtain ⟨hP, hds, hdr, hsk, hgh, hg, hsv⟩ := hx
  obtain ⟨qP, qds, qdr, qt, qg⟩ := hy
  unfold wpX_blank wpY_blank
  refine ⟨qds.trans hds.symm, p, 0, da, dn, G, ok, by omega, fun k hk => absurd hk (Nat.not_lt_zero k), ⟨hP, rfl, fun k hk => absurd hk (Nat.not_lt_zero k), hsk, hgh, hg, hsv⟩, ⟨qP, rfl, fun k hk => absurd hk (Nat.not_lt_zero k), qt, qg⟩⟩
theorem i_vc_rules {k : Nat} {u : SX} {v : SY} (I : i_Rel k u v) (hk : k + 5 ≤ 2560) : wpX_rules (fun r => wpY_rules (fun r' => r' = r ∧ i_Rel (k + 5) u v) v) u := by
  obtain ⟨p, ds, da, dn, G, ok, hds3, hda, hx, hy⟩ := I
  obtain ⟨f_count, f_draftSize, f_skipped, f_plainSize, f_newAtom, f_wayCount, f_wanted, f_met, f_solved, a_givens, a_facts, a_fresh, a_coming, a_kept, a_heads, a_sizes, a_atoms, a_negated, a_draftAtom, a_draftNegated, a_plain, a_cursor, a_bound⟩ := u
  obtain ⟨y_drafted, y_count, y_told, y_now, y_kept, y_draft, y_draftNot, y_head, y_size, y_atoms, y_not, y_bound⟩ := v
  have back : i_Rel (k + 5) (f_count, f_draftSize, f_skipped, f_plainSize, f_newAtom, f_wayCount, f_wanted, f_met, f_solved, a_givens, a_facts, a_fresh, a_coming, a_kept, a_heads, a_sizes, a_atoms, a_negated, a_draftAtom, a_draftNegated, a_plain, a_cursor, a_bound) (y_drafted, y_count, y_told, y_now, y_kept, y_draft, y_draftNot, y_head, y_size, y_atoms, y_not, y_bound) := ⟨p, ds, da, dn, G, ok, hds3, hda, hx, hy⟩
  obtain ⟨hP, hds, hdr, hsk, hgh, hg, hsv⟩ := hx
  obtain ⟨qP, qds, qdr, qt, qg⟩ := hy
  unfold wpX_rules wpY_rules
  exact ⟨qP.1.trans hP.1.symm, back⟩
theorem i_vc_given {k : Nat} {u : SX} {v : SY} (I : i_Rel k u v) (hk : k + 5 ≤ 2560) (v1 : Int32) (v2 : Int32) (v3 : Int32) : wpX_given (fun r => wpY_given (fun r' => r' = r ∧ i_Rel (k + 5) u v) v v1 v2 v3) u v1 v2 v3 := by
  obtain ⟨p, ds, da, dn, G, ok, hds3, hda, hx, hy⟩ := I
  obtain ⟨f_count, f_draftSize, f_skipped, f_plainSize, f_newAtom, f_wayCount, f_wanted, f_met, f_solved, a_givens, a_facts, a_fresh, a_coming, a_kept, a_heads, a_sizes, a_atoms, a_negated, a_draftAtom, a_draftNegated, a_plain, a_cursor, a_bound⟩ := u
  obtain ⟨y_drafted, y_count, y_told, y_now, y_kept, y_draft, y_draftNot, y_head, y_size, y_atoms, y_not, y_bound⟩ := v
  have back : i_Rel (k + 5) (f_count, f_draftSize, f_skipped, f_plainSize, f_newAtom, f_wayCount, f_wanted, f_met, f_solved, a_givens, a_facts, a_fresh, a_coming, a_kept, a_heads, a_sizes, a_atoms, a_negated, a_draftAtom, a_draftNegated, a_plain, a_cursor, a_bound) (y_drafted, y_count, y_told, y_now, y_kept, y_draft, y_draftNot, y_head, y_size, y_atoms, y_not, y_bound) := ⟨p, ds, da, dn, G, ok, hds3, hda, hx, hy⟩
  obtain ⟨hP, hds, hdr, hsk, hgh, hg, hsv⟩ := hx
  obtain ⟨qP, qds, qdr, qt, qg⟩ := hy
  unfold wpX_given wpY_given
  rcases sg_ix v1 8 (by omega) with h1 | ⟨r, hr, rfl⟩
  · exact sg_rel_f h1 (br_t rfl (sg_bad_f h1 (br_f sn_10 ⟨rfl, back⟩)))
  rcases sg_ix v2 6 (by omega) with h2 | ⟨x, hx, rfl⟩
  · exact sg_rel_t hr (br_f sn_10 (sg_thg_f h2 (br_t rfl (sg_bad_t hr (br_t rfl (sg_bth_f h2 (br_f sn_10 ⟨rfl, back⟩)))))))
  rcases sg_ix v3 6 (by omega) with h3 | ⟨y, hy, rfl⟩
  · exact sg_rel_t hr (br_f sn_10 (sg_thg_t hx (br_f sn_10 (sg_thg_f h3 (br_t rfl (sg_bad_t hr (br_t rfl (sg_bth_t hx (br_t rfl (sg_bth_f h3 (br_f sn_10 ⟨rfl, back⟩)))))))))))
  refine sg_rel_t hr (br_f sn_10 (sg_thg_t hx (br_f sn_10 (sg_thg_t hy (br_f sn_10 ⟨vp_in_nI hr (by omega), ?_⟩)))))
  rw [nI_clamp (show r < 2 ^ 31 by omega), sn_m6, nI_add]
  refine sx_bitAt (by omega) (sg_bad_t hr (br_t rfl (sg_bth_t hx (br_t rfl (sg_bth_t hy (br_t rfl ?_))))))
  rw [sn_m36, nI_add, nI_add, show 36 * r + 6 * x + y = 36 * r + (6 * x + y) by omega, nI_clamp (by omega)]
  have e : ¬ y_told (36 * r + (6 * x + y)) = 0 ↔ sr_lb (a_givens r) (6 * x + y) = true := by
    rw [← xs_at hr (by omega), hg, ← qg]
    exact ⟨fun z => ⟨by omega, z⟩, fun z => z.2⟩
  refine ⟨vp_in_nI (by omega) (by omega), br_c (fun z => ⟨?_, back⟩) (fun z => ⟨?_, back⟩)⟩
  · cases hb : sr_lb (a_givens r) (6 * x + y) with
    | false => rfl
    | true => exact absurd z (e.mpr hb)
  · rw [e.mp z]; rfl
theorem i_vc_give {k : Nat} {u : SX} {v : SY} (I : i_Rel k u v) (hk : k + 5 ≤ 2560) (v1 : Int32) (v2 : Int32) (v3 : Int32) (v4 : Int32) : wpX_give (fun r u' => wpY_give (fun r' v' => r' = r ∧ i_Rel (k + 5) u' v') v v1 v2 v3 v4) u v1 v2 v3 v4 := by
  obtain ⟨p, ds, da, dn, G, ok, hds3, hda, hx, hy⟩ := I
  obtain ⟨f_count, f_draftSize, f_skipped, f_plainSize, f_newAtom, f_wayCount, f_wanted, f_met, f_solved, a_givens, a_facts, a_fresh, a_coming, a_kept, a_heads, a_sizes, a_atoms, a_negated, a_draftAtom, a_draftNegated, a_plain, a_cursor, a_bound⟩ := u
  obtain ⟨y_drafted, y_count, y_told, y_now, y_kept, y_draft, y_draftNot, y_head, y_size, y_atoms, y_not, y_bound⟩ := v
  have back : i_Rel (k + 5) (f_count, f_draftSize, f_skipped, f_plainSize, f_newAtom, f_wayCount, f_wanted, f_met, f_solved, a_givens, a_facts, a_fresh, a_coming, a_kept, a_heads, a_sizes, a_atoms, a_negated, a_draftAtom, a_draftNegated, a_plain, a_cursor, a_bound) (y_drafted, y_count, y_told, y_now, y_kept, y_draft, y_draftNot, y_head, y_size, y_atoms, y_not, y_bound) := ⟨p, ds, da, dn, G, ok, hds3, hda, hx, hy⟩
  obtain ⟨hP, hds, hdr, hsk, hgh, hg, hsv⟩ := hx
  obtain ⟨qP, qds, qdr, qt, qg⟩ := hy
  unfold wpX_give wpY_give
  rcases sg_ix v1 8 (by omega) with h1 | ⟨r, hr, rfl⟩
  · exact sg_rel_f h1 (br_t rfl (sg_bad_f h1 (br_f sn_10 ⟨rfl, back⟩)))
  rcases sg_ix v2 6 (by omega) with h2 | ⟨x, hx, rfl⟩
  · exact sg_rel_t hr (br_f sn_10 (sg_thg_f h2 (br_t rfl (sg_bad_t hr (br_t rfl (sg_bth_f h2 (br_f sn_10 ⟨rfl, back⟩)))))))
  rcases sg_ix v3 6 (by omega) with h3 | ⟨y, hy, rfl⟩
  · exact sg_rel_t hr (br_f sn_10 (sg_thg_t hx (br_f sn_10 (sg_thg_f h3 (br_t rfl (sg_bad_t hr (br_t rfl (sg_bth_t hx (br_t rfl (sg_bth_f h3 (br_f sn_10 ⟨rfl, back⟩)))))))))))
  have ecl : (nI r).toNatClampNeg = r := nI_clamp (by omega)
  have e : y_told (36 * r + (6 * x + y)) = 0 ↔ (a_givens r &&& sw_bit (6 * x + y)) = 0 := by
    rw [sg_bit0 hr (by omega), hg, ← qg]
    exact ⟨fun z w => w.2 z, fun z => Classical.byContradiction fun w => z ⟨by omega, w⟩⟩
  have ebit : ((1 : Int64) <<< (((6 * nI x) + nI y).toInt64 &&& 63)) = sw_bit (6 * x + y) := by rw [sn_m6, nI_add]; rfl
  have epl : (36 * nI r + 6 * nI x + nI y : Int32) = nI (36 * r + (6 * x + y)) := by rw [sn_m36, sn_m6, nI_add, nI_add, Nat.add_assoc]
  have ecl2 : (nI (36 * r + (6 * x + y))).toNatClampNeg = 36 * r + (6 * x + y) := nI_clamp (by omega)
  have new : ∀ ret : Int32, (v4 = 0 → ret = ret ∧ i_Rel (k + 5) (f_count, f_draftSize, f_skipped, f_plainSize, f_newAtom, f_wayCount, f_wanted, f_met, 0, (vp_updL a_givens r (a_givens r &&& (sw_bit (6 * x + y) ^^^ (-1)))), a_facts, a_fresh, a_coming, a_kept, a_heads, a_sizes, a_atoms, a_negated, a_draftAtom, a_draftNegated, a_plain, a_cursor, a_bound) (y_drafted, y_count, (upd y_told (36 * r + (6 * x + y)) 0), y_now, y_kept, y_draft, y_draftNot, y_head, y_size, y_atoms, y_not, y_bound)) ∧ (¬ v4 = 0 → ret = ret ∧ i_Rel (k + 5) (f_count, f_draftSize, f_skipped, f_plainSize, f_newAtom, f_wayCount, f_wanted, f_met, 0, (vp_updL a_givens r (a_givens r ||| sw_bit (6 * x + y))), a_facts, a_fresh, a_coming, a_kept, a_heads, a_sizes, a_atoms, a_negated, a_draftAtom, a_draftNegated, a_plain, a_cursor, a_bound) (y_drafted, y_count, (upd y_told (36 * r + (6 * x + y)) 1), y_now, y_kept, y_draft, y_draftNot, y_head, y_size, y_atoms, y_not, y_bound)) := by
    intro ret
    refine ⟨fun _ => ⟨rfl, ?_⟩, fun _ => ⟨rfl, ?_⟩⟩
    · refine ⟨p, ds, da, dn, fun q => G q ∧ q ≠ 36 * r + (6 * x + y), ok, hds3, hda, ⟨hP, hds, hdr, hsk, xs_clr_hi hgh, ?_, Or.inl rfl⟩, ⟨qP, qds, qdr, ys_b_upd (Or.inl rfl) qt, ?_⟩⟩
      · rw [xs_clr hr (by omega), hg]
      · rw [ys_clr, qg]
    · refine ⟨p, ds, da, dn, fun q => G q ∨ q = 36 * r + (6 * x + y), ok, hds3, hda, ⟨hP, hds, hdr, hsk, xs_set_hi (by omega) hgh, ?_, Or.inl rfl⟩, ⟨qP, qds, qdr, ys_b_upd (Or.inr rfl) qt, ?_⟩⟩
      · rw [xs_set hr (by omega), hg]
      · rw [ys_set (by omega), qg]
  have iny : vp_in (nI (36 * r + (6 * x + y))) 288 := vp_in_nI (by omega) (by omega)
  have inx : vp_in (nI r) 8 := vp_in_nI hr (by omega)
  refine sg_rel_t hr (br_f sn_10 (sg_thg_t hx (br_f sn_10 (sg_thg_t hy (br_f sn_10 (nm_r ebit ⟨inx, ?_⟩))))))
  rw [ecl, ← e]
  unfold wX_give_55
  rw [ecl]
  refine br_c (fun z => ?_) (fun z => ?_)
  · refine br_c (fun w => ⟨inx, inx, nm_e ?_⟩) (fun w => ⟨inx, inx, nm_e ?_⟩)
    · refine sg_bad_t hr (br_t rfl (sg_bth_t hx (br_t rfl (sg_bth_t hy (br_t rfl (nm_r epl ⟨iny, ?_⟩))))))
      rw [ecl2]
      refine br_t z ?_
      unfold wY_give_57
      rw [ecl2]
      exact br_t w ⟨iny, nm_e ((new 0).1 w)⟩
    · refine sg_bad_t hr (br_t rfl (sg_bth_t hx (br_t rfl (sg_bth_t hy (br_t rfl (nm_r epl ⟨iny, ?_⟩))))))
      rw [ecl2]
      refine br_t z ?_
      unfold wY_give_57
      rw [ecl2]
      exact br_f w ⟨iny, nm_e ((new 0).2 w)⟩
  · refine br_c (fun w => ⟨inx, inx, nm_e ?_⟩) (fun w => ⟨inx, inx, nm_e ?_⟩)
    · refine sg_bad_t hr (br_t rfl (sg_bth_t hx (br_t rfl (sg_bth_t hy (br_t rfl (nm_r epl ⟨iny, ?_⟩))))))
      rw [ecl2]
      refine br_f z ?_
      unfold wY_give_57
      rw [ecl2]
      exact br_t w ⟨iny, nm_e ((new 1).1 w)⟩
    · refine sg_bad_t hr (br_t rfl (sg_bth_t hx (br_t rfl (sg_bth_t hy (br_t rfl (nm_r epl ⟨iny, ?_⟩))))))
      rw [ecl2]
      refine br_f z ?_
      unfold wY_give_57
      rw [ecl2]
      exact br_f w ⟨iny, nm_e ((new 1).2 w)⟩
theorem i_vc_body {k : Nat} {u : SX} {v : SY} (I : i_Rel k u v) (hk : k + 5 ≤ 2560) (v1 : Int32) (v2 : Int32) : wpX_body (fun r u' => wpY_body (fun r' v' => r' = r ∧ i_Rel (k + 5) u' v') v v1 v2) u v1 v2 := by
  obtain ⟨p, ds, da, dn, G, ok, hds3, hda, hx, hy⟩ := I
  obtain ⟨f_count, f_draftSize, f_skipped, f_plainSize, f_newAtom, f_wayCount, f_wanted, f_met, f_solved, a_givens, a_facts, a_fresh, a_coming, a_kept, a_heads, a_sizes, a_atoms, a_negated, a_draftAtom, a_draftNegated, a_plain, a_cursor, a_bound⟩ := u
  obtain ⟨y_drafted, y_count, y_told, y_now, y_kept, y_draft, y_draftNot, y_head, y_size, y_atoms, y_not, y_bound⟩ := v
  have back : i_Rel (k + 5) (f_count, f_draftSize, f_skipped, f_plainSize, f_newAtom, f_wayCount, f_wanted, f_met, f_solved, a_givens, a_facts, a_fresh, a_coming, a_kept, a_heads, a_sizes, a_atoms, a_negated, a_draftAtom, a_draftNegated, a_plain, a_cursor, a_bound) (y_drafted, y_count, y_told, y_now, y_kept, y_draft, y_draftNot, y_head, y_size, y_atoms, y_not, y_bound) := ⟨p, ds, da, dn, G, ok, hds3, hda, hx, hy⟩
  obtain ⟨hP, hds, hdr, hsk, hgh, hg, hsv⟩ := hx
  obtain ⟨qP, qds, qdr, qt, qg⟩ := hy
  unfold wpX_body wpY_body
  rcases sg_ix v1 800 (by omega) with h1 | ⟨a, ha, rfl⟩
  · rcases h1 with z | z
    · exact br_t z (br_t z ⟨rfl, back⟩)
    · have z2 : ¬ v1 ≤ 799 := sg_nle (a := 799) (b := 800) (by omega) z (by omega)
      refine br_c (fun y => br_t y ⟨rfl, back⟩) (fun y => br_f z2 (br_f y (br_f z2 ⟨rfl, back⟩)))
  have h0 : ¬ nI a < 0 := nI_pos (by omega)
  have h9 : nI a ≤ 799 := nI_le (b := 799) (by omega) (by omega)
  subst hds qds
  refine br_f h0 (br_t h9 (pk_eq ds 3 (fun e => ?_) (fun e => ?_)))
  · exact br_f h0 (br_t h9 (pk_le ds 2 (fun z => by omega) (fun _ => ⟨rfl, back⟩)))
  · have hd3 : ds < 3 := by omega
    have hin : vp_in (nI ds) 3 := vp_in_nI hd3 (by omega)
    have ecl : (nI ds).toNatClampNeg = ds := nI_clamp (by omega)
    have new : ∀ b : Bool, i_Rel (k + 5) (f_count, nI (ds + 1), f_skipped, f_plainSize, f_newAtom, f_wayCount, f_wanted, f_met, f_solved, a_givens, a_facts, a_fresh, a_coming, a_kept, a_heads, a_sizes, a_atoms, a_negated, (upd a_draftAtom ds (nI a)), (upd a_draftNegated ds (sn_b b)), a_plain, a_cursor, a_bound) (nI (ds + 1), y_count, y_told, y_now, y_kept, (upd y_draft ds (nI a)), (upd y_draftNot ds (sn_b b)), y_head, y_size, y_atoms, y_not, y_bound) := by
      intro b
      refine ⟨p, ds + 1, fun j => if j = ds then a else da j, fun j => if j = ds then b else dn j, G, ok, by omega, ?_, ⟨hP, rfl, ?_, hsk, hgh, hg, hsv⟩, ⟨qP, rfl, ?_, qt, qg⟩⟩
      · intro j hj
        dsimp only
        by_cases e : j = ds
        · rw [if_pos e]; exact ha
        · rw [if_neg e]; exact hda j (by omega)
      · intro j hj
        dsimp only
        by_cases e : j = ds
        · subst e; rw [pk_us, pk_us, if_pos rfl, if_pos rfl]; exact ⟨rfl, rfl⟩
        · rw [pk_un e, pk_un e, if_neg e, if_neg e]; exact hdr j (by omega)
      · intro j hj
        dsimp only
        by_cases e : j = ds
        · subst e; rw [pk_us, pk_us, if_pos rfl, if_pos rfl]; exact ⟨rfl, rfl⟩
        · rw [pk_un e, pk_un e, if_neg e, if_neg e]; exact qdr j (by omega)
    refine ⟨hin, nm_e ?_⟩
    unfold wX_body_51
    rw [ecl]
    refine br_c (fun z => ⟨hin, nm_e (nm_r (nI_1 ds) ?_)⟩) (fun z => ⟨hin, nm_e (nm_r (nI_1 ds) ?_)⟩)
    · refine br_f h0 (br_t h9 (pk_le ds 2 (fun _ => ⟨hin, nm_e ?_⟩) (fun z => by omega)))
      unfold wY_body_51
      rw [ecl]
      exact br_t z ⟨hin, nm_e (nm_r (nI_1 ds) ⟨rfl, new false⟩)⟩
    · refine br_f h0 (br_t h9 (pk_le ds 2 (fun _ => ⟨hin, nm_e ?_⟩) (fun z => by omega)))
      unfold wY_body_51
      rw [ecl]
      exact br_f z ⟨hin, nm_e (nm_r (nI_1 ds) ⟨rfl, new true⟩)⟩
end
section
/-! chains of given facts -/
def sc_G (G : Nat → Prop) (r x st : Nat) : Nat → (Nat → Prop)
  | 0 => G
  | k + 1 => fun q => sc_G G r x st k q ∨ q = 36 * r + (6 * ((x + k) % 6) + (x + k + st) % 6)
section
variable {f_count f_draftSize f_skipped f_plainSize f_newAtom f_wayCount f_wanted f_met f_solved : Int32} {a_facts a_fresh a_coming a_kept : Nat → Int64} {a_heads a_sizes a_atoms a_negated a_draftAtom a_draftNegated a_plain a_cursor a_bound : Nat → Int32}
theorem sc_x {post : Int32 → SX → Prop} {G : Nat → Prop} {r x st m : Nat} (hr : r < 8) (hx : x < 6) (hst : st < 6) (hm : m < 7)
    (hp : ∀ givens : Nat → Int64, xs_hi givens → xs_ givens = sc_G G r x st m → post (nI (sr_cn (fun f => sc_G G r x st m (36 * r + f)) 36)) (f_count, f_draftSize, f_skipped, f_plainSize, f_newAtom, f_wayCount, f_wanted, f_met, 0, givens, a_facts, a_fresh, a_coming, a_kept, a_heads, a_sizes, a_atoms, a_negated, a_draftAtom, a_draftNegated, a_plain, a_cursor, a_bound)) :
    ∀ n i (givens : Nat → Int64), i ≤ m → m - i < n → xs_hi givens → xs_ givens = sc_G G r x st i → wX_chain_63 post (nI r) (nI x) (nI st) (nI m) f_count f_draftSize f_skipped f_plainSize f_newAtom f_wayCount f_wanted f_met f_solved n (nI i) givens a_facts a_fresh a_coming a_kept a_heads a_sizes a_atoms a_negated a_draftAtom a_draftNegated a_plain a_cursor a_bound := by
  intro n
  induction n with
  | zero => intro i _ _ h; omega
  | succ n ih =>
    intro i givens hi hn hh hg
    refine pk_le m i (fun h => ⟨vp_in_nI hr (by omega), ?_⟩) (fun h => ?_)
    · have e : i = m := by omega
      subst e
      rw [nI_clamp (by omega)]
      refine sg_ones_xs hr ?_
      rw [hg]
      exact hp givens hh hg
    · have e1 : (nI x + nI i) - (nI x + nI i) / 6 * 6 = nI ((x + i) % 6) := by rw [nI_add]; exact sn_r6 (by omega)
      have e2 : ((nI x + nI i) + nI st) - ((nI x + nI i) + nI st) / 6 * 6 = nI ((x + i + st) % 6) := by rw [nI_add, nI_add]; exact sn_r6 (by omega)
      refine ⟨sn_z6, nm_r e1 ⟨sn_z6, nm_r e2 ⟨vp_in_nI hr (by omega), vp_in_nI hr (by omega), nm_e (nm_r (nI_1 i) ?_)⟩⟩⟩
      rw [nI_clamp (by omega), sn_m6, nI_add]
      have hf : 6 * ((x + i) % 6) + (x + i + st) % 6 < 36 := by omega
      refine ih (i + 1) _ (by omega) (by omega) (xs_set_hi hf hh) ?_
      have e3 := xs_set (W := givens) hr hf
      rw [hg] at e3
      exact e3
end
section
variable {f_drafted f_count : Int32} {a_now a_kept a_draft a_draftNot a_head a_size a_atoms a_not a_bound : Nat → Int32}
theorem sc_y2 {a_told : Nat → Int32} {post : Int32 → SY → Prop} {r : Nat} (hr : r < 8)
    (hp : post (nI (sr_cn (fun f => ys_ a_told (36 * r + f)) 36)) (f_drafted, f_count, a_told, a_now, a_kept, a_draft, a_draftNot, a_head, a_size, a_atoms, a_not, a_bound)) :
    ∀ n i, i ≤ 36 → 36 - i < n → wY_chain_122 post (nI r) f_drafted f_count a_told a_now a_kept a_draft a_draftNot a_head a_size a_atoms a_not a_bound n (nI (sr_cn (fun f => ys_ a_told (36 * r + f)) i)) (nI i) := by
  intro n
  induction n with
  | zero => intro i _ h; omega
  | succ n ih =>
    intro i hi hn
    refine pk_le 36 i (fun h => ?_) (fun h => ?_)
    · have e : i = 36 := by omega
      subst e; exact hp
    · rw [sn_m36, nI_add, nI_clamp (by omega)]
      refine ⟨vp_in_nI (by omega) (by omega), br_c (fun z => nm_r (nI_1 i) ?_) (fun z => nm_r (e' := nI (sr_cn (fun f => ys_ a_told (36 * r + f)) (i + 1))) ?_ (nm_r (nI_1 i) (ih (i + 1) (by omega) (by omega))))⟩
      · have e : sr_cn (fun f => ys_ a_told (36 * r + f)) i = sr_cn (fun f => ys_ a_told (36 * r + f)) (i + 1) := by
          simp only [sr_cn]
          rw [sr_b_f (fun y => y.2 z)]
          rfl
        rw [e]
        exact ih (i + 1) (by omega) (by omega)
      · simp only [sr_cn]
        rw [sr_b_t ⟨by omega, z⟩, nI_1]
theorem sc_y {post : Int32 → SY → Prop} {G : Nat → Prop} {r x t m : Nat} (hr : r < 8) (hx : x < 6) (ht : t < 2 ^ 31) (hst : t / 8 < 6) (hm : m < 7)
    (hp : ∀ told : Nat → Int32, ys_b told → ys_ told = sc_G G r x (t / 8) m → post (nI (sr_cn (fun f => sc_G G r x (t / 8) m (36 * r + f)) 36)) (f_drafted, f_count, told, a_now, a_kept, a_draft, a_draftNot, a_head, a_size, a_atoms, a_not, a_bound)) :
    ∀ n i (told : Nat → Int32), i ≤ m → m - i < n → ys_b told → ys_ told = sc_G G r x (t / 8) i → wY_chain_61 post (nI r) (nI x) (nI t) (nI m) f_drafted f_count n (nI i) told a_now a_kept a_draft a_draftNot a_head a_size a_atoms a_not a_bound := by
  intro n
  induction n with
  | zero => intro i _ _ h; omega
  | succ n ih =>
    intro i told hi hn hb hg
    refine pk_le m i (fun h => ⟨37, ?_⟩) (fun h => ?_)
    · have e : i = m := by omega
      subst e
      refine sc_y2 hr ?_ 37 0 (by omega) (by omega)
      rw [hg]
      exact hp told hb hg
    · have e1 : (nI x + nI i) - (nI x + nI i) / 6 * 6 = nI ((x + i) % 6) := by rw [nI_add]; exact sn_r6 (by omega)
      have e2 : ((nI x + nI i) + nI t / 8) - ((nI x + nI i) + nI t / 8) / 6 * 6 = nI ((x + i + t / 8) % 6) := by rw [sn_d8 ht, nI_add, nI_add]; exact sn_r6 (by omega)
      have hf : 6 * ((x + i) % 6) + (x + i + t / 8) % 6 < 36 := by omega
      refine ⟨sn_z6, nm_r e1 ⟨sn_z8, sn_z6, nm_r e2 ?_⟩⟩
      rw [sn_m36, sn_m6, nI_add, nI_add, Nat.add_assoc, nI_clamp (by omega)]
      refine ⟨vp_in_nI (by omega) (by omega), nm_e (nm_r (nI_1 i) (ih (i + 1) _ (by omega) (by omega) (ys_b_upd (Or.inr rfl) hb) ?_))⟩
      have e3 := ys_set (t := told) (a := 36 * r + (6 * ((x + i) % 6) + (x + i + t / 8) % 6)) (by omega)
      rw [hg] at e3
      exact e3
end
theorem i_vc_chain {k : Nat} {u : SX} {v : SY} (I : i_Rel k u v) (hk : k + 5 ≤ 2560) (v1 : Int32) (v2 : Int32) (v3 : Int32) : wpX_chain (fun r u' => wpY_chain (fun r' v' => r' = r ∧ i_Rel (k + 5) u' v') v v1 v2 v3) u v1 v2 v3 := by
  obtain ⟨p, ds, da, dn, G, ok, hds3, hda, hx, hy⟩ := I
  obtain ⟨f_count, f_draftSize, f_skipped, f_plainSize, f_newAtom, f_wayCount, f_wanted, f_met, f_solved, a_givens, a_facts, a_fresh, a_coming, a_kept, a_heads, a_sizes, a_atoms, a_negated, a_draftAtom, a_draftNegated, a_plain, a_cursor, a_bound⟩ := u
  obtain ⟨y_drafted, y_count, y_told, y_now, y_kept, y_draft, y_draftNot, y_head, y_size, y_atoms, y_not, y_bound⟩ := v
  have back : i_Rel (k + 5) (f_count, f_draftSize, f_skipped, f_plainSize, f_newAtom, f_wayCount, f_wanted, f_met, f_solved, a_givens, a_facts, a_fresh, a_coming, a_kept, a_heads, a_sizes, a_atoms, a_negated, a_draftAtom, a_draftNegated, a_plain, a_cursor, a_bound) (y_drafted, y_count, y_told, y_now, y_kept, y_draft, y_draftNot, y_head, y_size, y_atoms, y_not, y_bound) := ⟨p, ds, da, dn, G, ok, hds3, hda, hx, hy⟩
  obtain ⟨hP, hds, hdr, hsk, hgh, hg, hsv⟩ := hx
  obtain ⟨qP, qds, qdr, qt, qg⟩ := hy
  unfold wpX_chain
  rcases sg_ix v1 8 (by omega) with h1 | ⟨r, hr, rfl⟩
  · refine sg_rel_f h1 (br_t rfl ?_)
    show wpY_chain _ _ _ _ _
    unfold wpY_chain
    exact sg_bad_f h1 (br_f sn_10 ⟨rfl, back⟩)
  rcases sg_ix v2 6 (by omega) with h2 | ⟨x, hx, rfl⟩
  · refine sg_rel_t hr (br_f sn_10 (sg_thg_f h2 (br_t rfl ?_)))
    show wpY_chain _ _ _ _ _
    unfold wpY_chain
    exact sg_bad_t hr (br_t rfl (sg_bth_f h2 (br_f sn_10 ⟨rfl, back⟩)))
  refine sg_rel_t hr (br_f sn_10 (sg_thg_t hx (br_f sn_10 ⟨sn_z8, nm_e ⟨sn_z8, nm_e ?_⟩⟩)))
  by_cases h3 : v3 < 0
  · refine br_t h3 ?_
    show wpY_chain _ _ _ _ _
    unfold wpY_chain
    exact sg_bad_t hr (br_t rfl (sg_bth_t hx (br_t rfl (br_t h3 ⟨rfl, back⟩))))
  obtain ⟨t, ht, rfl⟩ := nI_of h3
  have e1 : nI t / 8 = nI (t / 8) := sn_d8 ht
  have e2 : nI t - nI t / 8 * 8 = nI (t % 8) := sn_r8 ht
  rw [e2, e1]
  refine br_f h3 (pk_le (t / 8) 5 (fun h4 => ?_) (fun h4 => ?_))
  · have y0 : ∀ {post : Int32 → SY → Prop}, ((nI (t % 8) < 1 → post (-4) (y_drafted, y_count, y_told, y_now, y_kept, y_draft, y_draftNot, y_head, y_size, y_atoms, y_not, y_bound)) ∧ (¬ nI (t % 8) < 1 → ((nI (t % 8) ≤ 6 → ∃ n, wY_chain_61 post (nI r) (nI x) (nI t) (nI (t % 8)) y_drafted y_count n 0 y_told y_now y_kept y_draft y_draftNot y_head y_size y_atoms y_not y_bound) ∧ (¬ nI (t % 8) ≤ 6 → post (-4) (y_drafted, y_count, y_told, y_now, y_kept, y_draft, y_draftNot, y_head, y_size, y_atoms, y_not, y_bound))))) → wpY_chain post (y_drafted, y_count, y_told, y_now, y_kept, y_draft, y_draftNot, y_head, y_size, y_atoms, y_not, y_bound) (nI r) (nI x) (nI t) := by
      intro post h
      unfold wpY_chain
      refine sg_bad_t hr (br_t rfl (sg_bth_t hx (br_t rfl (br_f h3 ⟨sn_z8, ?_⟩))))
      rw [e2, e1]
      exact pk_le (t / 8) 5 (fun _ => ⟨sn_z8, nm_e h⟩) (fun z => by omega)
    refine pk_lt (t % 8) 1 (fun h5 => ?_) (fun h5 => ?_)
    · exact y0 (pk_lt (t % 8) 1 (fun _ => ⟨rfl, back⟩) (fun z => by omega))
    · refine pk_le (t % 8) 6 (fun h6 => ⟨t % 8 + 1, ?_⟩) (fun h6 => ?_)
      · refine sc_x (G := G) hr hx (by omega) (by omega) (fun givens g1 g2 => ?_) (t % 8 + 1) 0 a_givens (by omega) (by omega) hgh hg
        refine y0 (pk_lt (t % 8) 1 (fun z => by omega) (fun _ => pk_le (t % 8) 6 (fun _ => ⟨t % 8 + 1, ?_⟩) (fun z => by omega)))
        refine sc_y (G := G) hr hx ht (by omega) (by omega) (fun told t1 t2 => ⟨rfl, ?_⟩) (t % 8 + 1) 0 y_told (by omega) (by omega) qt qg
        exact ⟨p, ds, da, dn, _, ok, hds3, hda, ⟨hP, hds, hdr, hsk, g1, g2, Or.inl rfl⟩, ⟨qP, qds, qdr, t1, t2⟩⟩
      · exact y0 (pk_lt (t % 8) 1 (fun z => by omega) (fun _ => pk_le (t % 8) 6 (fun z => by omega) (fun _ => ⟨rfl, back⟩)))
  · show wpY_chain _ _ _ _ _
    unfold wpY_chain
    refine sg_bad_t hr (br_t rfl (sg_bth_t hx (br_t rfl (br_f h3 ⟨sn_z8, ?_⟩))))
    rw [e1]
    exact pk_le (t / 8) 5 (fun z => by omega) (fun _ => ⟨rfl, back⟩)
end
section
/-! a new rule -/
def ru_B (E D : Nat → Prop) (da : Nat → Nat) (x : Int32) (k : Nat) : Prop := ∀ v, v < 32 → (bt x v = true ↔ (v < 4 ∧ (E v ∨ ∃ j, j < k ∧ D j ∧ sr_oc (da j) v)))
theorem ru_or {E D : Nat → Prop} {da : Nat → Nat} {x : Int32} {k : Nat} (h : ru_B E D da x k) (hd : D k) : ru_B E D da (x ||| sr_vm (da k)) (k + 1) := by
  intro v hv
  rw [b_or, Bool.or_eq_true, h v hv, sr_vm_bt _ hv]
  constructor
  · intro z
    rcases z with ⟨z1, z | ⟨j, hj, z⟩⟩ | ⟨z1, z⟩
    · exact ⟨z1, Or.inl z⟩
    · exact ⟨z1, Or.inr ⟨j, by omega, z⟩⟩
    · exact ⟨z1, Or.inr ⟨k, by omega, hd, z⟩⟩
  · intro z
    rcases z with ⟨z1, z | ⟨j, hj, z⟩⟩
    · exact Or.inl ⟨z1, Or.inl z⟩
    · by_cases e : j = k
      · subst e; exact Or.inr ⟨z1, z.2⟩
      · exact Or.inl ⟨z1, Or.inr ⟨j, by omega, z⟩⟩
theorem ru_sk {E D : Nat → Prop} {da : Nat → Nat} {x : Int32} {k : Nat} (h : ru_B E D da x k) (hd : ¬ D k) : ru_B E D da x (k + 1) := by
  intro v hv
  rw [h v hv]
  constructor
  · intro z
    rcases z with ⟨z1, z | ⟨j, hj, z⟩⟩
    · exact ⟨z1, Or.inl z⟩
    · exact ⟨z1, Or.inr ⟨j, by omega, z⟩⟩
  · intro z
    rcases z with ⟨z1, z | ⟨j, hj, z⟩⟩
    · exact ⟨z1, Or.inl z⟩
    · by_cases e : j = k
      · subst e; exact absurd z.1 hd
      · exact ⟨z1, Or.inr ⟨j, by omega, z⟩⟩
theorem ru_00 (D : Nat → Prop) (da : Nat → Nat) : ru_B (fun _ => False) D da 0 0 := by
  intro v _
  rw [b_0]
  exact ⟨fun z => (by cases z), fun ⟨_, z⟩ => z.elim (fun y => y.elim) (fun ⟨j, hj, _⟩ => by omega)⟩
theorem ru_a0 (D : Nat → Prop) (da : Nat → Nat) (a : Nat) : ru_B (sr_oc a) D da (sr_vm a) 0 := by
  intro v hv
  rw [sr_vm_bt _ hv]
  exact ⟨fun z => ⟨z.1, Or.inl z.2⟩, fun ⟨z1, z⟩ => z.elim (fun y => ⟨z1, y⟩) (fun ⟨j, hj, _⟩ => by omega)⟩
def ru_safe (a ds : Nat) (da : Nat → Nat) (dn : Nat → Bool) : Prop := ∀ v, v < 4 → (sr_oc a v ∨ ∃ j, j < ds ∧ dn j = true ∧ sr_oc (da j) v) → ∃ j, j < ds ∧ dn j = false ∧ sr_oc (da j) v
def ru_good (a : Nat) (da : Nat → Nat) (dn : Nat → Bool) (j : Nat) : Prop := da j / 200 ≤ a / 200 ∧ (dn j = true → da j / 200 < a / 200)
theorem ru_end {a ds : Nat} {da : Nat → Nat} {dn : Nat → Bool} {x y : Int32} (hx : ru_B (fun _ => False) (fun j => dn j = false) da x ds) (hy : ru_B (sr_oc a) (fun j => dn j = true) da y ds) : (y &&& (x ^^^ (-1))) = 0 ↔ ru_safe a ds da dn := by
  rw [sr_msk]
  constructor
  · intro h v hv z
    have := (hx v (by omega)).mp (h v (by omega) ((hy v (by omega)).mpr ⟨hv, z⟩))
    rcases this with ⟨_, w | w⟩
    · exact w.elim
    · exact w
  · intro h v hv z
    obtain ⟨z1, z2⟩ := (hy v hv).mp z
    exact (hx v hv).mpr ⟨z1, Or.inr (h v z1 z2)⟩
def sp_add (p : SrP) (a ds : Nat) (da : Nat → Nat) (dn : Nat → Bool) : SrP := (sp_n p + 1, fun r => if r = sp_n p then a else sp_h p r, fun r => if r = sp_n p then ds else sp_s p r, fun j => if 3 * sp_n p ≤ j then da (j - 3 * sp_n p) else sp_a p j, fun j => if 3 * sp_n p ≤ j then dn (j - 3 * sp_n p) else sp_g p j)
theorem sp_rk_c {p q : SrP} {r s : Nat} (h1 : sp_h q s = sp_h p r) (h2 : sp_s q s = sp_s p r) (h3 : ∀ k, k < sp_s p r → sp_a q (3 * s + k) = sp_a p (3 * r + k) ∧ sp_g q (3 * s + k) = sp_g p (3 * r + k)) (h : sp_rk p r) : sp_rk q s := by
  obtain ⟨k1, k2, k3, k4⟩ := h
  unfold sp_rk
  rw [h1, h2]
  refine ⟨k1, k2, fun k hk => ?_, fun v hv z => ?_⟩
  · rw [(h3 k hk).1, (h3 k hk).2]; exact k3 k hk
  · obtain ⟨k, hk, w1, w2⟩ := k4 v hv (z.elim Or.inl (fun ⟨k, hk, y⟩ => Or.inr ⟨k, hk, by rw [← (h3 k hk).1]; exact y⟩))
    exact ⟨k, by rw [h2]; exact hk, by rw [(h3 k hk).2]; exact w1, by rw [(h3 k hk).1]; exact w2⟩
theorem sp_add_e (p : SrP) (a ds : Nat) (da : Nat → Nat) (dn : Nat → Bool) : sp_n (sp_add p a ds da dn) = sp_n p + 1 ∧ sp_h (sp_add p a ds da dn) (sp_n p) = a ∧ sp_s (sp_add p a ds da dn) (sp_n p) = ds ∧ (∀ k, sp_a (sp_add p a ds da dn) (3 * sp_n p + k) = da k ∧ sp_g (sp_add p a ds da dn) (3 * sp_n p + k) = dn k) ∧ (∀ r, r < sp_n p → sp_h (sp_add p a ds da dn) r = sp_h p r ∧ sp_s (sp_add p a ds da dn) r = sp_s p r ∧ ∀ k, k < 3 → sp_a (sp_add p a ds da dn) (3 * r + k) = sp_a p (3 * r + k) ∧ sp_g (sp_add p a ds da dn) (3 * r + k) = sp_g p (3 * r + k)) := by
  refine ⟨rfl, if_pos rfl, if_pos rfl, fun k => ⟨?_, ?_⟩, fun r hr => ⟨if_neg (by omega), if_neg (by omega), fun k hk => ⟨if_neg (by omega), if_neg (by omega)⟩⟩⟩
  · show (if 3 * sp_n p ≤ 3 * sp_n p + k then da (3 * sp_n p + k - 3 * sp_n p) else _) = _
    rw [if_pos (by omega), Nat.add_sub_cancel_left]
  · show (if 3 * sp_n p ≤ 3 * sp_n p + k then dn (3 * sp_n p + k - 3 * sp_n p) else _) = _
    rw [if_pos (by omega), Nat.add_sub_cancel_left]
theorem sp_add_ok {p : SrP} {a ds : Nat} {da : Nat → Nat} {dn : Nat → Bool} (ok : sp_ok p) (hn : sp_n p < 14) (ha : a < 800) (hd : ds ≤ 3) (hda : ∀ k, k < ds → da k < 800) (hg : ∀ j, j < ds → ru_good a da dn j) (hs : ru_safe a ds da dn) : sp_ok (sp_add p a ds da dn) := by
  obtain ⟨e1, e2, e3, e4, e5⟩ := sp_add_e p a ds da dn
  refine ⟨by omega, fun r hr => ?_⟩
  by_cases e : r = sp_n p
  · subst e
    unfold sp_rk
    rw [e2, e3]
    refine ⟨ha, hd, fun k hk => ?_, fun v hv z => ?_⟩
    · rw [(e4 k).1, (e4 k).2]
      exact ⟨hda k hk, (hg k hk).1, (hg k hk).2⟩
    · have key : ∃ j, j < ds ∧ dn j = false ∧ sr_oc (da j) v := by
        rcases z with z | ⟨k, hk, z⟩
        · exact hs v hv (Or.inl z)
        · rw [(e4 k).1] at z
          cases hb : dn k with
          | false => exact ⟨k, hk, hb, z⟩
          | true => exact hs v hv (Or.inr ⟨k, hk, hb, z⟩)
      obtain ⟨j, hj, w1, w2⟩ := key
      exact ⟨j, by rw [e3]; exact hj, by rw [(e4 j).2]; exact w1, by rw [(e4 j).1]; exact w2⟩
  · have hr2 : r < sp_n p := by omega
    obtain ⟨f1, f2, f3⟩ := e5 r hr2
    have h3 := (ok.2 r hr2).2.1
    exact sp_rk_c f1 f2 (fun k hk => f3 k (by omega)) (ok.2 r hr2)
theorem rp_add {p : SrP} {a ds : Nat} {da : Nat → Nat} {dn : Nat → Bool} {fc : Int32} {H S A N A' N' : Nat → Int32} (ok : sp_ok p) (h : rp_ p fc H S A N) (h1 : ∀ j, j < 3 * sp_n p → A' j = A j ∧ N' j = N j) (h2 : ∀ k, k < ds → A' (3 * sp_n p + k) = nI (da k) ∧ N' (3 * sp_n p + k) = sn_b (dn k)) : rp_ (sp_add p a ds da dn) (nI (sp_n p + 1)) (upd H (sp_n p) (nI a)) (upd S (sp_n p) (nI ds)) A' N' := by
  obtain ⟨e1, e2, e3, e4, e5⟩ := sp_add_e p a ds da dn
  refine ⟨by rw [e1], fun r hr => ?_⟩
  by_cases e : r = sp_n p
  · subst e
    rw [e2, e3, pk_us, pk_us]
    refine ⟨rfl, rfl, fun k hk => ?_⟩
    rw [(e4 k).1, (e4 k).2]
    exact h2 k hk
  · have hr2 : r < sp_n p := by omega
    obtain ⟨f1, f2, f3⟩ := e5 r hr2
    obtain ⟨g1, g2, g3⟩ := h.2 r hr2
    have h3 := (ok.2 r hr2).2.1
    rw [f1, f2, pk_un e, pk_un e]
    refine ⟨g1, g2, fun k hk => ?_⟩
    rw [(f3 k (by omega)).1, (f3 k (by omega)).2, (h1 (3 * r + k) (by omega)).1, (h1 (3 * r + k) (by omega)).2]
    exact g3 k hk
theorem ru_lm1 {d L : Nat} (hd : d < 2 ^ 30) (hL : L < 2 ^ 30) : nI d ≤ nI L - 1 ↔ d < L := by
  have e : (nI L - 1 : Int32).toInt = (L : Int) - 1 := pk_sub_toInt (b := 1) hL (by omega)
  rw [Int32.le_iff_toInt_le, e, nI_toInt (by omega)]
  omega
theorem sx_vars {post : Int32 → Prop} {a : Nat} (h : a < 800) (hp : post (sr_vm a)) : wpX_variablesOf post (nI a) := by
  have e1 : nI a / 10 - nI a / 10 / 10 * 10 = nI (a / 10 % 10) := by rw [sn_d10 (by omega), sn_r10 (by omega)]
  unfold wpX_variablesOf
  refine ⟨sn_z10, sn_z10, nm_r e1 ⟨sn_z10, nm_r (sn_r10 (by omega)) ?_⟩⟩
  unfold sr_vm sr_v1 at hp
  refine pk_le 4 (a / 10 % 10) (fun h1 => ?_) (fun h1 => ?_)
  · rw [if_pos h1] at hp
    refine pk_le 4 (a % 10) (fun h2 => ?_) (fun h2 => ?_)
    · rw [if_pos h2] at hp; exact hp
    · rw [if_neg (by omega)] at hp; exact hp
  · rw [if_neg (by omega)] at hp
    refine pk_le 4 (a % 10) (fun h2 => ?_) (fun h2 => ?_)
    · rw [if_pos h2] at hp; exact hp
    · rw [if_neg (by omega)] at hp; exact hp
theorem sx_layer {post : Int32 → Prop} {a : Nat} (h : a < 800) (hp : post (nI (a / 200))) : wpX_layerOf post (nI a) := by
  unfold wpX_layerOf
  refine ⟨sn_z200, ?_⟩
  rw [sn_d200 (by omega)]
  exact hp
theorem ru_nt {b : Bool} (h : ¬ b = false) : b = true := by cases b <;> first | rfl | exact absurd rfl h
section
variable {f_skipped f_plainSize f_newAtom f_wayCount f_wanted f_met f_solved : Int32} {a_givens a_facts a_fresh a_coming a_kept : Nat → Int64} {a_heads a_sizes a_draftAtom a_draftNegated a_plain a_cursor a_bound : Nat → Int32}
theorem xr_205 {post : Int32 → SX → Prop} {n ds : Nat} {da : Nat → Nat} {dn : Nat → Bool} {A0 N0 : Nat → Int32} (hn : n < 14) (hd : ds ≤ 3) (hdr : ∀ k, k < ds → a_draftAtom k = nI (da k) ∧ a_draftNegated k = sn_b (dn k))
    (hp : ∀ atoms negated : Nat → Int32, (∀ j, j < 3 * n → atoms j = A0 j ∧ negated j = N0 j) → (∀ k, k < ds → atoms (3 * n + k) = nI (da k) ∧ negated (3 * n + k) = sn_b (dn k)) → post (nI n) (nI (n + 1), 0, f_skipped, f_plainSize, f_newAtom, f_wayCount, f_wanted, f_met, 0, a_givens, a_facts, a_fresh, a_coming, a_kept, a_heads, a_sizes, atoms, negated, a_draftAtom, a_draftNegated, a_plain, a_cursor, a_bound)) :
    ∀ m i (atoms negated : Nat → Int32), i ≤ ds → ds - i < m → (∀ j, j < 3 * n → atoms j = A0 j ∧ negated j = N0 j) → (∀ k, k < i → atoms (3 * n + k) = nI (da k) ∧ negated (3 * n + k) = sn_b (dn k)) → wX_rule_205 post (nI n) (nI ds) f_skipped f_plainSize f_newAtom f_wayCount f_wanted f_met f_solved m (nI i) a_givens a_facts a_fresh a_coming a_kept a_heads a_sizes atoms negated a_draftAtom a_draftNegated a_plain a_cursor a_bound := by
  intro m
  induction m with
  | zero => intro i _ _ _ h; omega
  | succ m ih =>
    intro i atoms negated hi hm h1 h2
    refine pk_le ds i (fun h => nm_r (nI_1 n) ?_) (fun h => ?_)
    · rw [nI_pred]
      have e : i = ds := by omega
      subst e
      exact hp atoms negated h1 h2
    · obtain ⟨e1, e2⟩ := hdr i h
      rw [sn_m3, nI_add]
      refine ⟨vp_in_nI (by omega) (by omega), vp_in_nI (by omega) (by omega), nm_e ⟨vp_in_nI (by omega) (by omega), vp_in_nI (by omega) (by omega), nm_e (nm_r (nI_1 i) ?_)⟩⟩
      rw [nI_clamp (show i < 2 ^ 31 by omega), nI_clamp (by omega), e1, e2, sn_bn]
      refine ih (i + 1) _ _ (by omega) (by omega) (fun j hj => ?_) (fun k hk => ?_)
      · rw [pk_un (by omega), pk_un (by omega)]; exact h1 j hj
      · by_cases e : k = i
        · subst e; exact ⟨pk_us, pk_us⟩
        · rw [pk_un (by omega), pk_un (by omega)]; exact h2 k (by omega)
end
section
variable {f_skipped f_plainSize f_newAtom f_wayCount f_wanted f_met f_solved : Int32} {a_givens a_facts a_fresh a_coming a_kept : Nat → Int64} {a_heads a_sizes a_atoms a_negated a_draftAtom a_draftNegated a_plain a_cursor a_bound : Nat → Int32}
theorem xr_123 {post : Int32 → SX → Prop} {n a ds : Nat} {da : Nat → Nat} {dn : Nat → Bool} {x : Int32} (hn : n < 14) (hd : ds ≤ 3) (hda : ∀ k, k < ds → da k < 800) (hdr : ∀ k, k < ds → a_draftAtom k = nI (da k) ∧ a_draftNegated k = sn_b (dn k))
    (hx : ru_B (fun _ => False) (fun j => dn j = false) da x ds) (h4 : ¬ ru_safe a ds da dn → post (-4) (nI n, nI ds, f_skipped, f_plainSize, f_newAtom, f_wayCount, f_wanted, f_met, f_solved, a_givens, a_facts, a_fresh, a_coming, a_kept, a_heads, a_sizes, a_atoms, a_negated, a_draftAtom, a_draftNegated, a_plain, a_cursor, a_bound))
    (hp : ru_safe a ds da dn → ∀ atoms negated : Nat → Int32, (∀ j, j < 3 * n → atoms j = a_atoms j ∧ negated j = a_negated j) → (∀ k, k < ds → atoms (3 * n + k) = nI (da k) ∧ negated (3 * n + k) = sn_b (dn k)) → post (nI n) (nI (n + 1), 0, f_skipped, f_plainSize, f_newAtom, f_wayCount, f_wanted, f_met, 0, a_givens, a_facts, a_fresh, a_coming, a_kept, (upd a_heads n (nI a)), (upd a_sizes n (nI ds)), atoms, negated, a_draftAtom, a_draftNegated, a_plain, a_cursor, a_bound)) :
    ∀ m i (y : Int32), i ≤ ds → ds - i < m → ru_B (sr_oc a) (fun j => dn j = true) da y i → wX_rule_123 post (nI a) x (nI n) (nI ds) f_skipped f_plainSize f_newAtom f_wayCount f_wanted f_met f_solved a_givens a_facts a_fresh a_coming a_kept a_heads a_sizes a_atoms a_negated a_draftAtom a_draftNegated a_plain a_cursor a_bound m y (nI i) := by
  intro m
  induction m with
  | zero => intro i _ _ h; omega
  | succ m ih =>
    intro i y hi hm hy
    refine pk_le ds i (fun h => ?_) (fun h => ?_)
    · have e : i = ds := by omega
      subst e
      rw [ru_end hx hy]
      refine br_c (fun hs => ⟨vp_in_nI hn (by omega), nm_e ⟨vp_in_nI hn (by omega), nm_e ⟨i + 1, ?_⟩⟩⟩) (fun hs => h4 hs)
      rw [nI_clamp (by omega)]
      exact xr_205 hn hd hdr (hp hs) (i + 1) 0 a_atoms a_negated (by omega) (by omega) (fun j _ => ⟨rfl, rfl⟩) (fun k hk => by omega)
    · obtain ⟨e1, e2⟩ := hdr i h
      refine ⟨vp_in_nI (by omega) (by omega), ?_⟩
      rw [nI_clamp (by omega), e1, e2, sn_b0]
      refine br_c (fun z => nm_r (Int32.or_zero) (nm_r (nI_1 i) (ih (i + 1) y (by omega) (by omega) (ru_sk hy (by rw [z]; decide))))) (fun z => ⟨vp_in_nI (by omega) (by omega), sx_vars (hda i h) (nm_e (nm_r (nI_1 i) (ih (i + 1) _ (by omega) (by omega) (ru_or hy (ru_nt z)))))⟩)
theorem xr_35 {post : Int32 → SX → Prop} {n a ds : Nat} {da : Nat → Nat} {dn : Nat → Bool} (hn : n < 14) (ha : a < 800) (hd : ds ≤ 3) (hda : ∀ k, k < ds → da k < 800) (hdr : ∀ k, k < ds → a_draftAtom k = nI (da k) ∧ a_draftNegated k = sn_b (dn k))
    (h3 : (∃ j, j < ds ∧ ¬ ru_good a da dn j) → post (-3) (nI n, nI ds, f_skipped, f_plainSize, f_newAtom, f_wayCount, f_wanted, f_met, f_solved, a_givens, a_facts, a_fresh, a_coming, a_kept, a_heads, a_sizes, a_atoms, a_negated, a_draftAtom, a_draftNegated, a_plain, a_cursor, a_bound)) (h4 : (∀ j, j < ds → ru_good a da dn j) → ¬ ru_safe a ds da dn → post (-4) (nI n, nI ds, f_skipped, f_plainSize, f_newAtom, f_wayCount, f_wanted, f_met, f_solved, a_givens, a_facts, a_fresh, a_coming, a_kept, a_heads, a_sizes, a_atoms, a_negated, a_draftAtom, a_draftNegated, a_plain, a_cursor, a_bound))
    (hp : (∀ j, j < ds → ru_good a da dn j) → ru_safe a ds da dn → ∀ atoms negated : Nat → Int32, (∀ j, j < 3 * n → atoms j = a_atoms j ∧ negated j = a_negated j) → (∀ k, k < ds → atoms (3 * n + k) = nI (da k) ∧ negated (3 * n + k) = sn_b (dn k)) → post (nI n) (nI (n + 1), 0, f_skipped, f_plainSize, f_newAtom, f_wayCount, f_wanted, f_met, 0, a_givens, a_facts, a_fresh, a_coming, a_kept, (upd a_heads n (nI a)), (upd a_sizes n (nI ds)), atoms, negated, a_draftAtom, a_draftNegated, a_plain, a_cursor, a_bound)) :
    ∀ m i (x : Int32), i ≤ ds → ds - i < m → (∀ j, j < i → ru_good a da dn j) → ru_B (fun _ => False) (fun j => dn j = false) da x i → wX_rule_35 post (nI a) (nI (a / 200)) (nI n) (nI ds) f_skipped f_plainSize f_newAtom f_wayCount f_wanted f_met f_solved a_givens a_facts a_fresh a_coming a_kept a_heads a_sizes a_atoms a_negated a_draftAtom a_draftNegated a_plain a_cursor a_bound m x (nI i) := by
  intro m
  induction m with
  | zero => intro i _ _ h; omega
  | succ m ih =>
    intro i x hi hm hgd hx
    refine pk_le ds i (fun h => ?_) (fun h => ?_)
    · have e : i = ds := by omega
      subst e
      exact sx_vars ha ⟨i + 1, xr_123 hn hd hda hdr hx (h4 hgd) (hp hgd) (i + 1) 0 _ (by omega) (by omega) (ru_a0 _ _ _)⟩
    · obtain ⟨e1, e2⟩ := hdr i h
      have hdi := hda i h
      have hin : vp_in (nI i) 3 := vp_in_nI (by omega) (by omega)
      have more : ru_good a da dn i → ∀ j, j < i + 1 → ru_good a da dn j := by
        intro hgi j hj
        by_cases e : j = i
        · subst e; exact hgi
        · exact hgd j (by omega)
      refine ⟨hin, ?_⟩
      rw [nI_clamp (by omega), e2, sn_b0]
      refine br_c (fun z => ?_) (fun z => ?_)
      · unfold wX_rule_61
        rw [nI_clamp (by omega), e1, e2, sn_b0]
        refine ⟨hin, sx_layer hdi (pk_le (da i / 200) (a / 200) (fun w => ⟨hin, br_t z ⟨hin, sx_vars hdi (nm_e (nm_r (nI_1 i) ?_))⟩⟩) (fun w => h3 ⟨i, h, fun hgi => ?_⟩))⟩
        · exact ih (i + 1) _ (by omega) (by omega) (more ⟨w, fun y => by rw [z] at y; exact nomatch y⟩) (ru_or hx z)
        · have := hgi.1; omega
      · unfold wX_rule_61
        rw [nI_clamp (by omega), e1, e2, sn_b0]
        refine ⟨hin, sx_layer hdi ?_⟩
        rw [ru_lm1 (by omega) (by omega)]
        refine br_c (fun w => ⟨hin, br_f z (nm_r Int32.or_zero (nm_r (nI_1 i) ?_))⟩) (fun w => h3 ⟨i, h, fun hgi => w (hgi.2 (ru_nt z))⟩)
        exact ih (i + 1) _ (by omega) (by omega) (more ⟨by omega, fun _ => w⟩) (ru_sk hx z)
end
end
section
/-! a new rule: the reference, and both -/
section
variable {a_told a_now a_kept a_draft a_draftNot a_head a_size a_bound : Nat → Int32}
theorem yr_189 {post : Int32 → SY → Prop} {n ds : Nat} {da : Nat → Nat} {dn : Nat → Bool} {A0 N0 : Nat → Int32} {f_drafted f_count : Int32} (hn : n < 14) (hd : ds ≤ 3) (hdr : ∀ k, k < ds → a_draft k = nI (da k) ∧ a_draftNot k = sn_b (dn k))
    (hp : ∀ atoms negated : Nat → Int32, (∀ j, j < 3 * n → atoms j = A0 j ∧ negated j = N0 j) → (∀ k, k < ds → atoms (3 * n + k) = nI (da k) ∧ negated (3 * n + k) = sn_b (dn k)) → post (nI n) (0, nI (n + 1), a_told, a_now, a_kept, a_draft, a_draftNot, a_head, a_size, atoms, negated, a_bound)) :
    ∀ m i (atoms negated : Nat → Int32), i ≤ 3 → 3 - i < m → (∀ j, j < 3 * n → atoms j = A0 j ∧ negated j = N0 j) → (∀ k, k < i → k < ds → atoms (3 * n + k) = nI (da k) ∧ negated (3 * n + k) = sn_b (dn k)) → wY_rule_189 post (nI n) f_drafted f_count m (nI i) a_told a_now a_kept a_draft a_draftNot a_head a_size atoms negated a_bound := by
  intro m
  induction m with
  | zero => intro i _ _ _ h; omega
  | succ m ih =>
    intro i atoms negated hi hm h1 h2
    refine pk_le 3 i (fun h => nm_r (nI_1 n) (hp atoms negated h1 (fun k hk => h2 k (by omega) hk))) (fun h => ?_)
    rw [sn_m3, nI_add]
    refine ⟨vp_in_nI (by omega) (by omega), vp_in_nI (by omega) (by omega), nm_e ⟨vp_in_nI (by omega) (by omega), vp_in_nI (by omega) (by omega), nm_e (nm_r (nI_1 i) ?_)⟩⟩
    rw [nI_clamp (show i < 2 ^ 31 by omega), nI_clamp (by omega)]
    refine ih (i + 1) _ _ (by omega) (by omega) (fun j hj => ?_) (fun k hk hkd => ?_)
    · rw [pk_un (by omega), pk_un (by omega)]; exact h1 j hj
    · by_cases e : k = i
      · subst e
        obtain ⟨e1, e2⟩ := hdr k hkd
        rw [pk_us, pk_us, e1, e2, sn_bn]
        exact ⟨rfl, rfl⟩
      · rw [pk_un (by omega), pk_un (by omega)]; exact h2 k (by omega) hkd
end
section
variable {f_count : Int32} {a_told a_now a_kept a_draft a_draftNot a_head a_size a_atoms a_not a_bound : Nat → Int32}
theorem yr_157 {post : Int32 → SY → Prop} {n a ds : Nat} {da : Nat → Nat} {dn : Nat → Bool} {x y : Int32} (hn : n < 14) (hd : ds ≤ 3) (hdr : ∀ k, k < ds → a_draft k = nI (da k) ∧ a_draftNot k = sn_b (dn k))
    (hx : ru_B (fun _ => False) (fun j => dn j = false) da x ds) (hy : ru_B (sr_oc a) (fun j => dn j = true) da y ds) (h4 : ¬ ru_safe a ds da dn → post (-4) (nI ds, f_count, a_told, a_now, a_kept, a_draft, a_draftNot, a_head, a_size, a_atoms, a_not, a_bound))
    (hp : ru_safe a ds da dn → ∀ atoms negated : Nat → Int32, (∀ j, j < 3 * n → atoms j = a_atoms j ∧ negated j = a_not j) → (∀ k, k < ds → atoms (3 * n + k) = nI (da k) ∧ negated (3 * n + k) = sn_b (dn k)) → post (nI n) (0, nI (n + 1), a_told, a_now, a_kept, a_draft, a_draftNot, (upd a_head n (nI a)), (upd a_size n (nI ds)), atoms, negated, a_bound)) :
    wY_rule_157 post (nI a) (nI n) x y (nI ds) f_count a_told a_now a_kept a_draft a_draftNot a_head a_size a_atoms a_not a_bound := by
  unfold wY_rule_157
  rw [ru_end hx hy]
  refine br_c (fun hs => ⟨vp_in_nI hn (by omega), nm_e ⟨vp_in_nI hn (by omega), nm_e ⟨4, ?_⟩⟩⟩) (fun hs => h4 hs)
  rw [nI_clamp (by omega)]
  exact yr_189 hn hd hdr (hp hs) 4 0 a_atoms a_not (by omega) (by omega) (fun j _ => ⟨rfl, rfl⟩) (fun k hk => by omega)
theorem yr_39 {post : Int32 → SY → Prop} {n a ds : Nat} {da : Nat → Nat} {dn : Nat → Bool} (hn : n < 14) (ha : a < 800) (hd : ds ≤ 3) (hda : ∀ k, k < ds → da k < 800) (hdr : ∀ k, k < ds → a_draft k = nI (da k) ∧ a_draftNot k = sn_b (dn k))
    (h3 : (∃ j, j < ds ∧ ¬ ru_good a da dn j) → post (-3) (nI ds, f_count, a_told, a_now, a_kept, a_draft, a_draftNot, a_head, a_size, a_atoms, a_not, a_bound)) (h4 : (∀ j, j < ds → ru_good a da dn j) → ¬ ru_safe a ds da dn → post (-4) (nI ds, f_count, a_told, a_now, a_kept, a_draft, a_draftNot, a_head, a_size, a_atoms, a_not, a_bound))
    (hp : (∀ j, j < ds → ru_good a da dn j) → ru_safe a ds da dn → ∀ atoms negated : Nat → Int32, (∀ j, j < 3 * n → atoms j = a_atoms j ∧ negated j = a_not j) → (∀ k, k < ds → atoms (3 * n + k) = nI (da k) ∧ negated (3 * n + k) = sn_b (dn k)) → post (nI n) (0, nI (n + 1), a_told, a_now, a_kept, a_draft, a_draftNot, (upd a_head n (nI a)), (upd a_size n (nI ds)), atoms, negated, a_bound)) :
    ∀ m i (x y : Int32), i ≤ ds → ds - i < m → (∀ j, j < i → ru_good a da dn j) → ru_B (fun _ => False) (fun j => dn j = false) da x i → ru_B (sr_oc a) (fun j => dn j = true) da y i → wY_rule_39 post (nI a) (nI n) (nI ds) f_count a_told a_now a_kept a_draft a_draftNot a_head a_size a_atoms a_not a_bound m x y (nI i) := by
  intro m
  induction m with
  | zero => intro i _ _ _ h; omega
  | succ m ih =>
    intro i x y hi hm hgd hx hy
    have fin : ds ≤ i → wY_rule_157 post (nI a) (nI n) x y (nI ds) f_count a_told a_now a_kept a_draft a_draftNot a_head a_size a_atoms a_not a_bound := by
      intro h
      have e : i = ds := by omega
      subst e
      exact yr_157 hn hd hdr hx hy (h4 hgd) (hp hgd)
    refine pk_le ds i fin (fun h => pk_le 3 i (fun z => fin (by omega)) (fun h2 => ?_))
    obtain ⟨e1, e2⟩ := hdr i h
    have hdi := hda i h
    have hin : vp_in (nI i) 3 := vp_in_nI (by omega) (by omega)
    have ecl : (nI i).toNatClampNeg = i := nI_clamp (by omega)
    have more : ru_good a da dn i → ∀ j, j < i + 1 → ru_good a da dn j := by
      intro hgi j hj
      by_cases e : j = i
      · subst e; exact hgi
      · exact hgd j (by omega)
    have go : ru_good a da dn i → wY_rule_108 post (wY_rule_39 post (nI a) (nI n) (nI ds) f_count a_told a_now a_kept a_draft a_draftNot a_head a_size a_atoms a_not a_bound m) (nI a) (nI n) x y (nI i) (nI ds) f_count a_told a_now a_kept a_draft a_draftNot a_head a_size a_atoms a_not a_bound := by
      intro hgi
      unfold wY_rule_108
      rw [ecl, e1, e2, sn_b0]
      refine ⟨hin, br_c (fun z => ⟨hin, sy_variables hdi (nm_e (nm_r (nI_1 i) ?_))⟩) (fun z => ⟨hin, sy_variables hdi (nm_e (nm_r (nI_1 i) ?_))⟩)⟩
      · exact ih (i + 1) _ _ (by omega) (by omega) (more hgi) (ru_or hx z) (ru_sk hy (by rw [z]; decide))
      · exact ih (i + 1) _ _ (by omega) (by omega) (more hgi) (ru_sk hx z) (ru_or hy (ru_nt z))
    refine ⟨hin, ?_⟩
    rw [ecl, e1, e2, sn_b0]
    refine sy_layer hdi (sy_layer ha (pk_le (da i / 200) (a / 200) (fun w => ⟨hin, br_c (fun z => go ⟨w, fun y => by rw [z] at y; exact nomatch y⟩) (fun z => ⟨hin, sy_layer hdi (sy_layer ha (pk_eq (da i / 200) (a / 200) (fun e => h3 ⟨i, h, fun hgi => ?_⟩) (fun e => go ⟨w, fun _ => by omega⟩)))⟩)⟩) (fun w => h3 ⟨i, h, fun hgi => ?_⟩)))
    · have := hgi.2 (ru_nt z); omega
    · have := hgi.1; omega
end
theorem i_vc_rule {k : Nat} {u : SX} {v : SY} (I : i_Rel k u v) (hk : k + 5 ≤ 2560) (v1 : Int32) : wpX_rule (fun r u' => wpY_rule (fun r' v' => r' = r ∧ i_Rel (k + 5) u' v') v v1) u v1 := by
  obtain ⟨p, ds, da, dn, G, ok, hds3, hda, hx, hy⟩ := I
  obtain ⟨f_count, f_draftSize, f_skipped, f_plainSize, f_newAtom, f_wayCount, f_wanted, f_met, f_solved, a_givens, a_facts, a_fresh, a_coming, a_kept, a_heads, a_sizes, a_atoms, a_negated, a_draftAtom, a_draftNegated, a_plain, a_cursor, a_bound⟩ := u
  obtain ⟨y_drafted, y_count, y_told, y_now, y_kept, y_draft, y_draftNot, y_head, y_size, y_atoms, y_not, y_bound⟩ := v
  have back : i_Rel (k + 5) (f_count, f_draftSize, f_skipped, f_plainSize, f_newAtom, f_wayCount, f_wanted, f_met, f_solved, a_givens, a_facts, a_fresh, a_coming, a_kept, a_heads, a_sizes, a_atoms, a_negated, a_draftAtom, a_draftNegated, a_plain, a_cursor, a_bound) (y_drafted, y_count, y_told, y_now, y_kept, y_draft, y_draftNot, y_head, y_size, y_atoms, y_not, y_bound) := ⟨p, ds, da, dn, G, ok, hds3, hda, hx, hy⟩
  obtain ⟨hP, hds, hdr, hsk, hgh, hg, hsv⟩ := hx
  obtain ⟨qP, qds, qdr, qt, qg⟩ := hy
  have efc := hP.1
  have qfc := qP.1
  have hn14 := ok.1
  unfold wpX_rule
  rcases sg_ix v1 800 (by omega) with h1 | ⟨a, ha, rfl⟩
  · have yb : ∀ {post : Int32 → SY → Prop}, post (-1) (y_drafted, y_count, y_told, y_now, y_kept, y_draft, y_draftNot, y_head, y_size, y_atoms, y_not, y_bound) → wpY_rule post (y_drafted, y_count, y_told, y_now, y_kept, y_draft, y_draftNot, y_head, y_size, y_atoms, y_not, y_bound) v1 := by
      intro post h
      unfold wpY_rule
      rcases h1 with z | z
      · exact br_t z h
      · have z2 : ¬ v1 ≤ 799 := sg_nle (a := 799) (b := 800) (by omega) z (by omega)
        exact br_c (fun _ => h) (fun _ => br_f z2 h)
    rcases h1 with z | z
    · exact br_t z (yb ⟨rfl, back⟩)
    · have z2 : ¬ v1 ≤ 799 := sg_nle (a := 799) (b := 800) (by omega) z (by omega)
      exact br_c (fun _ => yb ⟨rfl, back⟩) (fun _ => br_f z2 (yb ⟨rfl, back⟩))
  have h0 : ¬ nI a < 0 := nI_pos (by omega)
  have h9 : nI a ≤ 799 := nI_le (b := 799) (by omega) (by omega)
  subst hds qds efc qfc
  refine br_f h0 (br_t h9 (pk_eq (sp_n p) 14 (fun e => ?_) (fun e => sx_layer ha ⟨ds + 1, ?_⟩)))
  · show wpY_rule _ _ _
    unfold wpY_rule
    exact br_f h0 (br_t h9 (pk_le (sp_n p) 13 (fun z => by omega) (fun _ => ⟨rfl, back⟩)))
  · have hn : sp_n p < 14 := by omega
    have y0 : ∀ {post : Int32 → SY → Prop}, (∃ n, wY_rule_39 post (nI a) (nI (sp_n p)) (nI ds) (nI (sp_n p)) y_told y_now y_kept y_draft y_draftNot y_head y_size y_atoms y_not y_bound n 0 (sr_vm a) 0) → wpY_rule post (nI ds, nI (sp_n p), y_told, y_now, y_kept, y_draft, y_draftNot, y_head, y_size, y_atoms, y_not, y_bound) (nI a) := by
      intro post h
      unfold wpY_rule
      exact br_f h0 (br_t h9 (pk_le (sp_n p) 13 (fun _ => sy_variables ha h) (fun z => by omega)))
    refine xr_35 (da := da) (dn := dn) hn ha hds3 hda hdr (fun h3 => ?_) (fun hgd h4 => ?_) (fun hgd hs atoms negated w1 w2 => ?_) (ds + 1) 0 0 (by omega) (by omega) (fun j hj => by omega) (ru_00 _ _)
    · refine y0 ⟨ds + 1, yr_39 (da := da) (dn := dn) hn ha hds3 hda qdr (fun _ => ⟨rfl, back⟩) (fun hgd _ => ?_) (fun hgd _ _ _ _ _ => ?_) (ds + 1) 0 0 _ (by omega) (by omega) (fun j hj => by omega) (ru_00 _ _) (ru_a0 _ _ _)⟩
      · obtain ⟨j, hj, z⟩ := h3; exact absurd (hgd j hj) z
      · obtain ⟨j, hj, z⟩ := h3; exact absurd (hgd j hj) z
    · refine y0 ⟨ds + 1, yr_39 (da := da) (dn := dn) hn ha hds3 hda qdr (fun ⟨j, hj, z⟩ => absurd (hgd j hj) z) (fun _ _ => ⟨rfl, back⟩) (fun _ hs _ _ _ _ => absurd hs h4) (ds + 1) 0 0 _ (by omega) (by omega) (fun j hj => by omega) (ru_00 _ _) (ru_a0 _ _ _)⟩
    · refine y0 ⟨ds + 1, yr_39 (da := da) (dn := dn) hn ha hds3 hda qdr (fun ⟨j, hj, z⟩ => absurd (hgd j hj) z) (fun _ h4 => absurd hs h4) (fun _ _ atoms2 negated2 w3 w4 => ⟨rfl, ?_⟩) (ds + 1) 0 0 _ (by omega) (by omega) (fun j hj => by omega) (ru_00 _ _) (ru_a0 _ _ _)⟩
      exact ⟨sp_add p a ds da dn, 0, da, dn, G, sp_add_ok ok hn ha hds3 hda hgd hs, by omega, fun j hj => absurd hj (Nat.not_lt_zero j), ⟨rp_add ok hP w1 w2, rfl, fun j hj => absurd hj (Nat.not_lt_zero j), hsk, hgh, hg, Or.inl rfl⟩, ⟨rp_add ok qP w3 w4, rfl, fun j hj => absurd hj (Nat.not_lt_zero j), qt, qg⟩⟩
end
section
/-! dropping a rule -/
def sp_del (p : SrP) (r0 : Nat) : SrP := (sp_n p - 1, fun r => if r < r0 then sp_h p r else sp_h p (r + 1), fun r => if r < r0 then sp_s p r else sp_s p (r + 1), fun j => if j < 3 * r0 then sp_a p j else sp_a p (j + 3), fun j => if j < 3 * r0 then sp_g p j else sp_g p (j + 3))
theorem sp_del_lo (p : SrP) {r0 r : Nat} (h : r < r0) : sp_h (sp_del p r0) r = sp_h p r ∧ sp_s (sp_del p r0) r = sp_s p r ∧ ∀ k, k < 3 → sp_a (sp_del p r0) (3 * r + k) = sp_a p (3 * r + k) ∧ sp_g (sp_del p r0) (3 * r + k) = sp_g p (3 * r + k) :=
  ⟨if_pos h, if_pos h, fun k hk => ⟨if_pos (by omega), if_pos (by omega)⟩⟩
theorem sp_del_hi (p : SrP) {r0 r : Nat} (h : ¬ r < r0) : sp_h (sp_del p r0) r = sp_h p (r + 1) ∧ sp_s (sp_del p r0) r = sp_s p (r + 1) ∧ ∀ k, k < 3 → sp_a (sp_del p r0) (3 * r + k) = sp_a p (3 * (r + 1) + k) ∧ sp_g (sp_del p r0) (3 * r + k) = sp_g p (3 * (r + 1) + k) := by
  refine ⟨if_neg h, if_neg h, fun k hk => ?_⟩
  rw [show 3 * (r + 1) + k = 3 * r + k + 3 by omega]
  exact ⟨if_neg (by omega), if_neg (by omega)⟩
theorem sp_del_ok {p : SrP} {r0 : Nat} (ok : sp_ok p) (h : r0 < sp_n p) : sp_ok (sp_del p r0) := by
  have h14 := ok.1
  have en : sp_n (sp_del p r0) = sp_n p - 1 := rfl
  refine ⟨by omega, fun r hr => ?_⟩
  by_cases e : r < r0
  · obtain ⟨e1, e2, e3⟩ := sp_del_lo p e
    have hk := ok.2 r (by omega)
    have h3 := hk.2.1
    exact sp_rk_c e1 e2 (fun k hk => e3 k (by omega)) hk
  · obtain ⟨e1, e2, e3⟩ := sp_del_hi p e
    have hk := ok.2 (r + 1) (by omega)
    have h3 := hk.2.1
    exact sp_rk_c e1 e2 (fun k hk => e3 k (by omega)) hk
def sd_1 (r0 e : Nat) (H H' : Nat → Int32) : Prop := ∀ q, H' q = if r0 ≤ q ∧ q < e then H (q + 1) else H q
def sd_3 (r0 m : Nat) (A A' : Nat → Int32) : Prop := ∀ j, A' j = if 3 * r0 ≤ j ∧ j < m then A (j + 3) else A j
def sd_b (r0 m : Nat) (A A' : Nat → Int32) : Prop := ∀ j, A' j = if 3 * r0 ≤ j ∧ j < m then vp_nar .boolean (A (j + 3)) else A j
theorem sd_1s {r0 e : Nat} {H H' : Nat → Int32} (h : sd_1 r0 e H H') (he : r0 ≤ e) : sd_1 r0 (e + 1) H (upd H' e (H' (e + 1))) := by
  intro q
  by_cases z : q = e
  · subst z
    rw [pk_us, if_pos (by omega), h, if_neg (by omega)]
  · rw [pk_un z, h]
    by_cases w : r0 ≤ q ∧ q < e
    · rw [if_pos w, if_pos (by omega)]
    · rw [if_neg w, if_neg (by omega)]
theorem sd_3s {r0 m : Nat} {A A' : Nat → Int32} (h : sd_3 r0 m A A') (he : 3 * r0 ≤ m) : sd_3 r0 (m + 1) A (upd A' m (A' (m + 3))) := by
  intro q
  by_cases z : q = m
  · subst z
    rw [pk_us, if_pos (by omega), h, if_neg (by omega)]
  · rw [pk_un z, h]
    by_cases w : 3 * r0 ≤ q ∧ q < m
    · rw [if_pos w, if_pos (by omega)]
    · rw [if_neg w, if_neg (by omega)]
theorem sd_bs {r0 m : Nat} {A A' : Nat → Int32} (h : sd_b r0 m A A') (he : 3 * r0 ≤ m) : sd_b r0 (m + 1) A (upd A' m (vp_nar .boolean (A' (m + 3)))) := by
  intro q
  by_cases z : q = m
  · subst z
    rw [pk_us, if_pos (by omega), h, if_neg (by omega)]
  · rw [pk_un z, h]
    by_cases w : 3 * r0 ≤ q ∧ q < m
    · rw [if_pos w, if_pos (by omega)]
    · rw [if_neg w, if_neg (by omega)]
theorem sd_10 (r0 : Nat) (H : Nat → Int32) : sd_1 r0 r0 H H := fun q => (if_neg (by omega)).symm
theorem sd_30 (r0 : Nat) (H : Nat → Int32) : sd_3 r0 (3 * r0) H H := fun q => (if_neg (by omega)).symm
theorem sd_b0 (r0 : Nat) (H : Nat → Int32) : sd_b r0 (3 * r0) H H := fun q => (if_neg (by omega)).symm
theorem rp_del {p : SrP} {r0 : Nat} {fc : Int32} {H S A N H' S' A' N' : Nat → Int32} (ok : sp_ok p) (hr0 : r0 < sp_n p) (h : rp_ p fc H S A N) (h1 : sd_1 r0 (sp_n p - 1) H H') (h2 : sd_1 r0 (sp_n p - 1) S S') (h3 : sd_3 r0 (3 * (sp_n p - 1)) A A') (h4 : sd_b r0 (3 * (sp_n p - 1)) N N') : rp_ (sp_del p r0) (nI (sp_n p - 1)) H' S' A' N' := by
  refine ⟨rfl, fun r hr => ?_⟩
  have hr' : r < sp_n p - 1 := hr
  by_cases e : r < r0
  · obtain ⟨e1, e2, e3⟩ := sp_del_lo p e
    obtain ⟨g1, g2, g3⟩ := h.2 r (by omega)
    have hk3 := (ok.2 r (by omega)).2.1
    rw [e1, e2, h1 r, h2 r, if_neg (by omega), if_neg (by omega)]
    refine ⟨g1, g2, fun k hk => ?_⟩
    rw [(e3 k (by omega)).1, (e3 k (by omega)).2, h3, h4, if_neg (by omega), if_neg (by omega)]
    exact g3 k hk
  · obtain ⟨e1, e2, e3⟩ := sp_del_hi p e
    obtain ⟨g1, g2, g3⟩ := h.2 (r + 1) (by omega)
    have hk3 := (ok.2 (r + 1) (by omega)).2.1
    rw [e1, e2, h1 r, h2 r, if_pos (by omega), if_pos (by omega)]
    refine ⟨g1, g2, fun k hk => ?_⟩
    rw [(e3 k (by omega)).1, (e3 k (by omega)).2, h3, h4, if_pos (by omega), if_pos (by omega), show 3 * r + k + 3 = 3 * (r + 1) + k by omega, (g3 k hk).1, (g3 k hk).2, sn_bn]
    exact ⟨rfl, rfl⟩
section
variable {f_draftSize f_skipped f_plainSize f_newAtom f_wayCount f_wanted f_met f_solved : Int32} {a_givens a_facts a_fresh a_coming a_kept : Nat → Int64} {a_draftAtom a_draftNegated a_plain a_cursor a_bound : Nat → Int32}
theorem xd_52 {a_heads a_sizes : Nat → Int32} {post : Int32 → SX → Prop} {J : Int32 → (Nat → Int64) → (Nat → Int64) → (Nat → Int64) → (Nat → Int64) → (Nat → Int64) → (Nat → Int32) → (Nat → Int32) → (Nat → Int32) → (Nat → Int32) → (Nat → Int32) → (Nat → Int32) → (Nat → Int32) → (Nat → Int32) → (Nat → Int32) → Prop} {f_count : Int32} {r0 e : Nat} {A N : Nat → Int32} (he : r0 ≤ e) (he13 : e < 13)
    (hp : ∀ atoms negated : Nat → Int32, sd_3 r0 (3 * (e + 1)) A atoms → sd_b r0 (3 * (e + 1)) N negated → J (nI (e + 2)) a_givens a_facts a_fresh a_coming a_kept a_heads a_sizes atoms negated a_draftAtom a_draftNegated a_plain a_cursor a_bound) :
    ∀ n i (atoms negated : Nat → Int32), i ≤ 3 → 3 - i < n → sd_3 r0 (3 * e + i) A atoms → sd_b r0 (3 * e + i) N negated → wX_drop_52 post J (nI (e + 1)) f_count f_draftSize f_skipped f_plainSize f_newAtom f_wayCount f_wanted f_met f_solved n (nI i) a_givens a_facts a_fresh a_coming a_kept a_heads a_sizes atoms negated a_draftAtom a_draftNegated a_plain a_cursor a_bound := by
  intro n
  induction n with
  | zero => intro i _ _ _ h; omega
  | succ n ih =>
    intro i atoms negated hi hn h1 h2
    refine pk_le 3 i (fun h => nm_r (nI_1 (e + 1)) ?_) (fun h => ?_)
    · have ei : i = 3 := by omega
      subst ei
      exact hp atoms negated h1 h2
    · have ea : (3 * nI (e + 1) + nI i : Int32) = nI (3 * e + i + 3) := by rw [sn_m3, nI_add]; exact congrArg nI (by omega)
      have eb : (3 * nI (e + 1) - 3 + nI i : Int32) = nI (3 * e + i) := by rw [sn_m3, sn_s3 (by omega), nI_add]; exact congrArg nI (by omega)
      have hle : 3 * r0 ≤ 3 * e + i := by omega
      rw [ea, eb, nI_clamp (by omega), nI_clamp (by omega)]
      refine ⟨vp_in_nI (by omega) (by omega), vp_in_nI (by omega) (by omega), nm_e ⟨vp_in_nI (by omega) (by omega), vp_in_nI (by omega) (by omega), nm_e (nm_r (nI_1 i) (ih (i + 1) _ _ (by omega) (by omega) (sd_3s h1 hle) (sd_bs h2 hle)))⟩⟩
theorem xd_14 {post : Int32 → SX → Prop} {r0 m : Nat} {H S A N : Nat → Int32} (hm : m ≤ 14) (hr0 : r0 < m)
    (hp : ∀ heads sizes atoms negated : Nat → Int32, sd_1 r0 (m - 1) H heads → sd_1 r0 (m - 1) S sizes → sd_3 r0 (3 * (m - 1)) A atoms → sd_b r0 (3 * (m - 1)) N negated → post (nI (m - 1)) (nI (m - 1), f_draftSize, f_skipped, f_plainSize, f_newAtom, f_wayCount, f_wanted, f_met, 0, a_givens, a_facts, a_fresh, a_coming, a_kept, heads, sizes, atoms, negated, a_draftAtom, a_draftNegated, a_plain, a_cursor, a_bound)) :
    ∀ n e (heads sizes atoms negated : Nat → Int32), r0 ≤ e → e < m → m - e < n → sd_1 r0 e H heads → sd_1 r0 e S sizes → sd_3 r0 (3 * e) A atoms → sd_b r0 (3 * e) N negated → wX_drop_14 post (nI m) f_draftSize f_skipped f_plainSize f_newAtom f_wayCount f_wanted f_met f_solved n (nI (e + 1)) a_givens a_facts a_fresh a_coming a_kept heads sizes atoms negated a_draftAtom a_draftNegated a_plain a_cursor a_bound := by
  intro n
  induction n with
  | zero => intro e _ _ _ _ _ _ h; omega
  | succ n ih =>
    intro e heads sizes atoms negated he hem hn h1 h2 h3 h4
    refine pk_le m (e + 1) (fun h => nm_r (sn_s1 (by omega)) ?_) (fun h => ?_)
    · have ee : e = m - 1 := by omega
      subst ee
      exact hp heads sizes atoms negated h1 h2 h3 h4
    · rw [nI_pred, nI_clamp (by omega), nI_clamp (by omega)]
      refine ⟨vp_in_nI (by omega) (by omega), vp_in_nI (by omega) (by omega), nm_e ⟨vp_in_nI (by omega) (by omega), vp_in_nI (by omega) (by omega), nm_e ⟨4, ?_⟩⟩⟩
      exact xd_52 he (by omega) (fun atoms' negated' k1 k2 => ih (e + 1) _ _ atoms' negated' (by omega) (by omega) (by omega) (sd_1s h1 he) (sd_1s h2 he) k1 k2) 4 0 atoms negated (by omega) (by omega) h3 h4
end
section
variable {f_drafted : Int32} {a_told a_now a_kept a_draft a_draftNot a_bound : Nat → Int32}
theorem yd_58 {a_head a_size : Nat → Int32} {post : Int32 → SY → Prop} {J : Int32 → (Nat → Int32) → (Nat → Int32) → (Nat → Int32) → (Nat → Int32) → (Nat → Int32) → (Nat → Int32) → (Nat → Int32) → (Nat → Int32) → (Nat → Int32) → (Nat → Int32) → Prop} {f_count : Int32} {r0 e : Nat} {A N : Nat → Int32} (he : r0 ≤ e) (he13 : e < 13)
    (hp : ∀ atoms negated : Nat → Int32, sd_3 r0 (3 * (e + 1)) A atoms → sd_b r0 (3 * (e + 1)) N negated → J (nI (e + 1)) a_told a_now a_kept a_draft a_draftNot a_head a_size atoms negated a_bound) :
    ∀ n i (atoms negated : Nat → Int32), i ≤ 3 → 3 - i < n → sd_3 r0 (3 * e + i) A atoms → sd_b r0 (3 * e + i) N negated → wY_drop_58 post J (nI e) f_drafted f_count n (nI i) a_told a_now a_kept a_draft a_draftNot a_head a_size atoms negated a_bound := by
  intro n
  induction n with
  | zero => intro i _ _ _ h; omega
  | succ n ih =>
    intro i atoms negated hi hn h1 h2
    refine pk_le 3 i (fun h => nm_r (nI_1 e) ?_) (fun h => ?_)
    · have ei : i = 3 := by omega
      subst ei
      exact hp atoms negated h1 h2
    · have ea : (3 * nI e + 3 + nI i : Int32) = nI (3 * e + i + 3) := by rw [sn_m3, sn_a3, nI_add]; exact congrArg nI (by omega)
      have eb : (3 * nI e + nI i : Int32) = nI (3 * e + i) := by rw [sn_m3, nI_add]
      have hle : 3 * r0 ≤ 3 * e + i := by omega
      rw [ea, eb, nI_clamp (by omega), nI_clamp (by omega)]
      refine ⟨vp_in_nI (by omega) (by omega), vp_in_nI (by omega) (by omega), nm_e ⟨vp_in_nI (by omega) (by omega), vp_in_nI (by omega) (by omega), nm_e (nm_r (nI_1 i) (ih (i + 1) _ _ (by omega) (by omega) (sd_3s h1 hle) (sd_bs h2 hle)))⟩⟩
theorem yd_12 {post : Int32 → SY → Prop} {r0 m : Nat} {H S A N : Nat → Int32} (hm : m ≤ 14) (hr0 : r0 < m)
    (hp : ∀ heads sizes atoms negated : Nat → Int32, sd_1 r0 (m - 1) H heads → sd_1 r0 (m - 1) S sizes → sd_3 r0 (3 * (m - 1)) A atoms → sd_b r0 (3 * (m - 1)) N negated → post (nI (m - 1)) (f_drafted, nI (m - 1), a_told, a_now, a_kept, a_draft, a_draftNot, heads, sizes, atoms, negated, a_bound)) :
    ∀ n e (heads sizes atoms negated : Nat → Int32), r0 ≤ e → e < m → m - e < n → sd_1 r0 e H heads → sd_1 r0 e S sizes → sd_3 r0 (3 * e) A atoms → sd_b r0 (3 * e) N negated → wY_drop_12 post f_drafted (nI m) n (nI e) a_told a_now a_kept a_draft a_draftNot heads sizes atoms negated a_bound := by
  intro n
  induction n with
  | zero => intro e _ _ _ _ _ _ h; omega
  | succ n ih =>
    intro e heads sizes atoms negated he hem hn h1 h2 h3 h4
    have fin : m - 1 ≤ e → wY_drop_119 post f_drafted (nI m) a_told a_now a_kept a_draft a_draftNot heads sizes atoms negated a_bound := by
      intro h
      have ee : e = m - 1 := by omega
      subst ee
      unfold wY_drop_119
      exact nm_r (sn_s1 (by omega)) (hp heads sizes atoms negated h1 h2 h3 h4)
    refine pk_le (m - 1) e fin (fun h => pk_le 13 e (fun z => by omega) (fun h13 => ?_)) (sn_s1 (by omega))
    rw [nI_1 e, nI_clamp (by omega), nI_clamp (by omega)]
    refine ⟨vp_in_nI (by omega) (by omega), vp_in_nI (by omega) (by omega), nm_e ⟨vp_in_nI (by omega) (by omega), vp_in_nI (by omega) (by omega), nm_e ⟨4, ?_⟩⟩⟩
    exact yd_58 he (by omega) (fun atoms' negated' k1 k2 => ih (e + 1) _ _ atoms' negated' (by omega) (by omega) (by omega) (sd_1s h1 he) (sd_1s h2 he) k1 k2) 4 0 atoms negated (by omega) (by omega) h3 h4
end
theorem i_vc_drop {k : Nat} {u : SX} {v : SY} (I : i_Rel k u v) (hk : k + 5 ≤ 2560) (v1 : Int32) : wpX_drop (fun r u' => wpY_drop (fun r' v' => r' = r ∧ i_Rel (k + 5) u' v') v v1) u v1 := by
  obtain ⟨p, ds, da, dn, G, ok, hds3, hda, hx, hy⟩ := I
  obtain ⟨f_count, f_draftSize, f_skipped, f_plainSize, f_newAtom, f_wayCount, f_wanted, f_met, f_solved, a_givens, a_facts, a_fresh, a_coming, a_kept, a_heads, a_sizes, a_atoms, a_negated, a_draftAtom, a_draftNegated, a_plain, a_cursor, a_bound⟩ := u
  obtain ⟨y_drafted, y_count, y_told, y_now, y_kept, y_draft, y_draftNot, y_head, y_size, y_atoms, y_not, y_bound⟩ := v
  have back : i_Rel (k + 5) (f_count, f_draftSize, f_skipped, f_plainSize, f_newAtom, f_wayCount, f_wanted, f_met, f_solved, a_givens, a_facts, a_fresh, a_coming, a_kept, a_heads, a_sizes, a_atoms, a_negated, a_draftAtom, a_draftNegated, a_plain, a_cursor, a_bound) (y_drafted, y_count, y_told, y_now, y_kept, y_draft, y_draftNot, y_head, y_size, y_atoms, y_not, y_bound) := ⟨p, ds, da, dn, G, ok, hds3, hda, hx, hy⟩
  obtain ⟨hP, hds, hdr, hsk, hgh, hg, hsv⟩ := hx
  obtain ⟨qP, qds, qdr, qt, qg⟩ := hy
  have efc := hP.1
  have qfc := qP.1
  have hn14 := ok.1
  unfold wpX_drop
  rcases sg_ix v1 (sp_n p) (by omega) with h1 | ⟨r, hr, rfl⟩
  · refine sg_rule_f efc h1 (br_t rfl ?_)
    show wpY_drop _ _ _
    unfold wpY_drop
    exact sg_brl_f qfc h1 (br_f sn_10 ⟨rfl, back⟩)
  subst efc qfc
  refine sg_rule_t hn14 rfl hr (br_f sn_10 (nm_r (nI_1 r) ⟨sp_n p + 1, ?_⟩))
  refine xd_14 hn14 hr (fun heads sizes atoms negated w1 w2 w3 w4 => ?_) (sp_n p + 1) r a_heads a_sizes a_atoms a_negated (by omega) hr (by omega) (sd_10 r _) (sd_10 r _) (sd_30 r _) (sd_b0 r _)
  show wpY_drop _ _ _
  unfold wpY_drop
  refine sg_brl_t hn14 rfl hr (br_t rfl ⟨sp_n p + 1, ?_⟩)
  refine yd_12 hn14 hr (fun heads' sizes' atoms' negated' z1 z2 z3 z4 => ⟨rfl, ?_⟩) (sp_n p + 1) r y_head y_size y_atoms y_not (by omega) hr (by omega) (sd_10 r _) (sd_10 r _) (sd_30 r _) (sd_b0 r _)
  exact ⟨sp_del p r, ds, da, dn, G, sp_del_ok ok hr, hds3, hda, ⟨rp_del ok hr hP w1 w2 w3 w4, hds, hdr, hsk, hgh, hg, Or.inl rfl⟩, ⟨rp_del ok hr qP z1 z2 z3 z4, qds, qdr, qt, qg⟩⟩
end
section
/-! questions about what holds -/
section
variable {f_count f_draftSize f_skipped f_plainSize f_newAtom f_wayCount f_wanted f_met f_solved : Int32} {a_givens a_facts a_fresh a_coming a_kept : Nat → Int64} {a_heads a_sizes a_atoms a_negated a_draftAtom a_draftNegated a_plain a_cursor a_bound : Nat → Int32}
theorem sx_refresh {post : SX → Prop} {p : SrP} {G : Nat → Prop} (ok : sp_ok p) (hP : rp_ p f_count a_heads a_sizes a_atoms a_negated) (hsk : f_skipped = -1) (hgh : xs_hi a_givens) (hg : xs_ a_givens = G) (hsv : f_solved = 0 ∨ (f_solved = 1 ∧ xs_hi a_facts ∧ xs_ a_facts = sp_M p (-1) G 4))
    (hp : ∀ (ps na wc wn met : Int32) (facts fresh coming : Nat → Int64) (plain cursor bound : Nat → Int32), xs_hi facts → xs_ facts = sp_M p (-1) G 4 → post (f_count, f_draftSize, f_skipped, ps, na, wc, wn, met, 1, a_givens, facts, fresh, coming, a_kept, a_heads, a_sizes, a_atoms, a_negated, a_draftAtom, a_draftNegated, plain, cursor, bound)) : wpX_refresh post (f_count, f_draftSize, f_skipped, f_plainSize, f_newAtom, f_wayCount, f_wanted, f_met, f_solved, a_givens, a_facts, a_fresh, a_coming, a_kept, a_heads, a_sizes, a_atoms, a_negated, a_draftAtom, a_draftNegated, a_plain, a_cursor, a_bound) := by
  unfold wpX_refresh
  rcases hsv with h | ⟨h, h1, h2⟩
  · refine br_t h (sx_solve ok hP hgh (fun ps na wc wn met facts fresh coming plain cursor bound k1 k2 => ?_))
    rw [hsk, hg] at k2
    exact hp ps na wc wn met facts fresh coming plain cursor bound k1 k2
  · subst h
    exact br_f sn_10 (hp _ _ _ _ _ _ _ _ _ _ _ h1 h2)
end
theorem sq_ix {G A : Nat → Prop} {W : Nat → Int64} {t : Nat → Int32} {r f : Nat} (hr : r < 8) (hf : f < 36) (hW : xs_ W = A) (ht : ys_ t = A) : ¬ t (36 * r + f) = 0 ↔ sr_lb (W r) f = true := by
  rw [← xs_at hr hf, hW, ← ht]
  exact ⟨fun z => ⟨by omega, z⟩, fun z => z.2⟩
theorem i_vc_holds {k : Nat} {u : SX} {v : SY} (I : i_Rel k u v) (hk : k + 5 ≤ 2560) (v1 : Int32) (v2 : Int32) (v3 : Int32) : wpX_holds (fun r u' => wpY_holds (fun r' v' => r' = r ∧ i_Rel (k + 5) u' v') v v1 v2 v3) u v1 v2 v3 := by
  obtain ⟨p, ds, da, dn, G, ok, hds3, hda, hx, hy⟩ := I
  obtain ⟨f_count, f_draftSize, f_skipped, f_plainSize, f_newAtom, f_wayCount, f_wanted, f_met, f_solved, a_givens, a_facts, a_fresh, a_coming, a_kept, a_heads, a_sizes, a_atoms, a_negated, a_draftAtom, a_draftNegated, a_plain, a_cursor, a_bound⟩ := u
  obtain ⟨y_drafted, y_count, y_told, y_now, y_kept, y_draft, y_draftNot, y_head, y_size, y_atoms, y_not, y_bound⟩ := v
  have back : i_Rel (k + 5) (f_count, f_draftSize, f_skipped, f_plainSize, f_newAtom, f_wayCount, f_wanted, f_met, f_solved, a_givens, a_facts, a_fresh, a_coming, a_kept, a_heads, a_sizes, a_atoms, a_negated, a_draftAtom, a_draftNegated, a_plain, a_cursor, a_bound) (y_drafted, y_count, y_told, y_now, y_kept, y_draft, y_draftNot, y_head, y_size, y_atoms, y_not, y_bound) := ⟨p, ds, da, dn, G, ok, hds3, hda, hx, hy⟩
  obtain ⟨hP, hds, hdr, hsk, hgh, hg, hsv⟩ := hx
  obtain ⟨qP, qds, qdr, qt, qg⟩ := hy
  unfold wpX_holds
  rcases sg_ix v1 8 (by omega) with h1 | ⟨r, hr, rfl⟩
  · refine sg_rel_f h1 (br_t rfl ?_)
    show wpY_holds _ _ _ _ _
    unfold wpY_holds
    exact sg_bad_f h1 (br_f sn_10 ⟨rfl, back⟩)
  rcases sg_ix v2 6 (by omega) with h2 | ⟨x, hx, rfl⟩
  · refine sg_rel_t hr (br_f sn_10 (sg_thg_f h2 (br_t rfl ?_)))
    show wpY_holds _ _ _ _ _
    unfold wpY_holds
    exact sg_bad_t hr (br_t rfl (sg_bth_f h2 (br_f sn_10 ⟨rfl, back⟩)))
  rcases sg_ix v3 6 (by omega) with h3 | ⟨y, hy, rfl⟩
  · refine sg_rel_t hr (br_f sn_10 (sg_thg_t hx (br_f sn_10 (sg_thg_f h3 (br_t rfl ?_)))))
    show wpY_holds _ _ _ _ _
    unfold wpY_holds
    exact sg_bad_t hr (br_t rfl (sg_bth_t hx (br_t rfl (sg_bth_f h3 (br_f sn_10 ⟨rfl, back⟩)))))
  refine sg_rel_t hr (br_f sn_10 (sg_thg_t hx (br_f sn_10 (sg_thg_t hy (br_f sn_10 (sx_refresh ok hP hsk hgh hg hsv (fun ps na wc wn met facts fresh coming plain cursor bound k1 k2 => ⟨vp_in_nI hr (by omega), ?_⟩)))))))
  rw [nI_clamp (show r < 2 ^ 31 by omega), sn_m6, nI_add]
  refine sx_bitAt (by omega) ?_
  show wpY_holds _ _ _ _ _
  unfold wpY_holds
  refine sg_bad_t hr (br_t rfl (sg_bth_t hx (br_t rfl (sg_bth_t hy (br_t rfl (sy_work ok qP qt (fun now bound' n1 n2 => ?_)))))))
  rw [qg] at n2
  rw [sn_m36, sn_m6, nI_add, nI_add, Nat.add_assoc, nI_clamp (by omega)]
  have e := sq_ix (G := G) hr (show 6 * x + y < 36 by omega) k2 n2
  have back2 : i_Rel (k + 5) (f_count, f_draftSize, f_skipped, ps, na, wc, wn, met, 1, a_givens, facts, fresh, coming, a_kept, a_heads, a_sizes, a_atoms, a_negated, a_draftAtom, a_draftNegated, plain, cursor, bound) (y_drafted, y_count, y_told, now, y_kept, y_draft, y_draftNot, y_head, y_size, y_atoms, y_not, bound') := ⟨p, ds, da, dn, G, ok, hds3, hda, ⟨hP, hds, hdr, hsk, hgh, hg, Or.inr ⟨rfl, k1, k2⟩⟩, ⟨qP, qds, qdr, qt, qg⟩⟩
  refine ⟨vp_in_nI (by omega) (by omega), br_c (fun z => ⟨?_, back2⟩) (fun z => ⟨?_, back2⟩)⟩
  · cases hb : sr_lb (facts r) (6 * x + y) with
    | false => rfl
    | true => exact absurd z (e.mpr hb)
  · rw [e.mp z]; rfl
section
variable {f_drafted f_count : Int32} {a_told a_now a_kept a_draft a_draftNot a_head a_size a_atoms a_not a_bound : Nat → Int32}
theorem yq_size {post : Int32 → SY → Prop} {r : Nat} (hr : r < 8)
    (hp : post (nI (sr_cn (fun f => ys_ a_now (36 * r + f)) 36)) (f_drafted, f_count, a_told, a_now, a_kept, a_draft, a_draftNot, a_head, a_size, a_atoms, a_not, a_bound)) :
    ∀ n i, i ≤ 36 → 36 - i < n → wY_size_19 post (nI r) f_drafted f_count a_told a_now a_kept a_draft a_draftNot a_head a_size a_atoms a_not a_bound n (nI (sr_cn (fun f => ys_ a_now (36 * r + f)) i)) (nI i) := by
  intro n
  induction n with
  | zero => intro i _ h; omega
  | succ n ih =>
    intro i hi hn
    refine pk_le 36 i (fun h => ?_) (fun h => ?_)
    · have e : i = 36 := by omega
      subst e; exact hp
    · rw [sn_m36, nI_add, nI_clamp (by omega)]
      refine ⟨vp_in_nI (by omega) (by omega), br_c (fun z => nm_r (nI_1 i) ?_) (fun z => nm_r (e' := nI (sr_cn (fun f => ys_ a_now (36 * r + f)) (i + 1))) ?_ (nm_r (nI_1 i) (ih (i + 1) (by omega) (by omega))))⟩
      · have e : sr_cn (fun f => ys_ a_now (36 * r + f)) i = sr_cn (fun f => ys_ a_now (36 * r + f)) (i + 1) := by
          simp only [sr_cn]
          rw [sr_b_f (fun y => y.2 z)]
          rfl
        rw [e]
        exact ih (i + 1) (by omega) (by omega)
      · simp only [sr_cn]
        rw [sr_b_t ⟨by omega, z⟩, nI_1]
theorem yq_fan {post : Int32 → SY → Prop} {r x : Nat} (hr : r < 8) (hx : x < 6)
    (hp : post (nI (sr_cn (fun f => ys_ a_now (36 * r + (6 * x + f))) 6)) (f_drafted, f_count, a_told, a_now, a_kept, a_draft, a_draftNot, a_head, a_size, a_atoms, a_not, a_bound)) :
    ∀ n i, i ≤ 6 → 6 - i < n → wY_fan_31 post (nI r) (nI x) f_drafted f_count a_told a_now a_kept a_draft a_draftNot a_head a_size a_atoms a_not a_bound n (nI (sr_cn (fun f => ys_ a_now (36 * r + (6 * x + f))) i)) (nI i) := by
  intro n
  induction n with
  | zero => intro i _ h; omega
  | succ n ih =>
    intro i hi hn
    refine pk_le 6 i (fun h => ?_) (fun h => ?_)
    · have e : i = 6 := by omega
      subst e; exact hp
    · rw [sn_m36, sn_m6, nI_add, nI_add, Nat.add_assoc, nI_clamp (by omega)]
      refine ⟨vp_in_nI (by omega) (by omega), br_c (fun z => nm_r (nI_1 i) ?_) (fun z => nm_r (e' := nI (sr_cn (fun f => ys_ a_now (36 * r + (6 * x + f))) (i + 1))) ?_ (nm_r (nI_1 i) (ih (i + 1) (by omega) (by omega))))⟩
      · have e : sr_cn (fun f => ys_ a_now (36 * r + (6 * x + f))) i = sr_cn (fun f => ys_ a_now (36 * r + (6 * x + f))) (i + 1) := by
          simp only [sr_cn]
          rw [sr_b_f (fun y => y.2 z)]
          rfl
        rw [e]
        exact ih (i + 1) (by omega) (by omega)
      · simp only [sr_cn]
        rw [sr_b_t ⟨by omega, z⟩, nI_1]
theorem yq_within {post : Int32 → SY → Prop} {r s : Nat} (hr : r < 8) (hs : s < 8)
    (h1 : (∀ f, f < 36 → ys_ a_now (36 * r + f) → ys_ a_now (36 * s + f)) → post 1 (f_drafted, f_count, a_told, a_now, a_kept, a_draft, a_draftNot, a_head, a_size, a_atoms, a_not, a_bound)) (h0 : ¬ (∀ f, f < 36 → ys_ a_now (36 * r + f) → ys_ a_now (36 * s + f)) → post 0 (f_drafted, f_count, a_told, a_now, a_kept, a_draft, a_draftNot, a_head, a_size, a_atoms, a_not, a_bound)) :
    ∀ n i, i ≤ 36 → 36 - i < n → (∀ f, f < i → ys_ a_now (36 * r + f) → ys_ a_now (36 * s + f)) → wY_within_25 post (nI r) (nI s) f_drafted f_count a_told a_now a_kept a_draft a_draftNot a_head a_size a_atoms a_not a_bound n (nI i) := by
  intro n
  induction n with
  | zero => intro i _ h; omega
  | succ n ih =>
    intro i hi hn hf
    refine pk_le 36 i (fun h => h1 (fun f hf' => hf f (by omega))) (fun h => ?_)
    have more : (ys_ a_now (36 * r + i) → ys_ a_now (36 * s + i)) → ∀ f, f < i + 1 → ys_ a_now (36 * r + f) → ys_ a_now (36 * s + f) := by
      intro z f hf'
      by_cases e : f = i
      · subst e; exact z
      · exact hf f (by omega)
    rw [sn_m36, nI_add, nI_clamp (by omega), sn_m36, nI_add, nI_clamp (by omega)]
    refine ⟨vp_in_nI (by omega) (by omega), br_c (fun z => nm_r (nI_1 i) (ih (i + 1) (by omega) (by omega) (more fun y => absurd z y.2))) (fun z => ⟨vp_in_nI (by omega) (by omega), br_c (fun w => h0 fun hall => (hall i h ⟨by omega, z⟩).2 w) (fun w => nm_r (nI_1 i) (ih (i + 1) (by omega) (by omega) (more fun _ => ⟨by omega, w⟩)))⟩)⟩
end
theorem i_vc_size {k : Nat} {u : SX} {v : SY} (I : i_Rel k u v) (hk : k + 5 ≤ 2560) (v1 : Int32) : wpX_size (fun r u' => wpY_size (fun r' v' => r' = r ∧ i_Rel (k + 5) u' v') v v1) u v1 := by
  obtain ⟨p, ds, da, dn, G, ok, hds3, hda, hx, hy⟩ := I
  obtain ⟨f_count, f_draftSize, f_skipped, f_plainSize, f_newAtom, f_wayCount, f_wanted, f_met, f_solved, a_givens, a_facts, a_fresh, a_coming, a_kept, a_heads, a_sizes, a_atoms, a_negated, a_draftAtom, a_draftNegated, a_plain, a_cursor, a_bound⟩ := u
  obtain ⟨y_drafted, y_count, y_told, y_now, y_kept, y_draft, y_draftNot, y_head, y_size, y_atoms, y_not, y_bound⟩ := v
  have back : i_Rel (k + 5) (f_count, f_draftSize, f_skipped, f_plainSize, f_newAtom, f_wayCount, f_wanted, f_met, f_solved, a_givens, a_facts, a_fresh, a_coming, a_kept, a_heads, a_sizes, a_atoms, a_negated, a_draftAtom, a_draftNegated, a_plain, a_cursor, a_bound) (y_drafted, y_count, y_told, y_now, y_kept, y_draft, y_draftNot, y_head, y_size, y_atoms, y_not, y_bound) := ⟨p, ds, da, dn, G, ok, hds3, hda, hx, hy⟩
  obtain ⟨hP, hds, hdr, hsk, hgh, hg, hsv⟩ := hx
  obtain ⟨qP, qds, qdr, qt, qg⟩ := hy
  unfold wpX_size
  rcases sg_ix v1 8 (by omega) with h1 | ⟨r, hr, rfl⟩
  · refine sg_rel_f h1 (br_t rfl ?_)
    show wpY_size _ _ _
    unfold wpY_size
    exact sg_bad_f h1 (br_f sn_10 ⟨rfl, back⟩)
  refine sg_rel_t hr (br_f sn_10 (sx_refresh ok hP hsk hgh hg hsv (fun ps na wc wn met facts fresh coming plain cursor bound k1 k2 => ⟨vp_in_nI hr (by omega), ?_⟩)))
  rw [nI_clamp (show r < 2 ^ 31 by omega)]
  refine sg_ones_xs hr ?_
  show wpY_size _ _ _
  unfold wpY_size
  refine sg_bad_t hr (br_t rfl (sy_work ok qP qt (fun now bound' n1 n2 => ⟨37, yq_size hr ⟨?_, ?_⟩ 37 0 (by omega) (by omega)⟩)))
  · rw [n2, qg, k2]
  · exact ⟨p, ds, da, dn, G, ok, hds3, hda, ⟨hP, hds, hdr, hsk, hgh, hg, Or.inr ⟨rfl, k1, k2⟩⟩, ⟨qP, qds, qdr, qt, qg⟩⟩
theorem sq_fan {W : Nat → Int64} {A : Nat → Prop} {r x : Nat} (hr : r < 8) (hx : x < 6) (hW : xs_ W = A) : sr_cn (fun f => sr_lb ((((W r).toUInt64 >>> ((6 * nI x).toInt64.toUInt64 &&& Int64.toUInt64 63)).toInt64) &&& 63) f = true) 36 = sr_cn (fun f => A (36 * r + (6 * x + f))) 6 := by
  have h63 : ∀ j, j < 64 → sr_lb 63 j = decide (j < 6) := by decide +kernel
  have e : ∀ f, f < 36 → (sr_lb ((((W r).toUInt64 >>> ((6 * nI x).toInt64.toUInt64 &&& Int64.toUInt64 63)).toInt64) &&& 63) f = true ↔ (f < 6 ∧ sr_lb (W r) (6 * x + f) = true)) := by
    intro f hf
    rw [sw_and, h63 f (by omega), sn_m6, sw_shr _ (by omega), Bool.and_eq_true, decide_eq_true_eq]
    exact ⟨fun z => ⟨z.2, z.1⟩, fun z => ⟨z.2, z.1⟩⟩
  rw [sr_cn_eq (Q := fun f => f < 6 ∧ sr_lb (W r) (6 * x + f) = true) e, show (36 : Nat) = 6 + 30 from rfl, sr_cn_add, sr_cn_0 (P := fun k => 6 + k < 6 ∧ sr_lb (W r) (6 * x + (6 + k)) = true) (fun k _ z => by omega), Nat.add_zero]
  apply sr_cn_eq
  intro f hf
  rw [← hW, xs_at hr (by omega)]
  exact ⟨fun z => z.2, fun z => ⟨hf, z⟩⟩
theorem i_vc_fan {k : Nat} {u : SX} {v : SY} (I : i_Rel k u v) (hk : k + 5 ≤ 2560) (v1 : Int32) (v2 : Int32) : wpX_fan (fun r u' => wpY_fan (fun r' v' => r' = r ∧ i_Rel (k + 5) u' v') v v1 v2) u v1 v2 := by
  obtain ⟨p, ds, da, dn, G, ok, hds3, hda, hx, hy⟩ := I
  obtain ⟨f_count, f_draftSize, f_skipped, f_plainSize, f_newAtom, f_wayCount, f_wanted, f_met, f_solved, a_givens, a_facts, a_fresh, a_coming, a_kept, a_heads, a_sizes, a_atoms, a_negated, a_draftAtom, a_draftNegated, a_plain, a_cursor, a_bound⟩ := u
  obtain ⟨y_drafted, y_count, y_told, y_now, y_kept, y_draft, y_draftNot, y_head, y_size, y_atoms, y_not, y_bound⟩ := v
  have back : i_Rel (k + 5) (f_count, f_draftSize, f_skipped, f_plainSize, f_newAtom, f_wayCount, f_wanted, f_met, f_solved, a_givens, a_facts, a_fresh, a_coming, a_kept, a_heads, a_sizes, a_atoms, a_negated, a_draftAtom, a_draftNegated, a_plain, a_cursor, a_bound) (y_drafted, y_count, y_told, y_now, y_kept, y_draft, y_draftNot, y_head, y_size, y_atoms, y_not, y_bound) := ⟨p, ds, da, dn, G, ok, hds3, hda, hx, hy⟩
  obtain ⟨hP, hds, hdr, hsk, hgh, hg, hsv⟩ := hx
  obtain ⟨qP, qds, qdr, qt, qg⟩ := hy
  unfold wpX_fan
  rcases sg_ix v1 8 (by omega) with h1 | ⟨r, hr, rfl⟩
  · refine sg_rel_f h1 (br_t rfl ?_)
    show wpY_fan _ _ _ _
    unfold wpY_fan
    exact sg_bad_f h1 (br_f sn_10 ⟨rfl, back⟩)
  rcases sg_ix v2 6 (by omega) with h2 | ⟨x, hx, rfl⟩
  · refine sg_rel_t hr (br_f sn_10 (sg_thg_f h2 (br_t rfl ?_)))
    show wpY_fan _ _ _ _
    unfold wpY_fan
    exact sg_bad_t hr (br_t rfl (sg_bth_f h2 (br_f sn_10 ⟨rfl, back⟩)))
  refine sg_rel_t hr (br_f sn_10 (sg_thg_t hx (br_f sn_10 (sx_refresh ok hP hsk hgh hg hsv (fun ps na wc wn met facts fresh coming plain cursor bound k1 k2 => ⟨vp_in_nI hr (by omega), ?_⟩)))))
  rw [nI_clamp (show r < 2 ^ 31 by omega)]
  refine sg_ones ?_
  rw [sq_fan hr hx k2]
  show wpY_fan _ _ _ _
  unfold wpY_fan
  refine sg_bad_t hr (br_t rfl (sg_bth_t hx (br_t rfl (sy_work ok qP qt (fun now bound' n1 n2 => ⟨7, yq_fan hr hx ⟨?_, ?_⟩ 7 0 (by omega) (by omega)⟩)))))
  · rw [n2, qg]
  · exact ⟨p, ds, da, dn, G, ok, hds3, hda, ⟨hP, hds, hdr, hsk, hgh, hg, Or.inr ⟨rfl, k1, k2⟩⟩, ⟨qP, qds, qdr, qt, qg⟩⟩
theorem sq_within {W : Nat → Int64} {A : Nat → Prop} {r s : Nat} (hr : r < 8) (hs : s < 8) (hh : xs_hi W) (hW : xs_ W = A) : (W r &&& (W s ^^^ (-1))) = 0 ↔ ∀ f, f < 36 → A (36 * r + f) → A (36 * s + f) := by
  rw [sw_zero, ← hW]
  constructor
  · intro z f hf y
    rw [xs_at hr hf] at y
    rw [xs_at hs hf]
    have := z f (by omega)
    rw [sw_and, sw_not _ (by omega), y] at this
    simpa using this
  · intro z j hj
    rw [sw_and, sw_not _ hj]
    cases hb : sr_lb (W r) j with
    | false => rfl
    | true =>
      have h36 := hh r hr j hb
      have := z j h36 ((xs_at hr h36).mpr hb)
      rw [xs_at hs h36] at this
      rw [this]; rfl
theorem i_vc_within {k : Nat} {u : SX} {v : SY} (I : i_Rel k u v) (hk : k + 5 ≤ 2560) (v1 : Int32) (v2 : Int32) : wpX_within (fun r u' => wpY_within (fun r' v' => r' = r ∧ i_Rel (k + 5) u' v') v v1 v2) u v1 v2 := by
  obtain ⟨p, ds, da, dn, G, ok, hds3, hda, hx, hy⟩ := I
  obtain ⟨f_count, f_draftSize, f_skipped, f_plainSize, f_newAtom, f_wayCount, f_wanted, f_met, f_solved, a_givens, a_facts, a_fresh, a_coming, a_kept, a_heads, a_sizes, a_atoms, a_negated, a_draftAtom, a_draftNegated, a_plain, a_cursor, a_bound⟩ := u
  obtain ⟨y_drafted, y_count, y_told, y_now, y_kept, y_draft, y_draftNot, y_head, y_size, y_atoms, y_not, y_bound⟩ := v
  have back : i_Rel (k + 5) (f_count, f_draftSize, f_skipped, f_plainSize, f_newAtom, f_wayCount, f_wanted, f_met, f_solved, a_givens, a_facts, a_fresh, a_coming, a_kept, a_heads, a_sizes, a_atoms, a_negated, a_draftAtom, a_draftNegated, a_plain, a_cursor, a_bound) (y_drafted, y_count, y_told, y_now, y_kept, y_draft, y_draftNot, y_head, y_size, y_atoms, y_not, y_bound) := ⟨p, ds, da, dn, G, ok, hds3, hda, hx, hy⟩
  obtain ⟨hP, hds, hdr, hsk, hgh, hg, hsv⟩ := hx
  obtain ⟨qP, qds, qdr, qt, qg⟩ := hy
  unfold wpX_within
  rcases sg_ix v1 8 (by omega) with h1 | ⟨r, hr, rfl⟩
  · refine sg_rel_f h1 (br_t rfl ?_)
    show wpY_within _ _ _ _
    unfold wpY_within
    exact sg_bad_f h1 (br_f sn_10 ⟨rfl, back⟩)
  rcases sg_ix v2 8 (by omega) with h2 | ⟨s, hs, rfl⟩
  · refine sg_rel_t hr (br_f sn_10 (sg_rel_f h2 (br_t rfl ?_)))
    show wpY_within _ _ _ _
    unfold wpY_within
    exact sg_bad_t hr (br_t rfl (sg_bad_f h2 (br_f sn_10 ⟨rfl, back⟩)))
  refine sg_rel_t hr (br_f sn_10 (sg_rel_t hs (br_f sn_10 (sx_refresh ok hP hsk hgh hg hsv (fun ps na wc wn met facts fresh coming plain cursor bound k1 k2 => ⟨vp_in_nI hr (by omega), vp_in_nI hs (by omega), ?_⟩)))))
  rw [nI_clamp (show r < 2 ^ 31 by omega), nI_clamp (show s < 2 ^ 31 by omega), sq_within hr hs k1 k2]
  have back2 : ∀ now bound' : Nat → Int32, i_Rel (k + 5) (f_count, f_draftSize, f_skipped, ps, na, wc, wn, met, 1, a_givens, facts, fresh, coming, a_kept, a_heads, a_sizes, a_atoms, a_negated, a_draftAtom, a_draftNegated, plain, cursor, bound) (y_drafted, y_count, y_told, now, y_kept, y_draft, y_draftNot, y_head, y_size, y_atoms, y_not, bound') := fun _ _ => ⟨p, ds, da, dn, G, ok, hds3, hda, ⟨hP, hds, hdr, hsk, hgh, hg, Or.inr ⟨rfl, k1, k2⟩⟩, ⟨qP, qds, qdr, qt, qg⟩⟩
  refine br_c (fun z => ?_) (fun z => ?_)
  · show wpY_within _ _ _ _
    unfold wpY_within
    refine sg_bad_t hr (br_t rfl (sg_bad_t hs (br_t rfl (sy_work ok qP qt (fun now bound' n1 n2 => ⟨37, yq_within hr hs (fun _ => ⟨rfl, back2 _ _⟩) (fun y => absurd ?_ y) 37 0 (by omega) (by omega) (fun f hf => by omega)⟩)))))
    rw [n2, qg]; exact z
  · show wpY_within _ _ _ _
    unfold wpY_within
    refine sg_bad_t hr (br_t rfl (sg_bad_t hs (br_t rfl (sy_work ok qP qt (fun now bound' n1 n2 => ⟨37, yq_within hr hs (fun y => absurd ?_ z) (fun _ => ⟨rfl, back2 _ _⟩) 37 0 (by omega) (by omega) (fun f hf => by omega)⟩)))))
    rw [n2, qg] at y; exact y
noncomputable def sq_nx (A : Nat → Prop) (c : Int32) : Nat → Nat → Int32
  | 0, _ => -2
  | d + 1, i => @ite Int32 (nI i ≤ c ∨ ¬ A i) (Classical.propDecidable _) (sq_nx A c d (i + 1)) (nI i)
theorem sq_nx_t {A : Nat → Prop} {c : Int32} {d i : Nat} (h : nI i ≤ c ∨ ¬ A i) : sq_nx A c (d + 1) i = sq_nx A c d (i + 1) := if_pos h
theorem sq_nx_f {A : Nat → Prop} {c : Int32} {d i : Nat} (h : ¬ (nI i ≤ c ∨ ¬ A i)) : sq_nx A c (d + 1) i = nI i := if_neg h
section
variable {f_count f_draftSize f_skipped f_plainSize f_newAtom f_wayCount f_wanted f_met f_solved : Int32} {a_givens a_facts a_fresh a_coming a_kept : Nat → Int64} {a_heads a_sizes a_atoms a_negated a_draftAtom a_draftNegated a_plain a_cursor a_bound : Nat → Int32}
theorem sq_xnext {r : Nat} {c1 c2 : Int32} {A : Nat → Prop} {post : Int32 → SX → Prop} (hr : r < 8) (hc : ∀ f, f < 36 → (nI f ≤ c1 ↔ nI f ≤ c2)) (hW : xs_ a_facts = A) :
    ∀ d i, i + d = 36 → post (sq_nx (fun f => A (36 * r + f)) c2 d i) (f_count, f_draftSize, f_skipped, f_plainSize, f_newAtom, f_wayCount, f_wanted, f_met, f_solved, a_givens, a_facts, a_fresh, a_coming, a_kept, a_heads, a_sizes, a_atoms, a_negated, a_draftAtom, a_draftNegated, a_plain, a_cursor, a_bound) → wX_next_27 post (nI r) c1 f_count f_draftSize f_skipped f_plainSize f_newAtom f_wayCount f_wanted f_met f_solved a_givens a_facts a_fresh a_coming a_kept a_heads a_sizes a_atoms a_negated a_draftAtom a_draftNegated a_plain a_cursor a_bound (d + 1) (nI i) := by
  intro d
  induction d with
  | zero =>
    intro i hi hp
    exact pk_le 36 i (fun _ => hp) (fun z => by omega)
  | succ d ih =>
    intro i hi hp
    have hcl : (nI r).toNatClampNeg = r := nI_clamp (by omega)
    have hin : vp_in (nI r) 8 := vp_in_nI hr (by omega)
    refine pk_le 36 i (fun z => by omega) (fun _ => br_c (fun h1 => ?_) (fun h1 => ⟨hin, ?_⟩))
    · rw [sq_nx_t (Or.inl ((hc i (by omega)).mp h1))] at hp
      exact nm_r (nI_1 i) (ih (i + 1) (by omega) hp)
    · rw [hcl]
      refine sx_bitAt (by omega) ?_
      rw [sn_b1, ← xs_at hr (by omega), hW]
      refine br_c (fun hb => ?_) (fun hb => ?_)
      · rw [sq_nx_f (fun z => z.elim (fun y => h1 ((hc i (by omega)).mpr y)) (fun y => y hb))] at hp
        exact hp
      · rw [sq_nx_t (A := fun f => A (36 * r + f)) (Or.inr hb)] at hp
        exact nm_r (nI_1 i) (ih (i + 1) (by omega) hp)
end
section
variable {f_drafted f_count : Int32} {a_told a_now a_kept a_draft a_draftNot a_head a_size a_atoms a_not a_bound : Nat → Int32}
theorem sq_ynext {r : Nat} {c : Int32} {A : Nat → Prop} {post : Int32 → SY → Prop} (hr : r < 8) (hW : ys_ a_now = A) :
    ∀ d i, i + d = 36 → post (sq_nx (fun f => A (36 * r + f)) c d i) (f_drafted, f_count, a_told, a_now, a_kept, a_draft, a_draftNot, a_head, a_size, a_atoms, a_not, a_bound) → wY_next_17 post (nI r) c f_drafted f_count a_told a_now a_kept a_draft a_draftNot a_head a_size a_atoms a_not a_bound (d + 1) (nI i) := by
  intro d
  induction d with
  | zero =>
    intro i hi hp
    exact pk_le 36 i (fun _ => hp) (fun z => by omega)
  | succ d ih =>
    intro i hi hp
    have hiny : vp_in (nI (36 * r + i)) 288 := vp_in_nI (by omega) (by omega)
    have ey : (36 * nI r + nI i : Int32) = nI (36 * r + i) := by rw [sn_m36, nI_add]
    have ecl : (nI (36 * r + i)).toNatClampNeg = 36 * r + i := nI_clamp (by omega)
    refine pk_le 36 i (fun z => by omega) (fun _ => br_c (fun h1 => ?_) (fun h1 => ?_))
    · rw [sq_nx_t (Or.inl h1)] at hp
      exact nm_r (nI_1 i) (ih (i + 1) (by omega) hp)
    · rw [ey, ecl]
      refine ⟨hiny, br_c (fun hb => ?_) (fun hb => ?_)⟩
      · rw [sq_nx_t (Or.inr (fun z => by rw [← hW] at z; exact z.2 hb))] at hp
        exact nm_r (nI_1 i) (ih (i + 1) (by omega) hp)
      · rw [sq_nx_f (fun z => z.elim h1 (fun y => y (by rw [← hW]; exact ⟨by omega, hb⟩)))] at hp
        exact hp
end
theorem i_vc_next {k : Nat} {u : SX} {v : SY} (I : i_Rel k u v) (hk : k + 5 ≤ 2560) (v1 : Int32) (v2 : Int32) : wpX_next (fun r u' => wpY_next (fun r' v' => r' = r ∧ i_Rel (k + 5) u' v') v v1 v2) u v1 v2 := by
  obtain ⟨p, ds, da, dn, G, ok, hds3, hda, hx, hy⟩ := I
  obtain ⟨f_count, f_draftSize, f_skipped, f_plainSize, f_newAtom, f_wayCount, f_wanted, f_met, f_solved, a_givens, a_facts, a_fresh, a_coming, a_kept, a_heads, a_sizes, a_atoms, a_negated, a_draftAtom, a_draftNegated, a_plain, a_cursor, a_bound⟩ := u
  obtain ⟨y_drafted, y_count, y_told, y_now, y_kept, y_draft, y_draftNot, y_head, y_size, y_atoms, y_not, y_bound⟩ := v
  have back : i_Rel (k + 5) (f_count, f_draftSize, f_skipped, f_plainSize, f_newAtom, f_wayCount, f_wanted, f_met, f_solved, a_givens, a_facts, a_fresh, a_coming, a_kept, a_heads, a_sizes, a_atoms, a_negated, a_draftAtom, a_draftNegated, a_plain, a_cursor, a_bound) (y_drafted, y_count, y_told, y_now, y_kept, y_draft, y_draftNot, y_head, y_size, y_atoms, y_not, y_bound) := ⟨p, ds, da, dn, G, ok, hds3, hda, hx, hy⟩
  obtain ⟨hP, hds, hdr, hsk, hgh, hg, hsv⟩ := hx
  obtain ⟨qP, qds, qdr, qt, qg⟩ := hy
  unfold wpX_next
  rcases sg_ix v1 8 (by omega) with h1 | ⟨r, hr, rfl⟩
  · refine sg_rel_f h1 (br_t rfl ?_)
    show wpY_next _ _ _ _
    unfold wpY_next
    exact sg_bad_f h1 (br_f sn_10 ⟨rfl, back⟩)
  refine sg_rel_t hr (br_f sn_10 (sx_refresh ok hP hsk hgh hg hsv (fun ps na wc wn met facts fresh coming plain cursor bound k1 k2 => ?_)))
  have hm1 : (-1 : Int32).toInt = -1 := by decide
  have fin : wpY_next (fun r' v' => r' = sq_nx (fun f => sp_M p (-1) G 4 (36 * r + f)) v2 36 0 ∧ i_Rel (k + 5) (f_count, f_draftSize, f_skipped, ps, na, wc, wn, met, 1, a_givens, facts, fresh, coming, a_kept, a_heads, a_sizes, a_atoms, a_negated, a_draftAtom, a_draftNegated, plain, cursor, bound) v') (y_drafted, y_count, y_told, y_now, y_kept, y_draft, y_draftNot, y_head, y_size, y_atoms, y_not, y_bound) (nI r) v2 := by
    unfold wpY_next
    refine sg_bad_t hr (br_t rfl (sy_work ok qP qt (fun now bound' n1 n2 => ⟨37, sq_ynext hr n2 36 0 (by omega) ⟨by rw [qg], ?_⟩⟩)))
    exact ⟨p, ds, da, dn, G, ok, hds3, hda, ⟨hP, hds, hdr, hsk, hgh, hg, Or.inr ⟨rfl, k1, k2⟩⟩, ⟨qP, qds, qdr, qt, qg⟩⟩
  refine br_c (fun z => ⟨37, sq_xnext hr (fun _ _ => Iff.rfl) k2 36 0 (by omega) fin⟩) (fun z => ⟨37, sq_xnext hr (fun f hf => ?_) k2 36 0 (by omega) fin⟩)
  rw [Int32.le_iff_toInt_le, hm1] at z
  rw [Int32.le_iff_toInt_le, Int32.le_iff_toInt_le, hm1, nI_toInt (by omega)]
  omega
end
section
/-! ways, supports, weight -/
section
variable {f_drafted f_count : Int32} {a_told a_now a_kept a_draft a_draftNot a_head a_size a_atoms a_not : Nat → Int32}
theorem yt_l {post : Int32 → SY → Prop} {p : SrP} {r : Nat} {x w : Int32} {Q : Nat → Prop} (ok : sp_ok p) (hP : rp_ p f_count a_head a_size a_atoms a_not) (hrn : r < sp_n p) (hx : ∀ v, v < 4 → (bt x v = true ↔ sp_S p r v)) (hy : ys_b a_now)
    (hQ : ∀ c, Q c ↔ (sp_B p (ys_ a_now) (ys_ a_now) r c ∧ (w < 0 ∨ nI (sr_fc (sp_t p r c) (sp_h p r)) = w)))
    (hp : ∀ bound : Nat → Int32, post (nI (sr_cn Q (sp_N p r))) (f_drafted, f_count, a_told, a_now, a_kept, a_draft, a_draftNot, a_head, a_size, a_atoms, a_not, bound)) :
    ∀ n i (bound : Nat → Int32), i ≤ sp_N p r → sp_N p r - i < n → wY_tally_24 post (nI r) w x (nI (sp_N p r)) n (nI (sr_cn Q i)) (nI i) f_drafted f_count a_told a_now a_kept a_draft a_draftNot a_head a_size a_atoms a_not bound := by
  have hN : sp_N p r ≤ 1296 := sr_N4 _
  have hr := ok.2 r hrn
  have hr14 : r < 14 := Nat.lt_of_lt_of_le hrn ok.1
  have h8 := hr.1
  intro n
  induction n with
  | zero => intro i _ _ h; omega
  | succ n ih =>
    intro i bound hi hn
    refine pk_le (sp_N p r) i (fun h => ?_) (fun h => ?_)
    · have e : i = sp_N p r := by omega
      subst e
      exact hp bound
    · refine sy_bind (by omega) hx (fun b hb => ?_)
      have yes : Q i → nI (sr_cn Q i) + 1 = nI (sr_cn Q (i + 1)) := by
        intro z
        simp only [sr_cn]
        rw [sr_b_t z, nI_1]
      have no : ¬ Q i → sr_cn Q i = sr_cn Q (i + 1) := by
        intro z
        simp only [sr_cn]
        rw [sr_b_f z]
        rfl
      have nx := ih (i + 1) b (by omega) (by omega)
      refine sy_body (c := i) ok hP hrn hb hy (fun hB => br_f sn_10 (br_c (fun hw => ?_) (fun hw => ⟨vp_in_nI hr14 (by omega), ?_⟩))) (fun hB => br_t rfl (nm_r (nI_1 i) ?_))
      · exact nm_r (yes ((hQ i).mpr ⟨hB, Or.inl hw⟩)) (nm_r (nI_1 i) nx)
      · rw [nI_clamp (by omega), (hP.2 r hrn).1]
        refine sy_place hb h8 ⟨sn_z36, ?_⟩
        have hfc := sr_fc_lt (θ := sr_th (sp_S p r) i) (sp_h p r) (fun v _ => sr_th_lt _ _ _)
        have e : sr_pl (sr_th (sp_S p r) i) (sp_h p r) % 36 = sr_fc (sp_t p r i) (sp_h p r) := by
          show (36 * (sp_h p r / 100) + sr_fc (sr_th (sp_S p r) i) (sp_h p r)) % 36 = sr_fc (sr_th (sp_S p r) i) (sp_h p r)
          omega
        rw [sn_r36 (by unfold sr_pl; omega), e]
        refine br_c (fun hq => nm_r (yes ((hQ i).mpr ⟨hB, Or.inr hq⟩)) (nm_r (nI_1 i) nx)) (fun hq => nm_r (nI_1 i) ?_)
        rw [no (fun z => ((hQ i).mp z).2.elim hw hq)]
        exact nx
      · rw [no (fun z => hB ((hQ i).mp z).1)]
        exact nx
theorem yt_tally {a_bound : Nat → Int32} {post : Int32 → SY → Prop} {p : SrP} {r : Nat} {w : Int32} (ok : sp_ok p) (hP : rp_ p f_count a_head a_size a_atoms a_not) (hrn : r < sp_n p) (ht : ys_b a_told)
    (hp : ∀ now bound : Nat → Int32, post (nI (sr_cn (fun c => sp_B p (sp_M p (-1) (ys_ a_told) 4) (sp_M p (-1) (ys_ a_told) 4) r c ∧ (w < 0 ∨ nI (sr_fc (sp_t p r c) (sp_h p r)) = w)) (sp_N p r))) (f_drafted, f_count, a_told, now, a_kept, a_draft, a_draftNot, a_head, a_size, a_atoms, a_not, bound)) : wpY_tally post (f_drafted, f_count, a_told, a_now, a_kept, a_draft, a_draftNot, a_head, a_size, a_atoms, a_not, a_bound) (nI r) w := by
  unfold wpY_tally
  refine sy_work ok hP ht (fun now bound n1 n2 => sy_occ ok hP hrn (fun x hx => sy_num hx ⟨sp_N p r + 1, ?_⟩))
  exact yt_l ok hP hrn hx n1 (fun c => by rw [n2]) (fun b => hp now b) (sp_N p r + 1) 0 bound (by omega) (by omega)
end
theorem i_vc_ways {k : Nat} {u : SX} {v : SY} (I : i_Rel k u v) (hk : k + 5 ≤ 2560) (v1 : Int32) : wpX_ways (fun r u' => wpY_ways (fun r' v' => r' = r ∧ i_Rel (k + 5) u' v') v v1) u v1 := by
  obtain ⟨p, ds, da, dn, G, ok, hds3, hda, hx, hy⟩ := I
  obtain ⟨f_count, f_draftSize, f_skipped, f_plainSize, f_newAtom, f_wayCount, f_wanted, f_met, f_solved, a_givens, a_facts, a_fresh, a_coming, a_kept, a_heads, a_sizes, a_atoms, a_negated, a_draftAtom, a_draftNegated, a_plain, a_cursor, a_bound⟩ := u
  obtain ⟨y_drafted, y_count, y_told, y_now, y_kept, y_draft, y_draftNot, y_head, y_size, y_atoms, y_not, y_bound⟩ := v
  have back : i_Rel (k + 5) (f_count, f_draftSize, f_skipped, f_plainSize, f_newAtom, f_wayCount, f_wanted, f_met, f_solved, a_givens, a_facts, a_fresh, a_coming, a_kept, a_heads, a_sizes, a_atoms, a_negated, a_draftAtom, a_draftNegated, a_plain, a_cursor, a_bound) (y_drafted, y_count, y_told, y_now, y_kept, y_draft, y_draftNot, y_head, y_size, y_atoms, y_not, y_bound) := ⟨p, ds, da, dn, G, ok, hds3, hda, hx, hy⟩
  obtain ⟨hP, hds, hdr, hsk, hgh, hg, hsv⟩ := hx
  obtain ⟨qP, qds, qdr, qt, qg⟩ := hy
  have efc := hP.1
  have qfc := qP.1
  have hn14 := ok.1
  unfold wpX_ways
  rcases sg_ix v1 (sp_n p) (by omega) with h1 | ⟨r, hr, rfl⟩
  · refine sg_rule_f efc h1 (br_t rfl ?_)
    show wpY_ways _ _ _
    unfold wpY_ways
    exact sg_brl_f qfc h1 (br_f sn_10 ⟨rfl, back⟩)
  refine sg_rule_t hn14 efc hr (br_f sn_10 (sx_refresh ok hP hsk hgh hg hsv (fun ps na wc wn met facts fresh coming plain cursor bound k1 k2 => ?_)))
  refine sx_join0 ok hP hr (fun ps' wc' met' coming' plain' cursor' bound' j1 j2 j3 => ?_)
  show wpY_ways _ _ _
  unfold wpY_ways
  refine sg_brl_t hn14 qfc hr (br_t rfl (yt_tally ok qP hr qt (fun now bound2 => ⟨?_, ?_⟩)))
  · rw [j1]
    refine congrArg nI (sr_cn_eq fun c _ => ?_)
    rw [sx_JB_m1 (by omega) (ok.2 r hr).2.1, k2, qg]
    exact ⟨fun z => z.1, fun z => ⟨z, Or.inl (by decide)⟩⟩
  · exact ⟨p, ds, da, dn, G, ok, hds3, hda, ⟨hP, hds, hdr, hsk, hgh, hg, Or.inr ⟨rfl, k1, k2⟩⟩, ⟨qP, qds, qdr, qt, qg⟩⟩
theorem i_vc_supports {k : Nat} {u : SX} {v : SY} (I : i_Rel k u v) (hk : k + 5 ≤ 2560) (v1 : Int32) (v2 : Int32) : wpX_supports (fun r u' => wpY_supports (fun r' v' => r' = r ∧ i_Rel (k + 5) u' v') v v1 v2) u v1 v2 := by
  obtain ⟨p, ds, da, dn, G, ok, hds3, hda, hx, hy⟩ := I
  obtain ⟨f_count, f_draftSize, f_skipped, f_plainSize, f_newAtom, f_wayCount, f_wanted, f_met, f_solved, a_givens, a_facts, a_fresh, a_coming, a_kept, a_heads, a_sizes, a_atoms, a_negated, a_draftAtom, a_draftNegated, a_plain, a_cursor, a_bound⟩ := u
  obtain ⟨y_drafted, y_count, y_told, y_now, y_kept, y_draft, y_draftNot, y_head, y_size, y_atoms, y_not, y_bound⟩ := v
  have back : i_Rel (k + 5) (f_count, f_draftSize, f_skipped, f_plainSize, f_newAtom, f_wayCount, f_wanted, f_met, f_solved, a_givens, a_facts, a_fresh, a_coming, a_kept, a_heads, a_sizes, a_atoms, a_negated, a_draftAtom, a_draftNegated, a_plain, a_cursor, a_bound) (y_drafted, y_count, y_told, y_now, y_kept, y_draft, y_draftNot, y_head, y_size, y_atoms, y_not, y_bound) := ⟨p, ds, da, dn, G, ok, hds3, hda, hx, hy⟩
  obtain ⟨hP, hds, hdr, hsk, hgh, hg, hsv⟩ := hx
  obtain ⟨qP, qds, qdr, qt, qg⟩ := hy
  have efc := hP.1
  have qfc := qP.1
  have hn14 := ok.1
  unfold wpX_supports
  rcases sg_ix v1 (sp_n p) (by omega) with h1 | ⟨r, hr, rfl⟩
  · refine sg_rule_f efc h1 (br_t rfl ?_)
    show wpY_supports _ _ _ _
    unfold wpY_supports
    exact sg_brl_f qfc h1 (br_f sn_10 ⟨rfl, back⟩)
  rcases sg_ix v2 36 (by omega) with h2 | ⟨f, hf, rfl⟩
  · have yb : ∀ {post : Int32 → SY → Prop}, post (-2) (y_drafted, y_count, y_told, y_now, y_kept, y_draft, y_draftNot, y_head, y_size, y_atoms, y_not, y_bound) → wpY_supports post (y_drafted, y_count, y_told, y_now, y_kept, y_draft, y_draftNot, y_head, y_size, y_atoms, y_not, y_bound) (nI r) v2 := by
      intro post h
      unfold wpY_supports
      refine sg_brl_t hn14 qfc hr (br_t rfl ?_)
      rcases h2 with z | z
      · exact br_t z h
      · have z2 : ¬ v2 ≤ 35 := sg_nle (a := 35) (b := 36) (by omega) z (by omega)
        exact br_c (fun _ => h) (fun _ => br_f z2 h)
    refine sg_rule_t hn14 efc hr (br_f sn_10 ?_)
    rcases h2 with z | z
    · exact br_t z (yb ⟨rfl, back⟩)
    · have z2 : ¬ v2 < 36 := Int32.not_lt.mpr z
      exact br_c (fun _ => yb ⟨rfl, back⟩) (fun _ => br_f z2 (yb ⟨rfl, back⟩))
  have h0 : ¬ nI f < 0 := nI_pos (by omega)
  have h36 : nI f < 36 := nI_lt (b := 36) hf (by omega)
  have h35 : nI f ≤ 35 := nI_le (b := 35) (by omega) (by omega)
  refine sg_rule_t hn14 efc hr (br_f sn_10 (br_f h0 (br_t h36 (sx_refresh ok hP hsk hgh hg hsv (fun ps na wc wn met facts fresh coming plain cursor bound k1 k2 => ?_)))))
  refine sx_join0 ok hP hr (fun ps' wc' met' coming' plain' cursor' bound' j1 j2 j3 => ?_)
  have hiff : ¬ met' = 0 ↔ 0 < sr_cn (fun c => sp_B p (sp_M p (-1) (ys_ y_told) 4) (sp_M p (-1) (ys_ y_told) 4) r c ∧ (nI f < 0 ∨ nI (sr_fc (sp_t p r c) (sp_h p r)) = nI f)) (sp_N p r) := by
    rw [j2, sr_cn_pos]
    constructor
    · intro z
      rcases z with z | ⟨c, hc, hJ, he⟩
      · exact absurd rfl z
      · rw [sx_JB_m1 (by omega) (ok.2 r hr).2.1, k2] at hJ
        rw [qg]
        exact ⟨c, hc, hJ, Or.inr he⟩
    · intro ⟨c, hc, hB, he⟩
      refine Or.inr ⟨c, hc, ?_, he.resolve_left h0⟩
      rw [sx_JB_m1 (by omega) (ok.2 r hr).2.1, k2]
      rw [qg] at hB
      exact hB
  have hlt : sr_cn (fun c => sp_B p (sp_M p (-1) (ys_ y_told) 4) (sp_M p (-1) (ys_ y_told) 4) r c ∧ (nI f < 0 ∨ nI (sr_fc (sp_t p r c) (sp_h p r)) = nI f)) (sp_N p r) ≤ 1296 := Nat.le_trans (sr_cn_le _ _) (sr_N4 _)
  have back2 : ∀ now bound2 : Nat → Int32, i_Rel (k + 5) (f_count, f_draftSize, f_skipped, ps', (-1), wc', nI f, met', 1, a_givens, facts, fresh, coming', a_kept, a_heads, a_sizes, a_atoms, a_negated, a_draftAtom, a_draftNegated, plain', cursor', bound') (y_drafted, y_count, y_told, now, y_kept, y_draft, y_draftNot, y_head, y_size, y_atoms, y_not, bound2) := fun _ _ => ⟨p, ds, da, dn, G, ok, hds3, hda, ⟨hP, hds, hdr, hsk, hgh, hg, Or.inr ⟨rfl, k1, k2⟩⟩, ⟨qP, qds, qdr, qt, qg⟩⟩
  refine br_c (fun z => ?_) (fun z => ?_)
  · show wpY_supports _ _ _ _
    unfold wpY_supports
    refine sg_brl_t hn14 qfc hr (br_t rfl (br_f h0 (br_t h35 (yt_tally ok qP hr qt (fun now bound2 => pk_le _ 0 (fun y => ⟨rfl, back2 _ _⟩) (fun y => absurd z (hiff.mpr y)))))))
  · show wpY_supports _ _ _ _
    unfold wpY_supports
    have := hiff.mp z
    refine sg_brl_t hn14 qfc hr (br_t rfl (br_f h0 (br_t h35 (yt_tally ok qP hr qt (fun now bound2 => pk_le _ 0 (fun y => absurd this (Nat.not_lt.mpr y)) (fun y => ⟨rfl, back2 _ _⟩))))))
end
section
/-! the weight of a rule -/
section
variable {f_count f_draftSize f_skipped f_plainSize f_newAtom f_wayCount f_wanted f_met f_solved : Int32} {a_givens a_facts a_fresh a_coming : Nat → Int64} {a_heads a_sizes a_atoms a_negated a_draftAtom a_draftNegated a_plain a_cursor a_bound : Nat → Int32}
theorem xw_63 {a_kept : Nat → Int64} {post : Int32 → SX → Prop} {A B : Nat → Prop} (hA : xs_ a_kept = A) (hB : xs_ a_facts = B) (hp : post (nI (sr_cn (fun x => ¬ (B x ↔ A x)) 288)) (f_count, f_draftSize, f_skipped, f_plainSize, f_newAtom, f_wayCount, f_wanted, f_met, f_solved, a_givens, a_facts, a_fresh, a_coming, a_kept, a_heads, a_sizes, a_atoms, a_negated, a_draftAtom, a_draftNegated, a_plain, a_cursor, a_bound)) :
    ∀ n i, i ≤ 8 → 8 - i < n → wX_weight_63 post f_count f_draftSize f_skipped f_plainSize f_newAtom f_wayCount f_wanted f_met f_solved a_givens a_facts a_fresh a_coming a_kept a_heads a_sizes a_atoms a_negated a_draftAtom a_draftNegated a_plain a_cursor a_bound n (nI (sr_cn (fun x => ¬ (B x ↔ A x)) (36 * i))) (nI i) := by
  intro n
  induction n with
  | zero => intro i _ h; omega
  | succ n ih =>
    intro i hi hn
    refine pk_le 8 i (fun h => ?_) (fun h => ⟨vp_in_nI h (by omega), vp_in_nI h (by omega), ?_⟩)
    · have e : i = 8 := by omega
      subst e; exact hp
    · rw [nI_clamp (by omega)]
      refine sg_ones (nm_r (e' := nI (sr_cn (fun x => ¬ (B x ↔ A x)) (36 * (i + 1)))) ?_ (nm_r (nI_1 i) (ih (i + 1) (by omega) (by omega))))
      rw [nI_add, show 36 * (i + 1) = 36 * i + 36 by omega, sr_cn_add]
      refine congrArg nI (congrArg (fun z => sr_cn (fun x => ¬ (B x ↔ A x)) (36 * i) + z) (sr_cn_eq fun f hf => ?_))
      rw [← hA, ← hB, xs_at h hf, xs_at h hf, sw_xor]
      cases sr_lb (a_kept i) f <;> cases sr_lb (a_facts i) f <;> simp
theorem xw_16 {post : Int32 → SX → Prop} {r : Nat} 
    (hp : ∀ kept : Nat → Int64, (∀ i, i < 8 → kept i = a_facts i) → wpX_solve (fun u => match u with
      | (f_count, f_draftSize, f_skipped, f_plainSize, f_newAtom, f_wayCount, f_wanted, f_met, f_solved, a_givens, a_facts, a_fresh, a_coming, a_kept, a_heads, a_sizes, a_atoms, a_negated, a_draftAtom, a_draftNegated, a_plain, a_cursor, a_bound) => ∃ n, wX_weight_63 post f_count f_draftSize (-1) f_plainSize f_newAtom f_wayCount f_wanted f_met 0 a_givens a_facts a_fresh a_coming a_kept a_heads a_sizes a_atoms a_negated a_draftAtom a_draftNegated a_plain a_cursor a_bound n 0 0) (f_count, f_draftSize, nI r, f_plainSize, f_newAtom, f_wayCount, f_wanted, f_met, f_solved, a_givens, a_facts, a_fresh, a_coming, kept, a_heads, a_sizes, a_atoms, a_negated, a_draftAtom, a_draftNegated, a_plain, a_cursor, a_bound)) :
    ∀ n i (kept : Nat → Int64), i ≤ 8 → 8 - i < n → (∀ j, j < i → kept j = a_facts j) → wX_weight_16 post (nI r) f_count f_draftSize f_skipped f_plainSize f_newAtom f_wayCount f_wanted f_met f_solved n (nI i) a_givens a_facts a_fresh a_coming kept a_heads a_sizes a_atoms a_negated a_draftAtom a_draftNegated a_plain a_cursor a_bound := by
  intro n
  induction n with
  | zero => intro i _ _ h; omega
  | succ n ih =>
    intro i kept hi hn hk
    refine pk_le 8 i (fun h => hp kept (fun j hj => hk j (by omega))) (fun h => ⟨vp_in_nI h (by omega), vp_in_nI h (by omega), nm_e (nm_r (nI_1 i) (ih (i + 1) _ (by omega) (by omega) (fun j hj => ?_)))⟩)
    rw [nI_clamp (by omega)]
    by_cases e : j = i
    · subst e; exact pk_uLs
    · rw [pk_uLn e]; exact hk j (by omega)
end
section
variable {f_drafted f_count : Int32} {a_told a_now a_draft a_draftNot a_head a_size a_atoms a_not a_bound : Nat → Int32}
theorem yw_51 {a_kept : Nat → Int32} {post : Int32 → SY → Prop} {A B : Nat → Prop} (h1 : ys_b a_kept) (h2 : ys_b a_now) (hA : ys_ a_kept = A) (hB : ys_ a_now = B) (hp : post (nI (sr_cn (fun x => ¬ (B x ↔ A x)) 288)) (f_drafted, f_count, a_told, a_now, a_kept, a_draft, a_draftNot, a_head, a_size, a_atoms, a_not, a_bound)) :
    ∀ n i, i ≤ 288 → 288 - i < n → wY_weight_51 post f_drafted f_count a_told a_now a_kept a_draft a_draftNot a_head a_size a_atoms a_not a_bound n (nI (sr_cn (fun x => ¬ (B x ↔ A x)) i)) (nI i) := by
  intro n
  induction n with
  | zero => intro i _ h; omega
  | succ n ih =>
    intro i hi hn
    refine pk_le 288 i (fun h => ?_) (fun h => ⟨vp_in_nI h (by omega), vp_in_nI h (by omega), ?_⟩)
    · have e : i = 288 := by omega
      subst e; exact hp
    · rw [nI_clamp (by omega)]
      have e : a_now i = a_kept i ↔ (B i ↔ A i) := by
        rw [← hA, ← hB]
        unfold ys_
        rcases h1 i h with z | z <;> rcases h2 i h with y | y <;> simp [z, y, h]
      rw [e]
      refine br_c (fun z => nm_r (nI_1 i) ?_) (fun z => nm_r (e' := nI (sr_cn (fun x => ¬ (B x ↔ A x)) (i + 1))) ?_ (nm_r (nI_1 i) (ih (i + 1) (by omega) (by omega))))
      · have e2 : sr_cn (fun x => ¬ (B x ↔ A x)) i = sr_cn (fun x => ¬ (B x ↔ A x)) (i + 1) := by
          simp only [sr_cn]
          rw [sr_b_f (fun y => y z)]
          rfl
        rw [e2]
        exact ih (i + 1) (by omega) (by omega)
      · simp only [sr_cn]
        rw [sr_b_t z, nI_1]
theorem yw_17 {post : Int32 → SY → Prop} {r : Nat} (h2 : ys_b a_now)
    (hp : ∀ kept : Nat → Int32, (∀ i, i < 288 → kept i = a_now i) → wpY_work (fun u => match u with
      | (f_drafted, f_count, a_told, a_now, a_kept, a_draft, a_draftNot, a_head, a_size, a_atoms, a_not, a_bound) => ∃ n, wY_weight_51 post f_drafted f_count a_told a_now a_kept a_draft a_draftNot a_head a_size a_atoms a_not a_bound n 0 0) (f_drafted, f_count, a_told, a_now, kept, a_draft, a_draftNot, a_head, a_size, a_atoms, a_not, a_bound) (nI r)) :
    ∀ n i (kept : Nat → Int32), i ≤ 288 → 288 - i < n → (∀ j, j < i → kept j = a_now j) → wY_weight_17 post (nI r) f_drafted f_count n (nI i) a_told a_now kept a_draft a_draftNot a_head a_size a_atoms a_not a_bound := by
  intro n
  induction n with
  | zero => intro i _ _ h; omega
  | succ n ih =>
    intro i kept hi hn hk
    refine pk_le 288 i (fun h => hp kept (fun j hj => hk j (by omega))) (fun h => ⟨vp_in_nI h (by omega), vp_in_nI h (by omega), nm_e (nm_r (nI_1 i) (ih (i + 1) _ (by omega) (by omega) (fun j hj => ?_)))⟩)
    rw [nI_clamp (by omega)]
    by_cases e : j = i
    · subst e
      rw [pk_us]
      rcases h2 j h with z | z <;> rw [z] <;> rfl
    · rw [pk_un e]; exact hk j (by omega)
end
theorem xs_cp {V W : Nat → Int64} (h : ∀ r, r < 8 → V r = W r) : xs_ V = xs_ W :=
  xs_ext (fun x hx => hx.1) (fun r f hr hf => by rw [h r hr, xs_at hr hf])
theorem ys_cp {s t : Nat → Int32} (h : ∀ x, x < 288 → s x = t x) : ys_ s = ys_ t := by
  funext x
  apply propext
  unfold ys_
  exact ⟨fun z => ⟨z.1, by rw [← h x z.1]; exact z.2⟩, fun z => ⟨z.1, by rw [h x z.1]; exact z.2⟩⟩
theorem i_vc_weight {k : Nat} {u : SX} {v : SY} (I : i_Rel k u v) (hk : k + 5 ≤ 2560) (v1 : Int32) : wpX_weight (fun r u' => wpY_weight (fun r' v' => r' = r ∧ i_Rel (k + 5) u' v') v v1) u v1 := by
  obtain ⟨p, ds, da, dn, G, ok, hds3, hda, hx, hy⟩ := I
  obtain ⟨f_count, f_draftSize, f_skipped, f_plainSize, f_newAtom, f_wayCount, f_wanted, f_met, f_solved, a_givens, a_facts, a_fresh, a_coming, a_kept, a_heads, a_sizes, a_atoms, a_negated, a_draftAtom, a_draftNegated, a_plain, a_cursor, a_bound⟩ := u
  obtain ⟨y_drafted, y_count, y_told, y_now, y_kept, y_draft, y_draftNot, y_head, y_size, y_atoms, y_not, y_bound⟩ := v
  have back : i_Rel (k + 5) (f_count, f_draftSize, f_skipped, f_plainSize, f_newAtom, f_wayCount, f_wanted, f_met, f_solved, a_givens, a_facts, a_fresh, a_coming, a_kept, a_heads, a_sizes, a_atoms, a_negated, a_draftAtom, a_draftNegated, a_plain, a_cursor, a_bound) (y_drafted, y_count, y_told, y_now, y_kept, y_draft, y_draftNot, y_head, y_size, y_atoms, y_not, y_bound) := ⟨p, ds, da, dn, G, ok, hds3, hda, hx, hy⟩
  obtain ⟨hP, hds, hdr, hsk, hgh, hg, hsv⟩ := hx
  obtain ⟨qP, qds, qdr, qt, qg⟩ := hy
  have efc := hP.1
  have qfc := qP.1
  have hn14 := ok.1
  unfold wpX_weight
  rcases sg_ix v1 (sp_n p) (by omega) with h1 | ⟨r, hr, rfl⟩
  · refine sg_rule_f efc h1 (br_t rfl ?_)
    show wpY_weight _ _ _
    unfold wpY_weight
    exact sg_brl_f qfc h1 (br_f sn_10 ⟨rfl, back⟩)
  refine sg_rule_t hn14 efc hr (br_f sn_10 (sx_refresh ok hP hsk hgh hg hsv (fun ps na wc wn met facts fresh coming plain cursor bound k1 k2 => ⟨9, ?_⟩)))
  refine xw_16 (fun kept hkp => ?_) 9 0 a_kept (by omega) (by omega) (fun j hj => by omega)
  refine sx_solve ok hP hgh (fun ps' na' wc' wn' met' facts' fresh' coming' plain' cursor' bound' l1 l2 => ⟨9, ?_⟩)
  refine xw_63 (A := sp_M p (-1) G 4) (B := sp_M p (nI r) G 4) ((xs_cp hkp).trans k2) (by rw [l2, hg]) ?_ 9 0 (by omega) (by omega)
  show wpY_weight _ _ _
  unfold wpY_weight
  refine sg_brl_t hn14 qfc hr (br_t rfl (sy_work ok qP qt (fun now bound2 n1 n2 => ⟨289, ?_⟩)))
  refine yw_17 n1 (fun kept2 hkp2 => ?_) 289 0 y_kept (by omega) (by omega) (fun j hj => by omega)
  refine sy_work ok qP qt (fun now' bound3 m1 m2 => ⟨289, ?_⟩)
  refine yw_51 (A := sp_M p (-1) G 4) (B := sp_M p (nI r) G 4) (fun x hx => by rw [hkp2 x hx]; exact n1 x hx) m1 ((ys_cp hkp2).trans (by rw [n2, qg])) (by rw [m2, qg]) ⟨rfl, ?_⟩ 289 0 (by omega) (by omega)
  exact ⟨p, ds, da, dn, G, ok, hds3, hda, ⟨hP, hds, hdr, rfl, hgh, hg, Or.inl rfl⟩, ⟨qP, qds, qdr, qt, qg⟩⟩
end

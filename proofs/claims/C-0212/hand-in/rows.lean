section
/-! pure rows to paste: stores, nI and lN arithmetic, masks, shifts, narrowing, branches by naturals (pk_le, pk_lt, pk_eq), loops (lp1 .. lp16: the measure of the state; rp1 ..: recursion), negatives. Take what you need -/
theorem pk_us {f : Nat → Int32} {k : Nat} {x : Int32} : upd f k x k = x := if_pos rfl
theorem pk_un {f : Nat → Int32} {k j : Nat} {x : Int32} (h : j ≠ k) : upd f k x j = f j := if_neg h
theorem pk_uLs {f : Nat → Int64} {k : Nat} {x : Int64} : vp_updL f k x k = x := if_pos rfl
theorem pk_uLn {f : Nat → Int64} {k j : Nat} {x : Int64} (h : j ≠ k) : vp_updL f k x j = f j := if_neg h
theorem pk_sub {a b : Nat} (h : b ≤ a) : nI a - nI b = nI (a - b) := by
  obtain ⟨c, rfl⟩ : ∃ c, a = c + b := ⟨a - b, by omega⟩
  rw [← nI_add, Int32.add_sub_cancel, Nat.add_sub_cancel]
theorem pk_m1 (n : Nat) : nI (n + 1) + (-1) = nI n := by
  rw [← nI_1, Int32.add_assoc, show (1 : Int32) + (-1) = 0 from rfl, Int32.add_zero]
theorem pk_mul (a b : Nat) : nI a * nI b = nI (a * b) := (Int32.ofNat_mul a b).symm
theorem pk_div {a d : Nat} (ha : a < 2 ^ 31) (h0 : 0 < d) (hd : d < 2 ^ 31) : nI a / nI d = nI (a / d) := by
  apply Int32.toInt_inj.mp
  rw [lg_idiv_nonneg (by rw [nI_toInt ha]; omega) (by rw [nI_toInt hd]; omega), nI_toInt ha, nI_toInt hd, nI_toInt (Nat.lt_of_le_of_lt (Nat.div_le_self a d) ha)]
  first | rfl | exact (Int.natCast_ediv _ _).symm
theorem pk_rem {a d : Nat} (ha : a < 2 ^ 31) (h0 : 0 < d) (hd : d < 2 ^ 31) : nI a - nI a / nI d * nI d = nI (a % d) := by
  rw [pk_div ha h0 hd, pk_mul, pk_sub (Nat.div_mul_le_self a d)]
  exact congrArg nI (by have := Nat.div_add_mod' a d; omega)
theorem pk_sub_toInt {a b : Nat} (ha : a < 2 ^ 30) (hb : b < 2 ^ 30) : (nI a - nI b).toInt = (a : Int) - b := by
  rw [Int32.toInt_sub, nI_toInt (by omega), nI_toInt (by omega)]
  exact Int.bmod_eq_of_le (by omega) (by omega)
theorem pk_sneg {a b : Nat} (hb : b < 2 ^ 30) (h : a < b) : nI a - nI b < 0 := by
  rw [Int32.lt_iff_toInt_lt, pk_sub_toInt (by omega) hb, show (0 : Int32).toInt = 0 from by decide]
  omega
theorem pk_ix (x : Int32) {n : Nat} (hn : n < 2 ^ 31) : x < 0 ∨ nI n ≤ x ∨ ∃ j : Nat, j < n ∧ x = nI j := by
  by_cases h : x < 0
  · exact Or.inl h
  · obtain ⟨j, hj, rfl⟩ := nI_of h
    by_cases h2 : j < n
    · exact Or.inr (Or.inr ⟨j, h2, rfl⟩)
    · exact Or.inr (Or.inl (nI_le (by omega) hj))
theorem pk_le {x y : Int32} {A B : Prop} (a b : Nat) (f : a ≤ b → A) (g : b < a → B) (hx : x = nI a := by rfl) (hy : y = nI b := by rfl) (ha : a < 2 ^ 31 := by omega) (hb : b < 2 ^ 31 := by omega) : (x ≤ y → A) ∧ (¬ x ≤ y → B) := by
  subst hx hy
  rw [nI_leI ha hb]
  exact ⟨f, fun z => g (by omega)⟩
theorem pk_lt {x y : Int32} {A B : Prop} (a b : Nat) (f : a < b → A) (g : b ≤ a → B) (hx : x = nI a := by rfl) (hy : y = nI b := by rfl) (ha : a < 2 ^ 31 := by omega) (hb : b < 2 ^ 31 := by omega) : (x < y → A) ∧ (¬ x < y → B) := by
  subst hx hy
  rw [nI_ltI ha hb]
  exact ⟨f, fun z => g (by omega)⟩
theorem pk_eq {x y : Int32} {A B : Prop} (a b : Nat) (f : a = b → A) (g : a ≠ b → B) (hx : x = nI a := by rfl) (hy : y = nI b := by rfl) (ha : a < 2 ^ 31 := by omega) (hb : b < 2 ^ 31 := by omega) : (x = y → A) ∧ (¬ x = y → B) := by
  subst hx hy
  rw [nI_eq ha hb]
  exact ⟨f, g⟩
theorem pk_in {x : Int32} (n N : Nat) (h : n < N) (hx : x = nI n := by rfl) (hN : N < 2 ^ 31 := by omega) : vp_in x N := by
  subst hx
  exact vp_in_nI h hN
theorem pk_cl {x : Int32} (n : Nat) (hx : x = nI n := by rfl) (h : n < 2 ^ 31 := by omega) : x.toNatClampNeg = n := by
  subst hx
  exact nI_clamp h
theorem pk_tn {n : Nat} (h : n < 2 ^ 32) : (nI n).toBitVec.toNat = n := Nat.mod_eq_of_lt h
theorem pk_and (x : Int32) {m : Int32} (k : Nat) (hm : m.toBitVec.toNat = 2 ^ k - 1) : x &&& m = nI (x.toBitVec.toNat % 2 ^ k) := by
  apply Int32.toBitVec_inj.mp
  apply BitVec.eq_of_toNat_eq
  rw [Int32.toBitVec_and, BitVec.toNat_and, hm, Nat.and_two_pow_sub_one_eq_mod]
  show _ = (BitVec.ofNat 32 _).toNat
  rw [BitVec.toNat_ofNat]
  exact (Nat.mod_eq_of_lt (Nat.lt_of_le_of_lt (Nat.mod_le _ _) x.toBitVec.isLt)).symm
theorem pk_andN {n : Nat} (h : n < 2 ^ 32) {m : Int32} (k : Nat) (hm : m.toBitVec.toNat = 2 ^ k - 1) : nI n &&& m = nI (n % 2 ^ k) := by
  rw [pk_and _ k hm, pk_tn h]
theorem pk_andE (x : Int32) {m : Int32} (k : Nat) (hm : m.toBitVec.toNat = 2 ^ k - 1) : ∃ j : Nat, j < 2 ^ k ∧ x &&& m = nI j := ⟨_, Nat.mod_lt _ (Nat.two_pow_pos k), pk_and x k hm⟩
theorem pk_andIn (x : Int32) {m : Int32} (k : Nat) (hm : m.toBitVec.toNat = 2 ^ k - 1) (hk : k ≤ 30) : vp_in (x &&& m) (2 ^ k) := by
  obtain ⟨j, hj, e⟩ := pk_andE x k hm
  rw [e]
  exact vp_in_nI hj (Nat.lt_of_le_of_lt (Nat.pow_le_pow_right (by decide) hk) (by decide))
theorem pk_shl (a s : Int32) (k : Nat) (hs : (s.toBitVec.smod 32).toNat = k) : (a <<< s).toBitVec.toNat = a.toBitVec.toNat * 2 ^ k % 2 ^ 32 := by
  show (a.toBitVec <<< (s.toBitVec.smod 32).toNat).toNat = _
  rw [hs, BitVec.toNat_shiftLeft, Nat.shiftLeft_eq]
theorem pk_shlN {n : Nat} (s : Int32) (k : Nat) (hs : (s.toBitVec.smod 32).toNat = k) (h : n * 2 ^ k < 2 ^ 32) : nI n <<< s = nI (n * 2 ^ k) := by
  apply Int32.toBitVec_inj.mp
  apply BitVec.eq_of_toNat_eq
  have hn : n < 2 ^ 32 := Nat.lt_of_le_of_lt (Nat.le_mul_of_pos_right n (Nat.two_pow_pos k)) h
  rw [pk_shl _ _ k hs, pk_tn hn, pk_tn h, Nat.mod_eq_of_lt h]
theorem pk_shr (a s : Int32) (k : Nat) (hs : (s.toBitVec.smod 32).toNat = k) : (a >>> s).toInt = a.toInt >>> k := by
  show (a.toBitVec.sshiftRight (s.toBitVec.smod 32).toNat).toInt = _
  rw [hs, BitVec.toInt_sshiftRight]
  rfl
theorem pk_shrN {n : Nat} (h : n < 2 ^ 31) (s : Int32) (k : Nat) (hs : (s.toBitVec.smod 32).toNat = k) : nI n >>> s = nI (n / 2 ^ k) := by
  apply Int32.toInt_inj.mp
  have h2 : n / 2 ^ k ≤ n := Nat.div_le_self _ _
  rw [pk_shr _ _ k hs, nI_toInt h, nI_toInt (by omega), Int.shiftRight_eq_div_pow]
  rfl
theorem pk_ushr (x s : Int32) (k : Nat) (hs : ((s.toUInt32 &&& Int32.toUInt32 31).toBitVec % 32).toNat = k) : (x.toUInt32 >>> (s.toUInt32 &&& Int32.toUInt32 31)).toInt32.toBitVec.toNat = x.toBitVec.toNat / 2 ^ k := by
  have e : (x.toUInt32 >>> (s.toUInt32 &&& Int32.toUInt32 31)).toInt32.toBitVec = x.toBitVec >>> k := by
    rw [← hs]
    exact UInt32.toBitVec_shiftRight _ _
  rw [e, BitVec.toNat_ushiftRight, Nat.shiftRight_eq_div_pow]
theorem pk_ushrN {n : Nat} (hn : n < 2 ^ 32) (s : Int32) (k : Nat) (hs : ((s.toUInt32 &&& Int32.toUInt32 31).toBitVec % 32).toNat = k) : ((nI n).toUInt32 >>> (s.toUInt32 &&& Int32.toUInt32 31)).toInt32 = nI (n / 2 ^ k) := by
  apply Int32.toBitVec_inj.mp
  apply BitVec.eq_of_toNat_eq
  rw [pk_ushr _ s k hs, pk_tn hn, pk_tn (Nat.lt_of_le_of_lt (Nat.div_le_self _ _) hn)]
theorem pk_nb (z : Int32) : narrow .byte (.int z.toInt8.toInt32) = .int z.toInt8.toInt32 := congrArg Value.int (by simp)
theorem pk_ns (z : Int32) : narrow .short (.int z.toInt16.toInt32) = .int z.toInt16.toInt32 := congrArg Value.int (by simp)
theorem pk_fb (r : Int32) : fits .byte (.int r.toInt8.toInt32) = true := by
  have ⟨a, b⟩ := lg_i2b_range r
  have h1 : (-128 : Int32).toInt = -128 := by decide
  have h2 : (127 : Int32).toInt = 127 := by decide
  simp only [fits, Bool.and_eq_true, decide_eq_true_eq, Int32.le_iff_toInt_le, h1, h2]
  omega
theorem pk_fs (r : Int32) : fits .short (.int r.toInt16.toInt32) = true := by
  have ⟨a, b⟩ := lg_i2s_range r
  have h1 : (-32768 : Int32).toInt = -32768 := by decide
  have h2 : (32767 : Int32).toInt = 32767 := by decide
  simp only [fits, Bool.and_eq_true, decide_eq_true_eq, Int32.le_iff_toInt_le, h1, h2]
  omega
theorem pk_charN {q : Nat} (hq : q < 65536) : narrow .char (.int (nI q)) = .int (nI q) ∧ fits .char (.int (nI q)) = true := by
  constructor
  · have e : (nI q).toUInt32.toUInt16.toUInt32.toInt32 = nI q := by
      apply Int32.toBitVec_inj.mp
      apply BitVec.eq_of_toNat_eq
      show (nI q).toUInt32.toUInt16.toUInt32.toNat = q % 2 ^ 32
      rw [UInt16.toNat_toUInt32, UInt32.toNat_toUInt16, show (nI q).toUInt32.toNat = q % 2 ^ 32 from rfl]
      omega
    exact congrArg Value.int e
  · have a : (0 : Int32) ≤ nI q := nI_pos' (by omega)
    have b : nI q ≤ 65535 := nI_le (b := 65535) (by omega) (by decide)
    show (decide ((0 : Int32) ≤ nI q) && decide (nI q ≤ 65535)) = true
    rw [decide_eq_true a, decide_eq_true b]
    rfl
theorem pk_char (x : Int32) : (x.toUInt32 % 65536).toInt32 = nI (x.toBitVec.toNat % 65536) := by
  apply Int32.toBitVec_inj.mp
  apply BitVec.eq_of_toNat_eq
  rw [pk_tn (by omega)]
  show (x.toUInt32 % 65536).toNat = _
  rw [UInt32.toNat_mod]
  rfl
theorem pk_nc (x : Int32) : narrow .char (.int (x.toUInt32 % 65536).toInt32) = .int (x.toUInt32 % 65536).toInt32 := by
  rw [pk_char]
  exact (pk_charN (Nat.mod_lt _ (by decide))).1
theorem pk_fc (x : Int32) : fits .char (.int (x.toUInt32 % 65536).toInt32) = true := by
  rw [pk_char]
  exact (pk_charN (Nat.mod_lt _ (by decide))).2
theorem pk_vb (z : Int32) : vp_nar .byte z.toInt8.toInt32 = z.toInt8.toInt32 := by rw [vp_nar_byte]; simp
theorem pk_vs (z : Int32) : vp_nar .short z.toInt16.toInt32 = z.toInt16.toInt32 := by rw [vp_nar_short]; simp
theorem pk_vc (z : Int32) : vp_nar .char (z.toUInt32 % 65536).toInt32 = (z.toUInt32 % 65536).toInt32 := Value.int.inj (pk_nc z)
theorem pk_lT {n : Nat} (h : n < 2 ^ 63) : (lN n).toInt = (n : Int) := lg_ofNat_toInt h
theorem pk_lLT {a b : Nat} (ha : a < 2 ^ 63) (hb : b < 2 ^ 63) : lN a < lN b ↔ a < b := by
  rw [Int64.lt_iff_toInt_lt, pk_lT ha, pk_lT hb]; omega
theorem pk_lLE {a b : Nat} (ha : a < 2 ^ 63) (hb : b < 2 ^ 63) : lN a ≤ lN b ↔ a ≤ b := by
  rw [Int64.le_iff_toInt_le, pk_lT ha, pk_lT hb]; omega
theorem pk_lEQ {a b : Nat} (ha : a < 2 ^ 63) (hb : b < 2 ^ 63) : lN a = lN b ↔ a = b := by
  rw [← Int64.toInt_inj, pk_lT ha, pk_lT hb]; omega
theorem pk_lOf {x : Int64} (h : ¬ x < 0) : ∃ k : Nat, k < 2 ^ 63 ∧ x = lN k := by
  rw [Int64.lt_iff_toInt_lt] at h
  have h0 : (0 : Int64).toInt = 0 := by decide
  have hx := Int64.toInt_lt x
  refine ⟨x.toInt.toNat, by omega, Int64.toInt_inj.mp ?_⟩
  rw [pk_lT (by omega)]
  omega
theorem pk_lDiv {a b : Nat} (ha : a < 2 ^ 63) (h0 : 0 < b) (hb : b < 2 ^ 63) : lN a / lN b = lN (a / b) := by
  apply Int64.toInt_inj.mp
  rw [lg_ldiv_nonneg (by rw [pk_lT ha]; omega) (by rw [pk_lT hb]; omega), pk_lT ha, pk_lT hb, pk_lT (Nat.lt_of_le_of_lt (Nat.div_le_self a b) ha)]
  rfl
theorem pk_lRem {a b : Nat} (ha : a < 2 ^ 63) (h0 : 0 < b) (hb : b < 2 ^ 63) : lN a - lN a / lN b * lN b = lN (a % b) := by
  rw [pk_lDiv ha h0 hb, lN_mul, lN_sub (Nat.div_mul_le_self a b)]
  exact congrArg lN (by have := Nat.div_add_mod' a b; omega)
theorem pk_loop {σ : Type} (W : Nat → Nat → σ → Prop) (I : Nat → σ → Prop) (e i0 : Nat) (s : σ) (hi : i0 ≤ e) (h0 : I i0 s) (hx : ∀ n s, I e s → W (n + 1) e s)
    (hs : ∀ n i s, i < e → I i s → (∀ s', I (i + 1) s' → W n (i + 1) s') → W (n + 1) i s) : ∃ n, W n i0 s :=
  ⟨e + 1, loop_i W I e hx hs (e + 1) i0 s hi (by omega) h0⟩
theorem pk_loopD {σ : Type} (W : Nat → Nat → σ → Prop) (I : Nat → σ → Prop) (hx : ∀ n s, I 0 s → W (n + 1) 0 s)
    (hs : ∀ n i s, I (i + 1) s → (∀ s', I i s' → W n i s') → W (n + 1) (i + 1) s) : ∀ (e : Nat) (s : σ), I e s → W (e + 1) e s := by
  intro e
  induction e with
  | zero => exact fun s h => hx 0 s h
  | succ e ih => exact fun s h => hs (e + 1) e s h (fun s' h' => ih s' h')
theorem lp1 {A1 : Type} (W : Nat → A1 → Prop) (I : A1 → Prop) (μ : A1 → Nat) (hs : ∀ (n : Nat) (a1 : A1), I a1 → (∀ (b1 : A1), I b1 → μ b1 < μ a1 → W n b1) → W (n + 1) a1) (a1 : A1) (h : I a1) : ∃ n, W n a1 :=
  loop_m (σ := A1) (fun n s => W n s) (fun s => I s) (fun s => μ s) (fun n s hI hk => hs n s hI (fun b1 h9 hm => hk b1 h9 hm)) a1 h
theorem lp2 {A1 A2 : Type} (W : Nat → A1 → A2 → Prop) (I : A1 → A2 → Prop) (μ : A1 → A2 → Nat) (hs : ∀ (n : Nat) (a1 : A1) (a2 : A2), I a1 a2 → (∀ (b1 : A1) (b2 : A2), I b1 b2 → μ b1 b2 < μ a1 a2 → W n b1 b2) → W (n + 1) a1 a2) (a1 : A1) (a2 : A2) (h : I a1 a2) : ∃ n, W n a1 a2 :=
  loop_m (σ := A1 × A2) (fun n s => W n s.1 s.2) (fun s => I s.1 s.2) (fun s => μ s.1 s.2) (fun n s hI hk => hs n s.1 s.2 hI (fun b1 b2 h9 hm => hk (b1, b2) h9 hm)) (a1, a2) h
theorem lp3 {A1 A2 A3 : Type} (W : Nat → A1 → A2 → A3 → Prop) (I : A1 → A2 → A3 → Prop) (μ : A1 → A2 → A3 → Nat) (hs : ∀ (n : Nat) (a1 : A1) (a2 : A2) (a3 : A3), I a1 a2 a3 → (∀ (b1 : A1) (b2 : A2) (b3 : A3), I b1 b2 b3 → μ b1 b2 b3 < μ a1 a2 a3 → W n b1 b2 b3) → W (n + 1) a1 a2 a3) (a1 : A1) (a2 : A2) (a3 : A3) (h : I a1 a2 a3) : ∃ n, W n a1 a2 a3 :=
  loop_m (σ := A1 × A2 × A3) (fun n s => W n s.1 s.2.1 s.2.2) (fun s => I s.1 s.2.1 s.2.2) (fun s => μ s.1 s.2.1 s.2.2) (fun n s hI hk => hs n s.1 s.2.1 s.2.2 hI (fun b1 b2 b3 h9 hm => hk (b1, b2, b3) h9 hm)) (a1, a2, a3) h
theorem lp4 {A1 A2 A3 A4 : Type} (W : Nat → A1 → A2 → A3 → A4 → Prop) (I : A1 → A2 → A3 → A4 → Prop) (μ : A1 → A2 → A3 → A4 → Nat) (hs : ∀ (n : Nat) (a1 : A1) (a2 : A2) (a3 : A3) (a4 : A4), I a1 a2 a3 a4 → (∀ (b1 : A1) (b2 : A2) (b3 : A3) (b4 : A4), I b1 b2 b3 b4 → μ b1 b2 b3 b4 < μ a1 a2 a3 a4 → W n b1 b2 b3 b4) → W (n + 1) a1 a2 a3 a4) (a1 : A1) (a2 : A2) (a3 : A3) (a4 : A4) (h : I a1 a2 a3 a4) : ∃ n, W n a1 a2 a3 a4 :=
  loop_m (σ := A1 × A2 × A3 × A4) (fun n s => W n s.1 s.2.1 s.2.2.1 s.2.2.2) (fun s => I s.1 s.2.1 s.2.2.1 s.2.2.2) (fun s => μ s.1 s.2.1 s.2.2.1 s.2.2.2) (fun n s hI hk => hs n s.1 s.2.1 s.2.2.1 s.2.2.2 hI (fun b1 b2 b3 b4 h9 hm => hk (b1, b2, b3, b4) h9 hm)) (a1, a2, a3, a4) h
theorem lp5 {A1 A2 A3 A4 A5 : Type} (W : Nat → A1 → A2 → A3 → A4 → A5 → Prop) (I : A1 → A2 → A3 → A4 → A5 → Prop) (μ : A1 → A2 → A3 → A4 → A5 → Nat) (hs : ∀ (n : Nat) (a1 : A1) (a2 : A2) (a3 : A3) (a4 : A4) (a5 : A5), I a1 a2 a3 a4 a5 → (∀ (b1 : A1) (b2 : A2) (b3 : A3) (b4 : A4) (b5 : A5), I b1 b2 b3 b4 b5 → μ b1 b2 b3 b4 b5 < μ a1 a2 a3 a4 a5 → W n b1 b2 b3 b4 b5) → W (n + 1) a1 a2 a3 a4 a5) (a1 : A1) (a2 : A2) (a3 : A3) (a4 : A4) (a5 : A5) (h : I a1 a2 a3 a4 a5) : ∃ n, W n a1 a2 a3 a4 a5 :=
  loop_m (σ := A1 × A2 × A3 × A4 × A5) (fun n s => W n s.1 s.2.1 s.2.2.1 s.2.2.2.1 s.2.2.2.2) (fun s => I s.1 s.2.1 s.2.2.1 s.2.2.2.1 s.2.2.2.2) (fun s => μ s.1 s.2.1 s.2.2.1 s.2.2.2.1 s.2.2.2.2) (fun n s hI hk => hs n s.1 s.2.1 s.2.2.1 s.2.2.2.1 s.2.2.2.2 hI (fun b1 b2 b3 b4 b5 h9 hm => hk (b1, b2, b3, b4, b5) h9 hm)) (a1, a2, a3, a4, a5) h
theorem lp6 {A1 A2 A3 A4 A5 A6 : Type} (W : Nat → A1 → A2 → A3 → A4 → A5 → A6 → Prop) (I : A1 → A2 → A3 → A4 → A5 → A6 → Prop) (μ : A1 → A2 → A3 → A4 → A5 → A6 → Nat) (hs : ∀ (n : Nat) (a1 : A1) (a2 : A2) (a3 : A3) (a4 : A4) (a5 : A5) (a6 : A6), I a1 a2 a3 a4 a5 a6 → (∀ (b1 : A1) (b2 : A2) (b3 : A3) (b4 : A4) (b5 : A5) (b6 : A6), I b1 b2 b3 b4 b5 b6 → μ b1 b2 b3 b4 b5 b6 < μ a1 a2 a3 a4 a5 a6 → W n b1 b2 b3 b4 b5 b6) → W (n + 1) a1 a2 a3 a4 a5 a6) (a1 : A1) (a2 : A2) (a3 : A3) (a4 : A4) (a5 : A5) (a6 : A6) (h : I a1 a2 a3 a4 a5 a6) : ∃ n, W n a1 a2 a3 a4 a5 a6 :=
  loop_m (σ := A1 × A2 × A3 × A4 × A5 × A6) (fun n s => W n s.1 s.2.1 s.2.2.1 s.2.2.2.1 s.2.2.2.2.1 s.2.2.2.2.2) (fun s => I s.1 s.2.1 s.2.2.1 s.2.2.2.1 s.2.2.2.2.1 s.2.2.2.2.2) (fun s => μ s.1 s.2.1 s.2.2.1 s.2.2.2.1 s.2.2.2.2.1 s.2.2.2.2.2) (fun n s hI hk => hs n s.1 s.2.1 s.2.2.1 s.2.2.2.1 s.2.2.2.2.1 s.2.2.2.2.2 hI (fun b1 b2 b3 b4 b5 b6 h9 hm => hk (b1, b2, b3, b4, b5, b6) h9 hm)) (a1, a2, a3, a4, a5, a6) h
theorem lp7 {A1 A2 A3 A4 A5 A6 A7 : Type} (W : Nat → A1 → A2 → A3 → A4 → A5 → A6 → A7 → Prop) (I : A1 → A2 → A3 → A4 → A5 → A6 → A7 → Prop) (μ : A1 → A2 → A3 → A4 → A5 → A6 → A7 → Nat) (hs : ∀ (n : Nat) (a1 : A1) (a2 : A2) (a3 : A3) (a4 : A4) (a5 : A5) (a6 : A6) (a7 : A7), I a1 a2 a3 a4 a5 a6 a7 → (∀ (b1 : A1) (b2 : A2) (b3 : A3) (b4 : A4) (b5 : A5) (b6 : A6) (b7 : A7), I b1 b2 b3 b4 b5 b6 b7 → μ b1 b2 b3 b4 b5 b6 b7 < μ a1 a2 a3 a4 a5 a6 a7 → W n b1 b2 b3 b4 b5 b6 b7) → W (n + 1) a1 a2 a3 a4 a5 a6 a7) (a1 : A1) (a2 : A2) (a3 : A3) (a4 : A4) (a5 : A5) (a6 : A6) (a7 : A7) (h : I a1 a2 a3 a4 a5 a6 a7) : ∃ n, W n a1 a2 a3 a4 a5 a6 a7 :=
  loop_m (σ := A1 × A2 × A3 × A4 × A5 × A6 × A7) (fun n s => W n s.1 s.2.1 s.2.2.1 s.2.2.2.1 s.2.2.2.2.1 s.2.2.2.2.2.1 s.2.2.2.2.2.2) (fun s => I s.1 s.2.1 s.2.2.1 s.2.2.2.1 s.2.2.2.2.1 s.2.2.2.2.2.1 s.2.2.2.2.2.2) (fun s => μ s.1 s.2.1 s.2.2.1 s.2.2.2.1 s.2.2.2.2.1 s.2.2.2.2.2.1 s.2.2.2.2.2.2) (fun n s hI hk => hs n s.1 s.2.1 s.2.2.1 s.2.2.2.1 s.2.2.2.2.1 s.2.2.2.2.2.1 s.2.2.2.2.2.2 hI (fun b1 b2 b3 b4 b5 b6 b7 h9 hm => hk (b1, b2, b3, b4, b5, b6, b7) h9 hm)) (a1, a2, a3, a4, a5, a6, a7) h
theorem lp8 {A1 A2 A3 A4 A5 A6 A7 A8 : Type} (W : Nat → A1 → A2 → A3 → A4 → A5 → A6 → A7 → A8 → Prop) (I : A1 → A2 → A3 → A4 → A5 → A6 → A7 → A8 → Prop) (μ : A1 → A2 → A3 → A4 → A5 → A6 → A7 → A8 → Nat) (hs : ∀ (n : Nat) (a1 : A1) (a2 : A2) (a3 : A3) (a4 : A4) (a5 : A5) (a6 : A6) (a7 : A7) (a8 : A8), I a1 a2 a3 a4 a5 a6 a7 a8 → (∀ (b1 : A1) (b2 : A2) (b3 : A3) (b4 : A4) (b5 : A5) (b6 : A6) (b7 : A7) (b8 : A8), I b1 b2 b3 b4 b5 b6 b7 b8 → μ b1 b2 b3 b4 b5 b6 b7 b8 < μ a1 a2 a3 a4 a5 a6 a7 a8 → W n b1 b2 b3 b4 b5 b6 b7 b8) → W (n + 1) a1 a2 a3 a4 a5 a6 a7 a8) (a1 : A1) (a2 : A2) (a3 : A3) (a4 : A4) (a5 : A5) (a6 : A6) (a7 : A7) (a8 : A8) (h : I a1 a2 a3 a4 a5 a6 a7 a8) : ∃ n, W n a1 a2 a3 a4 a5 a6 a7 a8 :=
  loop_m (σ := A1 × A2 × A3 × A4 × A5 × A6 × A7 × A8) (fun n s => W n s.1 s.2.1 s.2.2.1 s.2.2.2.1 s.2.2.2.2.1 s.2.2.2.2.2.1 s.2.2.2.2.2.2.1 s.2.2.2.2.2.2.2) (fun s => I s.1 s.2.1 s.2.2.1 s.2.2.2.1 s.2.2.2.2.1 s.2.2.2.2.2.1 s.2.2.2.2.2.2.1 s.2.2.2.2.2.2.2) (fun s => μ s.1 s.2.1 s.2.2.1 s.2.2.2.1 s.2.2.2.2.1 s.2.2.2.2.2.1 s.2.2.2.2.2.2.1 s.2.2.2.2.2.2.2) (fun n s hI hk => hs n s.1 s.2.1 s.2.2.1 s.2.2.2.1 s.2.2.2.2.1 s.2.2.2.2.2.1 s.2.2.2.2.2.2.1 s.2.2.2.2.2.2.2 hI (fun b1 b2 b3 b4 b5 b6 b7 b8 h9 hm => hk (b1, b2, b3, b4, b5, b6, b7, b8) h9 hm)) (a1, a2, a3, a4, a5, a6, a7, a8) h
theorem lp9 {A1 A2 A3 A4 A5 A6 A7 A8 A9 : Type} (W : Nat → A1 → A2 → A3 → A4 → A5 → A6 → A7 → A8 → A9 → Prop) (I : A1 → A2 → A3 → A4 → A5 → A6 → A7 → A8 → A9 → Prop) (μ : A1 → A2 → A3 → A4 → A5 → A6 → A7 → A8 → A9 → Nat) (hs : ∀ (n : Nat) (a1 : A1) (a2 : A2) (a3 : A3) (a4 : A4) (a5 : A5) (a6 : A6) (a7 : A7) (a8 : A8) (a9 : A9), I a1 a2 a3 a4 a5 a6 a7 a8 a9 → (∀ (b1 : A1) (b2 : A2) (b3 : A3) (b4 : A4) (b5 : A5) (b6 : A6) (b7 : A7) (b8 : A8) (b9 : A9), I b1 b2 b3 b4 b5 b6 b7 b8 b9 → μ b1 b2 b3 b4 b5 b6 b7 b8 b9 < μ a1 a2 a3 a4 a5 a6 a7 a8 a9 → W n b1 b2 b3 b4 b5 b6 b7 b8 b9) → W (n + 1) a1 a2 a3 a4 a5 a6 a7 a8 a9) (a1 : A1) (a2 : A2) (a3 : A3) (a4 : A4) (a5 : A5) (a6 : A6) (a7 : A7) (a8 : A8) (a9 : A9) (h : I a1 a2 a3 a4 a5 a6 a7 a8 a9) : ∃ n, W n a1 a2 a3 a4 a5 a6 a7 a8 a9 :=
  loop_m (σ := A1 × A2 × A3 × A4 × A5 × A6 × A7 × A8 × A9) (fun n s => W n s.1 s.2.1 s.2.2.1 s.2.2.2.1 s.2.2.2.2.1 s.2.2.2.2.2.1 s.2.2.2.2.2.2.1 s.2.2.2.2.2.2.2.1 s.2.2.2.2.2.2.2.2) (fun s => I s.1 s.2.1 s.2.2.1 s.2.2.2.1 s.2.2.2.2.1 s.2.2.2.2.2.1 s.2.2.2.2.2.2.1 s.2.2.2.2.2.2.2.1 s.2.2.2.2.2.2.2.2) (fun s => μ s.1 s.2.1 s.2.2.1 s.2.2.2.1 s.2.2.2.2.1 s.2.2.2.2.2.1 s.2.2.2.2.2.2.1 s.2.2.2.2.2.2.2.1 s.2.2.2.2.2.2.2.2) (fun n s hI hk => hs n s.1 s.2.1 s.2.2.1 s.2.2.2.1 s.2.2.2.2.1 s.2.2.2.2.2.1 s.2.2.2.2.2.2.1 s.2.2.2.2.2.2.2.1 s.2.2.2.2.2.2.2.2 hI (fun b1 b2 b3 b4 b5 b6 b7 b8 b9 h9 hm => hk (b1, b2, b3, b4, b5, b6, b7, b8, b9) h9 hm)) (a1, a2, a3, a4, a5, a6, a7, a8, a9) h
theorem lp10 {A1 A2 A3 A4 A5 A6 A7 A8 A9 A10 : Type} (W : Nat → A1 → A2 → A3 → A4 → A5 → A6 → A7 → A8 → A9 → A10 → Prop) (I : A1 → A2 → A3 → A4 → A5 → A6 → A7 → A8 → A9 → A10 → Prop) (μ : A1 → A2 → A3 → A4 → A5 → A6 → A7 → A8 → A9 → A10 → Nat) (hs : ∀ (n : Nat) (a1 : A1) (a2 : A2) (a3 : A3) (a4 : A4) (a5 : A5) (a6 : A6) (a7 : A7) (a8 : A8) (a9 : A9) (a10 : A10), I a1 a2 a3 a4 a5 a6 a7 a8 a9 a10 → (∀ (b1 : A1) (b2 : A2) (b3 : A3) (b4 : A4) (b5 : A5) (b6 : A6) (b7 : A7) (b8 : A8) (b9 : A9) (b10 : A10), I b1 b2 b3 b4 b5 b6 b7 b8 b9 b10 → μ b1 b2 b3 b4 b5 b6 b7 b8 b9 b10 < μ a1 a2 a3 a4 a5 a6 a7 a8 a9 a10 → W n b1 b2 b3 b4 b5 b6 b7 b8 b9 b10) → W (n + 1) a1 a2 a3 a4 a5 a6 a7 a8 a9 a10) (a1 : A1) (a2 : A2) (a3 : A3) (a4 : A4) (a5 : A5) (a6 : A6) (a7 : A7) (a8 : A8) (a9 : A9) (a10 : A10) (h : I a1 a2 a3 a4 a5 a6 a7 a8 a9 a10) : ∃ n, W n a1 a2 a3 a4 a5 a6 a7 a8 a9 a10 :=
  loop_m (σ := A1 × A2 × A3 × A4 × A5 × A6 × A7 × A8 × A9 × A10) (fun n s => W n s.1 s.2.1 s.2.2.1 s.2.2.2.1 s.2.2.2.2.1 s.2.2.2.2.2.1 s.2.2.2.2.2.2.1 s.2.2.2.2.2.2.2.1 s.2.2.2.2.2.2.2.2.1 s.2.2.2.2.2.2.2.2.2) (fun s => I s.1 s.2.1 s.2.2.1 s.2.2.2.1 s.2.2.2.2.1 s.2.2.2.2.2.1 s.2.2.2.2.2.2.1 s.2.2.2.2.2.2.2.1 s.2.2.2.2.2.2.2.2.1 s.2.2.2.2.2.2.2.2.2) (fun s => μ s.1 s.2.1 s.2.2.1 s.2.2.2.1 s.2.2.2.2.1 s.2.2.2.2.2.1 s.2.2.2.2.2.2.1 s.2.2.2.2.2.2.2.1 s.2.2.2.2.2.2.2.2.1 s.2.2.2.2.2.2.2.2.2) (fun n s hI hk => hs n s.1 s.2.1 s.2.2.1 s.2.2.2.1 s.2.2.2.2.1 s.2.2.2.2.2.1 s.2.2.2.2.2.2.1 s.2.2.2.2.2.2.2.1 s.2.2.2.2.2.2.2.2.1 s.2.2.2.2.2.2.2.2.2 hI (fun b1 b2 b3 b4 b5 b6 b7 b8 b9 b10 h9 hm => hk (b1, b2, b3, b4, b5, b6, b7, b8, b9, b10) h9 hm)) (a1, a2, a3, a4, a5, a6, a7, a8, a9, a10) h
theorem lp11 {A1 A2 A3 A4 A5 A6 A7 A8 A9 A10 A11 : Type} (W : Nat → A1 → A2 → A3 → A4 → A5 → A6 → A7 → A8 → A9 → A10 → A11 → Prop) (I : A1 → A2 → A3 → A4 → A5 → A6 → A7 → A8 → A9 → A10 → A11 → Prop) (μ : A1 → A2 → A3 → A4 → A5 → A6 → A7 → A8 → A9 → A10 → A11 → Nat) (hs : ∀ (n : Nat) (a1 : A1) (a2 : A2) (a3 : A3) (a4 : A4) (a5 : A5) (a6 : A6) (a7 : A7) (a8 : A8) (a9 : A9) (a10 : A10) (a11 : A11), I a1 a2 a3 a4 a5 a6 a7 a8 a9 a10 a11 → (∀ (b1 : A1) (b2 : A2) (b3 : A3) (b4 : A4) (b5 : A5) (b6 : A6) (b7 : A7) (b8 : A8) (b9 : A9) (b10 : A10) (b11 : A11), I b1 b2 b3 b4 b5 b6 b7 b8 b9 b10 b11 → μ b1 b2 b3 b4 b5 b6 b7 b8 b9 b10 b11 < μ a1 a2 a3 a4 a5 a6 a7 a8 a9 a10 a11 → W n b1 b2 b3 b4 b5 b6 b7 b8 b9 b10 b11) → W (n + 1) a1 a2 a3 a4 a5 a6 a7 a8 a9 a10 a11) (a1 : A1) (a2 : A2) (a3 : A3) (a4 : A4) (a5 : A5) (a6 : A6) (a7 : A7) (a8 : A8) (a9 : A9) (a10 : A10) (a11 : A11) (h : I a1 a2 a3 a4 a5 a6 a7 a8 a9 a10 a11) : ∃ n, W n a1 a2 a3 a4 a5 a6 a7 a8 a9 a10 a11 :=
  loop_m (σ := A1 × A2 × A3 × A4 × A5 × A6 × A7 × A8 × A9 × A10 × A11) (fun n s => W n s.1 s.2.1 s.2.2.1 s.2.2.2.1 s.2.2.2.2.1 s.2.2.2.2.2.1 s.2.2.2.2.2.2.1 s.2.2.2.2.2.2.2.1 s.2.2.2.2.2.2.2.2.1 s.2.2.2.2.2.2.2.2.2.1 s.2.2.2.2.2.2.2.2.2.2) (fun s => I s.1 s.2.1 s.2.2.1 s.2.2.2.1 s.2.2.2.2.1 s.2.2.2.2.2.1 s.2.2.2.2.2.2.1 s.2.2.2.2.2.2.2.1 s.2.2.2.2.2.2.2.2.1 s.2.2.2.2.2.2.2.2.2.1 s.2.2.2.2.2.2.2.2.2.2) (fun s => μ s.1 s.2.1 s.2.2.1 s.2.2.2.1 s.2.2.2.2.1 s.2.2.2.2.2.1 s.2.2.2.2.2.2.1 s.2.2.2.2.2.2.2.1 s.2.2.2.2.2.2.2.2.1 s.2.2.2.2.2.2.2.2.2.1 s.2.2.2.2.2.2.2.2.2.2) (fun n s hI hk => hs n s.1 s.2.1 s.2.2.1 s.2.2.2.1 s.2.2.2.2.1 s.2.2.2.2.2.1 s.2.2.2.2.2.2.1 s.2.2.2.2.2.2.2.1 s.2.2.2.2.2.2.2.2.1 s.2.2.2.2.2.2.2.2.2.1 s.2.2.2.2.2.2.2.2.2.2 hI (fun b1 b2 b3 b4 b5 b6 b7 b8 b9 b10 b11 h9 hm => hk (b1, b2, b3, b4, b5, b6, b7, b8, b9, b10, b11) h9 hm)) (a1, a2, a3, a4, a5, a6, a7, a8, a9, a10, a11) h
theorem lp12 {A1 A2 A3 A4 A5 A6 A7 A8 A9 A10 A11 A12 : Type} (W : Nat → A1 → A2 → A3 → A4 → A5 → A6 → A7 → A8 → A9 → A10 → A11 → A12 → Prop) (I : A1 → A2 → A3 → A4 → A5 → A6 → A7 → A8 → A9 → A10 → A11 → A12 → Prop) (μ : A1 → A2 → A3 → A4 → A5 → A6 → A7 → A8 → A9 → A10 → A11 → A12 → Nat) (hs : ∀ (n : Nat) (a1 : A1) (a2 : A2) (a3 : A3) (a4 : A4) (a5 : A5) (a6 : A6) (a7 : A7) (a8 : A8) (a9 : A9) (a10 : A10) (a11 : A11) (a12 : A12), I a1 a2 a3 a4 a5 a6 a7 a8 a9 a10 a11 a12 → (∀ (b1 : A1) (b2 : A2) (b3 : A3) (b4 : A4) (b5 : A5) (b6 : A6) (b7 : A7) (b8 : A8) (b9 : A9) (b10 : A10) (b11 : A11) (b12 : A12), I b1 b2 b3 b4 b5 b6 b7 b8 b9 b10 b11 b12 → μ b1 b2 b3 b4 b5 b6 b7 b8 b9 b10 b11 b12 < μ a1 a2 a3 a4 a5 a6 a7 a8 a9 a10 a11 a12 → W n b1 b2 b3 b4 b5 b6 b7 b8 b9 b10 b11 b12) → W (n + 1) a1 a2 a3 a4 a5 a6 a7 a8 a9 a10 a11 a12) (a1 : A1) (a2 : A2) (a3 : A3) (a4 : A4) (a5 : A5) (a6 : A6) (a7 : A7) (a8 : A8) (a9 : A9) (a10 : A10) (a11 : A11) (a12 : A12) (h : I a1 a2 a3 a4 a5 a6 a7 a8 a9 a10 a11 a12) : ∃ n, W n a1 a2 a3 a4 a5 a6 a7 a8 a9 a10 a11 a12 :=
  loop_m (σ := A1 × A2 × A3 × A4 × A5 × A6 × A7 × A8 × A9 × A10 × A11 × A12) (fun n s => W n s.1 s.2.1 s.2.2.1 s.2.2.2.1 s.2.2.2.2.1 s.2.2.2.2.2.1 s.2.2.2.2.2.2.1 s.2.2.2.2.2.2.2.1 s.2.2.2.2.2.2.2.2.1 s.2.2.2.2.2.2.2.2.2.1 s.2.2.2.2.2.2.2.2.2.2.1 s.2.2.2.2.2.2.2.2.2.2.2) (fun s => I s.1 s.2.1 s.2.2.1 s.2.2.2.1 s.2.2.2.2.1 s.2.2.2.2.2.1 s.2.2.2.2.2.2.1 s.2.2.2.2.2.2.2.1 s.2.2.2.2.2.2.2.2.1 s.2.2.2.2.2.2.2.2.2.1 s.2.2.2.2.2.2.2.2.2.2.1 s.2.2.2.2.2.2.2.2.2.2.2) (fun s => μ s.1 s.2.1 s.2.2.1 s.2.2.2.1 s.2.2.2.2.1 s.2.2.2.2.2.1 s.2.2.2.2.2.2.1 s.2.2.2.2.2.2.2.1 s.2.2.2.2.2.2.2.2.1 s.2.2.2.2.2.2.2.2.2.1 s.2.2.2.2.2.2.2.2.2.2.1 s.2.2.2.2.2.2.2.2.2.2.2) (fun n s hI hk => hs n s.1 s.2.1 s.2.2.1 s.2.2.2.1 s.2.2.2.2.1 s.2.2.2.2.2.1 s.2.2.2.2.2.2.1 s.2.2.2.2.2.2.2.1 s.2.2.2.2.2.2.2.2.1 s.2.2.2.2.2.2.2.2.2.1 s.2.2.2.2.2.2.2.2.2.2.1 s.2.2.2.2.2.2.2.2.2.2.2 hI (fun b1 b2 b3 b4 b5 b6 b7 b8 b9 b10 b11 b12 h9 hm => hk (b1, b2, b3, b4, b5, b6, b7, b8, b9, b10, b11, b12) h9 hm)) (a1, a2, a3, a4, a5, a6, a7, a8, a9, a10, a11, a12) h
theorem lp13 {A1 A2 A3 A4 A5 A6 A7 A8 A9 A10 A11 A12 A13 : Type} (W : Nat → A1 → A2 → A3 → A4 → A5 → A6 → A7 → A8 → A9 → A10 → A11 → A12 → A13 → Prop) (I : A1 → A2 → A3 → A4 → A5 → A6 → A7 → A8 → A9 → A10 → A11 → A12 → A13 → Prop) (μ : A1 → A2 → A3 → A4 → A5 → A6 → A7 → A8 → A9 → A10 → A11 → A12 → A13 → Nat) (hs : ∀ (n : Nat) (a1 : A1) (a2 : A2) (a3 : A3) (a4 : A4) (a5 : A5) (a6 : A6) (a7 : A7) (a8 : A8) (a9 : A9) (a10 : A10) (a11 : A11) (a12 : A12) (a13 : A13), I a1 a2 a3 a4 a5 a6 a7 a8 a9 a10 a11 a12 a13 → (∀ (b1 : A1) (b2 : A2) (b3 : A3) (b4 : A4) (b5 : A5) (b6 : A6) (b7 : A7) (b8 : A8) (b9 : A9) (b10 : A10) (b11 : A11) (b12 : A12) (b13 : A13), I b1 b2 b3 b4 b5 b6 b7 b8 b9 b10 b11 b12 b13 → μ b1 b2 b3 b4 b5 b6 b7 b8 b9 b10 b11 b12 b13 < μ a1 a2 a3 a4 a5 a6 a7 a8 a9 a10 a11 a12 a13 → W n b1 b2 b3 b4 b5 b6 b7 b8 b9 b10 b11 b12 b13) → W (n + 1) a1 a2 a3 a4 a5 a6 a7 a8 a9 a10 a11 a12 a13) (a1 : A1) (a2 : A2) (a3 : A3) (a4 : A4) (a5 : A5) (a6 : A6) (a7 : A7) (a8 : A8) (a9 : A9) (a10 : A10) (a11 : A11) (a12 : A12) (a13 : A13) (h : I a1 a2 a3 a4 a5 a6 a7 a8 a9 a10 a11 a12 a13) : ∃ n, W n a1 a2 a3 a4 a5 a6 a7 a8 a9 a10 a11 a12 a13 :=
  loop_m (σ := A1 × A2 × A3 × A4 × A5 × A6 × A7 × A8 × A9 × A10 × A11 × A12 × A13) (fun n s => W n s.1 s.2.1 s.2.2.1 s.2.2.2.1 s.2.2.2.2.1 s.2.2.2.2.2.1 s.2.2.2.2.2.2.1 s.2.2.2.2.2.2.2.1 s.2.2.2.2.2.2.2.2.1 s.2.2.2.2.2.2.2.2.2.1 s.2.2.2.2.2.2.2.2.2.2.1 s.2.2.2.2.2.2.2.2.2.2.2.1 s.2.2.2.2.2.2.2.2.2.2.2.2) (fun s => I s.1 s.2.1 s.2.2.1 s.2.2.2.1 s.2.2.2.2.1 s.2.2.2.2.2.1 s.2.2.2.2.2.2.1 s.2.2.2.2.2.2.2.1 s.2.2.2.2.2.2.2.2.1 s.2.2.2.2.2.2.2.2.2.1 s.2.2.2.2.2.2.2.2.2.2.1 s.2.2.2.2.2.2.2.2.2.2.2.1 s.2.2.2.2.2.2.2.2.2.2.2.2) (fun s => μ s.1 s.2.1 s.2.2.1 s.2.2.2.1 s.2.2.2.2.1 s.2.2.2.2.2.1 s.2.2.2.2.2.2.1 s.2.2.2.2.2.2.2.1 s.2.2.2.2.2.2.2.2.1 s.2.2.2.2.2.2.2.2.2.1 s.2.2.2.2.2.2.2.2.2.2.1 s.2.2.2.2.2.2.2.2.2.2.2.1 s.2.2.2.2.2.2.2.2.2.2.2.2) (fun n s hI hk => hs n s.1 s.2.1 s.2.2.1 s.2.2.2.1 s.2.2.2.2.1 s.2.2.2.2.2.1 s.2.2.2.2.2.2.1 s.2.2.2.2.2.2.2.1 s.2.2.2.2.2.2.2.2.1 s.2.2.2.2.2.2.2.2.2.1 s.2.2.2.2.2.2.2.2.2.2.1 s.2.2.2.2.2.2.2.2.2.2.2.1 s.2.2.2.2.2.2.2.2.2.2.2.2 hI (fun b1 b2 b3 b4 b5 b6 b7 b8 b9 b10 b11 b12 b13 h9 hm => hk (b1, b2, b3, b4, b5, b6, b7, b8, b9, b10, b11, b12, b13) h9 hm)) (a1, a2, a3, a4, a5, a6, a7, a8, a9, a10, a11, a12, a13) h
theorem lp14 {A1 A2 A3 A4 A5 A6 A7 A8 A9 A10 A11 A12 A13 A14 : Type} (W : Nat → A1 → A2 → A3 → A4 → A5 → A6 → A7 → A8 → A9 → A10 → A11 → A12 → A13 → A14 → Prop) (I : A1 → A2 → A3 → A4 → A5 → A6 → A7 → A8 → A9 → A10 → A11 → A12 → A13 → A14 → Prop) (μ : A1 → A2 → A3 → A4 → A5 → A6 → A7 → A8 → A9 → A10 → A11 → A12 → A13 → A14 → Nat) (hs : ∀ (n : Nat) (a1 : A1) (a2 : A2) (a3 : A3) (a4 : A4) (a5 : A5) (a6 : A6) (a7 : A7) (a8 : A8) (a9 : A9) (a10 : A10) (a11 : A11) (a12 : A12) (a13 : A13) (a14 : A14), I a1 a2 a3 a4 a5 a6 a7 a8 a9 a10 a11 a12 a13 a14 → (∀ (b1 : A1) (b2 : A2) (b3 : A3) (b4 : A4) (b5 : A5) (b6 : A6) (b7 : A7) (b8 : A8) (b9 : A9) (b10 : A10) (b11 : A11) (b12 : A12) (b13 : A13) (b14 : A14), I b1 b2 b3 b4 b5 b6 b7 b8 b9 b10 b11 b12 b13 b14 → μ b1 b2 b3 b4 b5 b6 b7 b8 b9 b10 b11 b12 b13 b14 < μ a1 a2 a3 a4 a5 a6 a7 a8 a9 a10 a11 a12 a13 a14 → W n b1 b2 b3 b4 b5 b6 b7 b8 b9 b10 b11 b12 b13 b14) → W (n + 1) a1 a2 a3 a4 a5 a6 a7 a8 a9 a10 a11 a12 a13 a14) (a1 : A1) (a2 : A2) (a3 : A3) (a4 : A4) (a5 : A5) (a6 : A6) (a7 : A7) (a8 : A8) (a9 : A9) (a10 : A10) (a11 : A11) (a12 : A12) (a13 : A13) (a14 : A14) (h : I a1 a2 a3 a4 a5 a6 a7 a8 a9 a10 a11 a12 a13 a14) : ∃ n, W n a1 a2 a3 a4 a5 a6 a7 a8 a9 a10 a11 a12 a13 a14 :=
  loop_m (σ := A1 × A2 × A3 × A4 × A5 × A6 × A7 × A8 × A9 × A10 × A11 × A12 × A13 × A14) (fun n s => W n s.1 s.2.1 s.2.2.1 s.2.2.2.1 s.2.2.2.2.1 s.2.2.2.2.2.1 s.2.2.2.2.2.2.1 s.2.2.2.2.2.2.2.1 s.2.2.2.2.2.2.2.2.1 s.2.2.2.2.2.2.2.2.2.1 s.2.2.2.2.2.2.2.2.2.2.1 s.2.2.2.2.2.2.2.2.2.2.2.1 s.2.2.2.2.2.2.2.2.2.2.2.2.1 s.2.2.2.2.2.2.2.2.2.2.2.2.2) (fun s => I s.1 s.2.1 s.2.2.1 s.2.2.2.1 s.2.2.2.2.1 s.2.2.2.2.2.1 s.2.2.2.2.2.2.1 s.2.2.2.2.2.2.2.1 s.2.2.2.2.2.2.2.2.1 s.2.2.2.2.2.2.2.2.2.1 s.2.2.2.2.2.2.2.2.2.2.1 s.2.2.2.2.2.2.2.2.2.2.2.1 s.2.2.2.2.2.2.2.2.2.2.2.2.1 s.2.2.2.2.2.2.2.2.2.2.2.2.2) (fun s => μ s.1 s.2.1 s.2.2.1 s.2.2.2.1 s.2.2.2.2.1 s.2.2.2.2.2.1 s.2.2.2.2.2.2.1 s.2.2.2.2.2.2.2.1 s.2.2.2.2.2.2.2.2.1 s.2.2.2.2.2.2.2.2.2.1 s.2.2.2.2.2.2.2.2.2.2.1 s.2.2.2.2.2.2.2.2.2.2.2.1 s.2.2.2.2.2.2.2.2.2.2.2.2.1 s.2.2.2.2.2.2.2.2.2.2.2.2.2) (fun n s hI hk => hs n s.1 s.2.1 s.2.2.1 s.2.2.2.1 s.2.2.2.2.1 s.2.2.2.2.2.1 s.2.2.2.2.2.2.1 s.2.2.2.2.2.2.2.1 s.2.2.2.2.2.2.2.2.1 s.2.2.2.2.2.2.2.2.2.1 s.2.2.2.2.2.2.2.2.2.2.1 s.2.2.2.2.2.2.2.2.2.2.2.1 s.2.2.2.2.2.2.2.2.2.2.2.2.1 s.2.2.2.2.2.2.2.2.2.2.2.2.2 hI (fun b1 b2 b3 b4 b5 b6 b7 b8 b9 b10 b11 b12 b13 b14 h9 hm => hk (b1, b2, b3, b4, b5, b6, b7, b8, b9, b10, b11, b12, b13, b14) h9 hm)) (a1, a2, a3, a4, a5, a6, a7, a8, a9, a10, a11, a12, a13, a14) h
theorem lp15 {A1 A2 A3 A4 A5 A6 A7 A8 A9 A10 A11 A12 A13 A14 A15 : Type} (W : Nat → A1 → A2 → A3 → A4 → A5 → A6 → A7 → A8 → A9 → A10 → A11 → A12 → A13 → A14 → A15 → Prop) (I : A1 → A2 → A3 → A4 → A5 → A6 → A7 → A8 → A9 → A10 → A11 → A12 → A13 → A14 → A15 → Prop) (μ : A1 → A2 → A3 → A4 → A5 → A6 → A7 → A8 → A9 → A10 → A11 → A12 → A13 → A14 → A15 → Nat) (hs : ∀ (n : Nat) (a1 : A1) (a2 : A2) (a3 : A3) (a4 : A4) (a5 : A5) (a6 : A6) (a7 : A7) (a8 : A8) (a9 : A9) (a10 : A10) (a11 : A11) (a12 : A12) (a13 : A13) (a14 : A14) (a15 : A15), I a1 a2 a3 a4 a5 a6 a7 a8 a9 a10 a11 a12 a13 a14 a15 → (∀ (b1 : A1) (b2 : A2) (b3 : A3) (b4 : A4) (b5 : A5) (b6 : A6) (b7 : A7) (b8 : A8) (b9 : A9) (b10 : A10) (b11 : A11) (b12 : A12) (b13 : A13) (b14 : A14) (b15 : A15), I b1 b2 b3 b4 b5 b6 b7 b8 b9 b10 b11 b12 b13 b14 b15 → μ b1 b2 b3 b4 b5 b6 b7 b8 b9 b10 b11 b12 b13 b14 b15 < μ a1 a2 a3 a4 a5 a6 a7 a8 a9 a10 a11 a12 a13 a14 a15 → W n b1 b2 b3 b4 b5 b6 b7 b8 b9 b10 b11 b12 b13 b14 b15) → W (n + 1) a1 a2 a3 a4 a5 a6 a7 a8 a9 a10 a11 a12 a13 a14 a15) (a1 : A1) (a2 : A2) (a3 : A3) (a4 : A4) (a5 : A5) (a6 : A6) (a7 : A7) (a8 : A8) (a9 : A9) (a10 : A10) (a11 : A11) (a12 : A12) (a13 : A13) (a14 : A14) (a15 : A15) (h : I a1 a2 a3 a4 a5 a6 a7 a8 a9 a10 a11 a12 a13 a14 a15) : ∃ n, W n a1 a2 a3 a4 a5 a6 a7 a8 a9 a10 a11 a12 a13 a14 a15 :=
  loop_m (σ := A1 × A2 × A3 × A4 × A5 × A6 × A7 × A8 × A9 × A10 × A11 × A12 × A13 × A14 × A15) (fun n s => W n s.1 s.2.1 s.2.2.1 s.2.2.2.1 s.2.2.2.2.1 s.2.2.2.2.2.1 s.2.2.2.2.2.2.1 s.2.2.2.2.2.2.2.1 s.2.2.2.2.2.2.2.2.1 s.2.2.2.2.2.2.2.2.2.1 s.2.2.2.2.2.2.2.2.2.2.1 s.2.2.2.2.2.2.2.2.2.2.2.1 s.2.2.2.2.2.2.2.2.2.2.2.2.1 s.2.2.2.2.2.2.2.2.2.2.2.2.2.1 s.2.2.2.2.2.2.2.2.2.2.2.2.2.2) (fun s => I s.1 s.2.1 s.2.2.1 s.2.2.2.1 s.2.2.2.2.1 s.2.2.2.2.2.1 s.2.2.2.2.2.2.1 s.2.2.2.2.2.2.2.1 s.2.2.2.2.2.2.2.2.1 s.2.2.2.2.2.2.2.2.2.1 s.2.2.2.2.2.2.2.2.2.2.1 s.2.2.2.2.2.2.2.2.2.2.2.1 s.2.2.2.2.2.2.2.2.2.2.2.2.1 s.2.2.2.2.2.2.2.2.2.2.2.2.2.1 s.2.2.2.2.2.2.2.2.2.2.2.2.2.2) (fun s => μ s.1 s.2.1 s.2.2.1 s.2.2.2.1 s.2.2.2.2.1 s.2.2.2.2.2.1 s.2.2.2.2.2.2.1 s.2.2.2.2.2.2.2.1 s.2.2.2.2.2.2.2.2.1 s.2.2.2.2.2.2.2.2.2.1 s.2.2.2.2.2.2.2.2.2.2.1 s.2.2.2.2.2.2.2.2.2.2.2.1 s.2.2.2.2.2.2.2.2.2.2.2.2.1 s.2.2.2.2.2.2.2.2.2.2.2.2.2.1 s.2.2.2.2.2.2.2.2.2.2.2.2.2.2) (fun n s hI hk => hs n s.1 s.2.1 s.2.2.1 s.2.2.2.1 s.2.2.2.2.1 s.2.2.2.2.2.1 s.2.2.2.2.2.2.1 s.2.2.2.2.2.2.2.1 s.2.2.2.2.2.2.2.2.1 s.2.2.2.2.2.2.2.2.2.1 s.2.2.2.2.2.2.2.2.2.2.1 s.2.2.2.2.2.2.2.2.2.2.2.1 s.2.2.2.2.2.2.2.2.2.2.2.2.1 s.2.2.2.2.2.2.2.2.2.2.2.2.2.1 s.2.2.2.2.2.2.2.2.2.2.2.2.2.2 hI (fun b1 b2 b3 b4 b5 b6 b7 b8 b9 b10 b11 b12 b13 b14 b15 h9 hm => hk (b1, b2, b3, b4, b5, b6, b7, b8, b9, b10, b11, b12, b13, b14, b15) h9 hm)) (a1, a2, a3, a4, a5, a6, a7, a8, a9, a10, a11, a12, a13, a14, a15) h
theorem lp16 {A1 A2 A3 A4 A5 A6 A7 A8 A9 A10 A11 A12 A13 A14 A15 A16 : Type} (W : Nat → A1 → A2 → A3 → A4 → A5 → A6 → A7 → A8 → A9 → A10 → A11 → A12 → A13 → A14 → A15 → A16 → Prop) (I : A1 → A2 → A3 → A4 → A5 → A6 → A7 → A8 → A9 → A10 → A11 → A12 → A13 → A14 → A15 → A16 → Prop) (μ : A1 → A2 → A3 → A4 → A5 → A6 → A7 → A8 → A9 → A10 → A11 → A12 → A13 → A14 → A15 → A16 → Nat) (hs : ∀ (n : Nat) (a1 : A1) (a2 : A2) (a3 : A3) (a4 : A4) (a5 : A5) (a6 : A6) (a7 : A7) (a8 : A8) (a9 : A9) (a10 : A10) (a11 : A11) (a12 : A12) (a13 : A13) (a14 : A14) (a15 : A15) (a16 : A16), I a1 a2 a3 a4 a5 a6 a7 a8 a9 a10 a11 a12 a13 a14 a15 a16 → (∀ (b1 : A1) (b2 : A2) (b3 : A3) (b4 : A4) (b5 : A5) (b6 : A6) (b7 : A7) (b8 : A8) (b9 : A9) (b10 : A10) (b11 : A11) (b12 : A12) (b13 : A13) (b14 : A14) (b15 : A15) (b16 : A16), I b1 b2 b3 b4 b5 b6 b7 b8 b9 b10 b11 b12 b13 b14 b15 b16 → μ b1 b2 b3 b4 b5 b6 b7 b8 b9 b10 b11 b12 b13 b14 b15 b16 < μ a1 a2 a3 a4 a5 a6 a7 a8 a9 a10 a11 a12 a13 a14 a15 a16 → W n b1 b2 b3 b4 b5 b6 b7 b8 b9 b10 b11 b12 b13 b14 b15 b16) → W (n + 1) a1 a2 a3 a4 a5 a6 a7 a8 a9 a10 a11 a12 a13 a14 a15 a16) (a1 : A1) (a2 : A2) (a3 : A3) (a4 : A4) (a5 : A5) (a6 : A6) (a7 : A7) (a8 : A8) (a9 : A9) (a10 : A10) (a11 : A11) (a12 : A12) (a13 : A13) (a14 : A14) (a15 : A15) (a16 : A16) (h : I a1 a2 a3 a4 a5 a6 a7 a8 a9 a10 a11 a12 a13 a14 a15 a16) : ∃ n, W n a1 a2 a3 a4 a5 a6 a7 a8 a9 a10 a11 a12 a13 a14 a15 a16 :=
  loop_m (σ := A1 × A2 × A3 × A4 × A5 × A6 × A7 × A8 × A9 × A10 × A11 × A12 × A13 × A14 × A15 × A16) (fun n s => W n s.1 s.2.1 s.2.2.1 s.2.2.2.1 s.2.2.2.2.1 s.2.2.2.2.2.1 s.2.2.2.2.2.2.1 s.2.2.2.2.2.2.2.1 s.2.2.2.2.2.2.2.2.1 s.2.2.2.2.2.2.2.2.2.1 s.2.2.2.2.2.2.2.2.2.2.1 s.2.2.2.2.2.2.2.2.2.2.2.1 s.2.2.2.2.2.2.2.2.2.2.2.2.1 s.2.2.2.2.2.2.2.2.2.2.2.2.2.1 s.2.2.2.2.2.2.2.2.2.2.2.2.2.2.1 s.2.2.2.2.2.2.2.2.2.2.2.2.2.2.2) (fun s => I s.1 s.2.1 s.2.2.1 s.2.2.2.1 s.2.2.2.2.1 s.2.2.2.2.2.1 s.2.2.2.2.2.2.1 s.2.2.2.2.2.2.2.1 s.2.2.2.2.2.2.2.2.1 s.2.2.2.2.2.2.2.2.2.1 s.2.2.2.2.2.2.2.2.2.2.1 s.2.2.2.2.2.2.2.2.2.2.2.1 s.2.2.2.2.2.2.2.2.2.2.2.2.1 s.2.2.2.2.2.2.2.2.2.2.2.2.2.1 s.2.2.2.2.2.2.2.2.2.2.2.2.2.2.1 s.2.2.2.2.2.2.2.2.2.2.2.2.2.2.2) (fun s => μ s.1 s.2.1 s.2.2.1 s.2.2.2.1 s.2.2.2.2.1 s.2.2.2.2.2.1 s.2.2.2.2.2.2.1 s.2.2.2.2.2.2.2.1 s.2.2.2.2.2.2.2.2.1 s.2.2.2.2.2.2.2.2.2.1 s.2.2.2.2.2.2.2.2.2.2.1 s.2.2.2.2.2.2.2.2.2.2.2.1 s.2.2.2.2.2.2.2.2.2.2.2.2.1 s.2.2.2.2.2.2.2.2.2.2.2.2.2.1 s.2.2.2.2.2.2.2.2.2.2.2.2.2.2.1 s.2.2.2.2.2.2.2.2.2.2.2.2.2.2.2) (fun n s hI hk => hs n s.1 s.2.1 s.2.2.1 s.2.2.2.1 s.2.2.2.2.1 s.2.2.2.2.2.1 s.2.2.2.2.2.2.1 s.2.2.2.2.2.2.2.1 s.2.2.2.2.2.2.2.2.1 s.2.2.2.2.2.2.2.2.2.1 s.2.2.2.2.2.2.2.2.2.2.1 s.2.2.2.2.2.2.2.2.2.2.2.1 s.2.2.2.2.2.2.2.2.2.2.2.2.1 s.2.2.2.2.2.2.2.2.2.2.2.2.2.1 s.2.2.2.2.2.2.2.2.2.2.2.2.2.2.1 s.2.2.2.2.2.2.2.2.2.2.2.2.2.2.2 hI (fun b1 b2 b3 b4 b5 b6 b7 b8 b9 b10 b11 b12 b13 b14 b15 b16 h9 hm => hk (b1, b2, b3, b4, b5, b6, b7, b8, b9, b10, b11, b12, b13, b14, b15, b16) h9 hm)) (a1, a2, a3, a4, a5, a6, a7, a8, a9, a10, a11, a12, a13, a14, a15, a16) h
theorem pk_least (P : Nat → Prop) (h : ∃ k, P k) : ∃ k, P k ∧ ∀ j, j < k → ¬ P j := by
  obtain ⟨k, hk⟩ := h
  induction k using Nat.strongRecOn with
  | ind k ih =>
    by_cases e : ∃ j, j < k ∧ P j
    · obtain ⟨j, hj, pj⟩ := e
      exact ih j hj pj
    · exact ⟨k, hk, fun j hj pj => e ⟨j, hj, pj⟩⟩
theorem rp1 {ρ A1 : Type} (W : Nat → (ρ → Prop) → A1 → Prop) (ok : A1 → Prop) (μ : A1 → Nat) (val : A1 → ρ)
    (hs : ∀ (d : Nat) (post : ρ → Prop) (a1 : A1), ok a1 → post (val a1) → (∀ (post' : ρ → Prop) (b1 : A1), ok b1 → μ b1 < μ a1 → post' (val b1) → W d post' b1) → W (d + 1) post a1) :
    ∀ (d : Nat) (post : ρ → Prop) (a1 : A1), ok a1 → μ a1 < d → post (val a1) → W d post a1 := by
  intro d
  induction d with
  | zero => intro post a1 _ h; omega
  | succ d ih =>
    intro post a1 ho hm hp
    exact hs d post a1 ho hp (fun post' b1 ho' hm' hp' => ih post' b1 ho' (by omega) hp')
theorem rp2 {ρ A1 A2 : Type} (W : Nat → (ρ → Prop) → A1 → A2 → Prop) (ok : A1 → A2 → Prop) (μ : A1 → A2 → Nat) (val : A1 → A2 → ρ)
    (hs : ∀ (d : Nat) (post : ρ → Prop) (a1 : A1) (a2 : A2), ok a1 a2 → post (val a1 a2) → (∀ (post' : ρ → Prop) (b1 : A1) (b2 : A2), ok b1 b2 → μ b1 b2 < μ a1 a2 → post' (val b1 b2) → W d post' b1 b2) → W (d + 1) post a1 a2) :
    ∀ (d : Nat) (post : ρ → Prop) (a1 : A1) (a2 : A2), ok a1 a2 → μ a1 a2 < d → post (val a1 a2) → W d post a1 a2 := by
  intro d
  induction d with
  | zero => intro post a1 a2 _ h; omega
  | succ d ih =>
    intro post a1 a2 ho hm hp
    exact hs d post a1 a2 ho hp (fun post' b1 b2 ho' hm' hp' => ih post' b1 b2 ho' (by omega) hp')
theorem rp3 {ρ A1 A2 A3 : Type} (W : Nat → (ρ → Prop) → A1 → A2 → A3 → Prop) (ok : A1 → A2 → A3 → Prop) (μ : A1 → A2 → A3 → Nat) (val : A1 → A2 → A3 → ρ)
    (hs : ∀ (d : Nat) (post : ρ → Prop) (a1 : A1) (a2 : A2) (a3 : A3), ok a1 a2 a3 → post (val a1 a2 a3) → (∀ (post' : ρ → Prop) (b1 : A1) (b2 : A2) (b3 : A3), ok b1 b2 b3 → μ b1 b2 b3 < μ a1 a2 a3 → post' (val b1 b2 b3) → W d post' b1 b2 b3) → W (d + 1) post a1 a2 a3) :
    ∀ (d : Nat) (post : ρ → Prop) (a1 : A1) (a2 : A2) (a3 : A3), ok a1 a2 a3 → μ a1 a2 a3 < d → post (val a1 a2 a3) → W d post a1 a2 a3 := by
  intro d
  induction d with
  | zero => intro post a1 a2 a3 _ h; omega
  | succ d ih =>
    intro post a1 a2 a3 ho hm hp
    exact hs d post a1 a2 a3 ho hp (fun post' b1 b2 b3 ho' hm' hp' => ih post' b1 b2 b3 ho' (by omega) hp')
theorem rp4 {ρ A1 A2 A3 A4 : Type} (W : Nat → (ρ → Prop) → A1 → A2 → A3 → A4 → Prop) (ok : A1 → A2 → A3 → A4 → Prop) (μ : A1 → A2 → A3 → A4 → Nat) (val : A1 → A2 → A3 → A4 → ρ)
    (hs : ∀ (d : Nat) (post : ρ → Prop) (a1 : A1) (a2 : A2) (a3 : A3) (a4 : A4), ok a1 a2 a3 a4 → post (val a1 a2 a3 a4) → (∀ (post' : ρ → Prop) (b1 : A1) (b2 : A2) (b3 : A3) (b4 : A4), ok b1 b2 b3 b4 → μ b1 b2 b3 b4 < μ a1 a2 a3 a4 → post' (val b1 b2 b3 b4) → W d post' b1 b2 b3 b4) → W (d + 1) post a1 a2 a3 a4) :
    ∀ (d : Nat) (post : ρ → Prop) (a1 : A1) (a2 : A2) (a3 : A3) (a4 : A4), ok a1 a2 a3 a4 → μ a1 a2 a3 a4 < d → post (val a1 a2 a3 a4) → W d post a1 a2 a3 a4 := by
  intro d
  induction d with
  | zero => intro post a1 a2 a3 a4 _ h; omega
  | succ d ih =>
    intro post a1 a2 a3 a4 ho hm hp
    exact hs d post a1 a2 a3 a4 ho hp (fun post' b1 b2 b3 b4 ho' hm' hp' => ih post' b1 b2 b3 b4 ho' (by omega) hp')
theorem rp5 {ρ A1 A2 A3 A4 A5 : Type} (W : Nat → (ρ → Prop) → A1 → A2 → A3 → A4 → A5 → Prop) (ok : A1 → A2 → A3 → A4 → A5 → Prop) (μ : A1 → A2 → A3 → A4 → A5 → Nat) (val : A1 → A2 → A3 → A4 → A5 → ρ)
    (hs : ∀ (d : Nat) (post : ρ → Prop) (a1 : A1) (a2 : A2) (a3 : A3) (a4 : A4) (a5 : A5), ok a1 a2 a3 a4 a5 → post (val a1 a2 a3 a4 a5) → (∀ (post' : ρ → Prop) (b1 : A1) (b2 : A2) (b3 : A3) (b4 : A4) (b5 : A5), ok b1 b2 b3 b4 b5 → μ b1 b2 b3 b4 b5 < μ a1 a2 a3 a4 a5 → post' (val b1 b2 b3 b4 b5) → W d post' b1 b2 b3 b4 b5) → W (d + 1) post a1 a2 a3 a4 a5) :
    ∀ (d : Nat) (post : ρ → Prop) (a1 : A1) (a2 : A2) (a3 : A3) (a4 : A4) (a5 : A5), ok a1 a2 a3 a4 a5 → μ a1 a2 a3 a4 a5 < d → post (val a1 a2 a3 a4 a5) → W d post a1 a2 a3 a4 a5 := by
  intro d
  induction d with
  | zero => intro post a1 a2 a3 a4 a5 _ h; omega
  | succ d ih =>
    intro post a1 a2 a3 a4 a5 ho hm hp
    exact hs d post a1 a2 a3 a4 a5 ho hp (fun post' b1 b2 b3 b4 b5 ho' hm' hp' => ih post' b1 b2 b3 b4 b5 ho' (by omega) hp')
theorem rp6 {ρ A1 A2 A3 A4 A5 A6 : Type} (W : Nat → (ρ → Prop) → A1 → A2 → A3 → A4 → A5 → A6 → Prop) (ok : A1 → A2 → A3 → A4 → A5 → A6 → Prop) (μ : A1 → A2 → A3 → A4 → A5 → A6 → Nat) (val : A1 → A2 → A3 → A4 → A5 → A6 → ρ)
    (hs : ∀ (d : Nat) (post : ρ → Prop) (a1 : A1) (a2 : A2) (a3 : A3) (a4 : A4) (a5 : A5) (a6 : A6), ok a1 a2 a3 a4 a5 a6 → post (val a1 a2 a3 a4 a5 a6) → (∀ (post' : ρ → Prop) (b1 : A1) (b2 : A2) (b3 : A3) (b4 : A4) (b5 : A5) (b6 : A6), ok b1 b2 b3 b4 b5 b6 → μ b1 b2 b3 b4 b5 b6 < μ a1 a2 a3 a4 a5 a6 → post' (val b1 b2 b3 b4 b5 b6) → W d post' b1 b2 b3 b4 b5 b6) → W (d + 1) post a1 a2 a3 a4 a5 a6) :
    ∀ (d : Nat) (post : ρ → Prop) (a1 : A1) (a2 : A2) (a3 : A3) (a4 : A4) (a5 : A5) (a6 : A6), ok a1 a2 a3 a4 a5 a6 → μ a1 a2 a3 a4 a5 a6 < d → post (val a1 a2 a3 a4 a5 a6) → W d post a1 a2 a3 a4 a5 a6 := by
  intro d
  induction d with
  | zero => intro post a1 a2 a3 a4 a5 a6 _ h; omega
  | succ d ih =>
    intro post a1 a2 a3 a4 a5 a6 ho hm hp
    exact hs d post a1 a2 a3 a4 a5 a6 ho hp (fun post' b1 b2 b3 b4 b5 b6 ho' hm' hp' => ih post' b1 b2 b3 b4 b5 b6 ho' (by omega) hp')
theorem rec_p {σ ρ : Type} (W : Nat → (ρ → Prop) → σ → Prop) (ok : σ → Prop) (μ : σ → Nat) (val : σ → ρ)
    (hs : ∀ d s post, ok s → post (val s) → (∀ s' post', ok s' → μ s' < μ s → post' (val s') → W d post' s') → W (d + 1) post s) :
    ∀ d s post, ok s → μ s < d → post (val s) → W d post s := by
  intro d
  induction d with
  | zero => intro s post _ h; omega
  | succ d ih =>
    intro s post ho hm hp
    exact hs d s post ho hp (fun s' post' ho' hm' hp' => ih s' post' ho' (by omega) hp')
theorem rec_q {σ ρ : Type} (W : Nat → (ρ → Prop) → σ → Prop) (ok : σ → Prop) (μ : σ → Nat) (Q : σ → ρ → Prop)
    (hs : ∀ d s post, ok s → (∀ r, Q s r → post r) → (∀ s' post', ok s' → μ s' < μ s → (∀ r, Q s' r → post' r) → W d post' s') → W (d + 1) post s) :
    ∀ d s post, ok s → μ s < d → (∀ r, Q s r → post r) → W d post s := by
  intro d
  induction d with
  | zero => intro s post _ h; omega
  | succ d ih =>
    intro s post ho hm hp
    exact hs d s post ho hp (fun s' post' ho' hm' hp' => ih s' post' ho' (by omega) hp')
def bx_sum (f : Nat → Int32) : Nat → Int32
  | 0 => 0
  | n + 1 => bx_sum f n + f n
theorem ek_u {A : Prop} {B : Nat → Prop} {k N : Nat} (hk : k < N) (h : B k) : (some k = none → A) ∧ (∀ y : Nat, some k = some y → (y < N ∧ B y)) :=
  ⟨fun z => absurd z (Option.some_ne_none k), fun _ e => (by cases e; exact ⟨hk, h⟩)⟩
theorem ek_nu {A : Prop} {B : Nat → Prop} (h : A) : ((none : Option Nat) = none → A) ∧ (∀ y : Nat, (none : Option Nat) = some y → B y) :=
  ⟨fun _ => h, fun _ e => (by cases e)⟩
theorem ek_if {c d A B : Prop} (e : c ↔ d) (f : d → A) (g : ¬ d → B) : (c → A) ∧ (¬ c → B) :=
  ⟨fun z => f (e.mp z), fun z => g (fun y => z (e.mpr y))⟩
theorem ek_v {α : Sort _} {P : α → Prop} {a b : α} (e : a = b) (h : P b) : P a := e ▸ h
theorem co_some {x : Option Nat} {A : Prop} {B : Nat → Prop} (i : Nat) (h : B i) (hx : x = some i := by rfl) : (x = none → A) ∧ (∀ y : Nat, x = some y → B y) := by
  subst hx
  exact ⟨fun e => (nomatch e), fun y e => Option.some.inj e ▸ h⟩
theorem co_none {x : Option Nat} {A : Prop} {B : Nat → Prop} (h : A) (hx : x = none := by rfl) : (x = none → A) ∧ (∀ y : Nat, x = some y → B y) := by
  subst hx
  exact ⟨fun _ => h, fun y e => (nomatch e)⟩
theorem co_any {x : Option Nat} {A : Prop} {B : Nat → Prop} (hn : x = none → A) (hs : ∀ i : Nat, x = some i → B i) : (x = none → A) ∧ (∀ y : Nat, x = some y → B y) := ⟨hn, hs⟩
theorem co_2 {P : Nat → Prop} (h0 : P 0) (h1 : P 1) {i : Nat} (hi : i < 2) : P i :=
  match i, hi with
  | 0, _ => h0
  | 1, _ => h1
theorem co_3 {P : Nat → Prop} (h0 : P 0) (h1 : P 1) (h2 : P 2) {i : Nat} (hi : i < 3) : P i :=
  match i, hi with
  | 0, _ => h0
  | 1, _ => h1
  | 2, _ => h2
theorem co_4 {P : Nat → Prop} (h0 : P 0) (h1 : P 1) (h2 : P 2) (h3 : P 3) {i : Nat} (hi : i < 4) : P i :=
  match i, hi with
  | 0, _ => h0
  | 1, _ => h1
  | 2, _ => h2
  | 3, _ => h3
theorem co_dec {N : Nat} {P : Nat → Prop} [DecidablePred P] (h : (List.range N).all (fun i => decide (P i)) = true) {i : Nat} (hi : i < N) : P i := by
  have := List.all_eq_true.mp h i (List.mem_range.mpr hi)
  exact of_decide_eq_true this
theorem co_tab {α : Type} {l : List α} {d : α} {P : α → Prop} (h : ∀ a, a ∈ l → P a) {i : Nat} (hi : i < l.length) : P (l.getD i d) := by
  rw [List.getD_eq_getElem?_getD, List.getElem?_eq_getElem hi]
  exact h _ (List.getElem_mem hi)
theorem pk_mu {x : Int32} {L : Nat} (h0 : ¬ x < 0) (h : ¬ nI L ≤ x) (hL : L < 2 ^ 31) : ∃ j : Nat, j < L ∧ x = nI j ∧ x + 1 = nI (j + 1) ∧ x.toNatClampNeg = j ∧ L - (x + 1).toNatClampNeg < L - x.toNatClampNeg := by
  obtain ⟨j, hj, rfl⟩ := nI_of h0
  have hl : j < L := Nat.not_le.mp fun q => h (nI_le q hj)
  refine ⟨j, hl, rfl, nI_1 j, nI_clamp hj, ?_⟩
  rw [nI_1, nI_clamp (by omega), nI_clamp hj]
  omega
theorem op_s {α : Type} {r : Option α} {A : Prop} {B : α → Prop} {y : α} (h : r = some y) (b : B y) : (r = none → A) ∧ ∀ z, r = some z → B z :=
  ⟨fun e => (by rw [h] at e; cases e), fun z e => (by rw [h] at e; cases e; exact b)⟩
def l_holds {α : Type} (a : Nat → Option Nat) (LP : List Nat) (p : Nat → α) (c : Nat) (b : Nat → α) : Prop :=
  ∀ j, j < c → ∃ y, a j = some y ∧ y ∈ LP ∧ p y = b j
theorem l_holds_0 {α : Type} {a : Nat → Option Nat} {LP : List Nat} {p b : Nat → α} : l_holds a LP p 0 b := fun j h => absurd h (Nat.not_lt_zero j)
theorem l_in_new (LP : List Nat) (q : Nat) : q ∈ LP ++ [q] := List.mem_append.mpr (Or.inr (List.mem_singleton.mpr rfl))
def l_sum (b : Nat → Int32) : Nat → Int32
  | 0 => 0
  | k + 1 => l_sum b k + b k
theorem sb_shr0 (x : Int32) : x >>> ((0 : Int32) &&& 31) = x := by
  rw [show ((0 : Int32) &&& 31) = 0 by decide]
  simp
theorem sb_shl0 (x : Int32) : x <<< ((0 : Int32) &&& 31) = x := by
  rw [show ((0 : Int32) &&& 31) = 0 by decide]
  simp
theorem sb_cl0 : (0 : Int32).toNatClampNeg = 0 := by decide
theorem sb_m1 {p : Nat} (h : 0 < p) : nI p + (-1) = nI (p - 1) := by
  obtain ⟨q, rfl⟩ : ∃ q, p = q + 1 := ⟨p - 1, by omega⟩
  exact pk_m1 q
def sb_b (c : Nat) : Int32 := (nI c).toInt8.toInt32
theorem sb_byte : ∀ c, c < 256 → sb_b c &&& 255 = nI c ∧ ((nI c).toUInt32 % 65536).toInt32 = nI c ∧ nI c ≤ 255 := by decide +kernel
def sb_Fit (a : Nat → Int32) : Prop := ∀ j, fits .byte (.int (a j)) = true
def sb_Lat (t : Nat → Nat) (n : Nat) (a : Nat → Int32) : Prop := ∀ j, j < n → t j < 256 ∧ a j = sb_b (t j)
theorem sb_fitB (c : Nat) : fits .byte (.int (sb_b c)) = true := pk_fb _
theorem sb_fit0 : sb_Fit (fun _ => 0) := fun _ => by
  show fits .byte (.int 0) = true
  decide
theorem sb_fitU {a : Nat → Int32} {k : Nat} {x : Int32} (h : sb_Fit a) (hx : fits .byte (.int x) = true) : sb_Fit (upd a k x) := by
  intro j
  by_cases e : j = k
  · subst e
    rw [pk_us]
    exact hx
  · rw [pk_un e]
    exact h j
def sb_cat (t : Nat → Nat) (n : Nat) (s : Nat → Nat) : Nat → Nat := fun j => if j < n then t j else s (j - n)
theorem sb_cat_lo {t s : Nat → Nat} {n j : Nat} (h : j < n) : sb_cat t n s j = t j := if_pos h
theorem sb_cat_hi {t s : Nat → Nat} {n j : Nat} : sb_cat t n s (n + j) = s j := by
  show (if n + j < n then t (n + j) else s (n + j - n)) = s j
  rw [if_neg (by omega), Nat.add_sub_cancel_left]
theorem sb_latPut {t s : Nat → Nat} {n w : Nat} {a a' : Nat → Int32} (h : sb_Lat t n a) (hk : ∀ j, j < n → a' j = a j) (hs : ∀ i, i < w → s i < 256 ∧ a' (n + i) = sb_b (s i)) : sb_Lat (sb_cat t n s) (n + w) a' := by
  intro j hj
  by_cases e : j < n
  · rw [sb_cat_lo e, hk j e]
    exact h j e
  · obtain ⟨i, rfl⟩ : ∃ i, j = n + i := ⟨j - n, by omega⟩
    rw [sb_cat_hi]
    exact hs i (by omega)
theorem sb_latKeep {t : Nat → Nat} {n : Nat} {a a' : Nat → Int32} (h : sb_Lat t n a) (hk : ∀ j, j < n → a' j = a j) : sb_Lat t n a' := fun j hj => by
  rw [hk j hj]
  exact h j hj
def sb_cap (q m : Nat) : Nat := if q ≤ m then m else if 2 * m + 2 < q then q else 2 * m + 2
def sb_Room (q m mc ms : Nat) : Prop := q ≤ m ∨ (1 ≤ mc ∧ sb_cap q m ≤ ms ∧ sb_cap q m ≤ 65536)
theorem sb_cap_ge (q m : Nat) : q ≤ sb_cap q m := by
  unfold sb_cap
  split
  · omega
  · split <;> omega
theorem sb_cap_gem (q m : Nat) : m ≤ sb_cap q m := by
  unfold sb_cap
  split
  · omega
  · split <;> omega
theorem sb_cap_le {q m mc ms : Nat} (hm : m ≤ 65536) (hr : sb_Room q m mc ms) : sb_cap q m ≤ 65536 := by
  rcases hr with h | h
  · rw [sb_cap, if_pos h]
    exact hm
  · exact h.2.2
theorem sb_at {P : Int32 → Prop} {x y : Int32} (e : x = y) (h : P y) : P x := e ▸ h
def sb_dg (w : Nat) : Nat := if w < 10 then 1 else if w < 100 then 2 else if w < 1000 then 3 else if w < 10000 then 4 else if w < 100000 then 5 else if w < 1000000 then 6 else if w < 10000000 then 7 else if w < 100000000 then 8 else if w < 1000000000 then 9 else 10
def sb_dec (v : Nat) : Nat → Nat := fun i => 48 + v / 10 ^ (sb_dg v - 1 - i) % 10
theorem sb_dg_in (w : Nat) : 1 ≤ sb_dg w ∧ sb_dg w ≤ 10 := by
  unfold sb_dg
  constructor <;> (repeat' split) <;> omega
theorem sb_dg100 {w : Nat} (h : 100 ≤ w) (hw : w < 2 ^ 31) : sb_dg w = sb_dg (w / 100) + 2 := by
  rw [sb_dg, sb_dg, if_neg (show ¬ w < 10 by omega), if_neg (show ¬ w < 100 by omega)]
  by_cases h3 : w < 1000
  · rw [if_pos h3, if_pos (show w / 100 < 10 by omega)]
  rw [if_neg h3, if_neg (show ¬ w / 100 < 10 by omega)]
  by_cases h4 : w < 10000
  · rw [if_pos h4, if_pos (show w / 100 < 100 by omega)]
  rw [if_neg h4, if_neg (show ¬ w / 100 < 100 by omega)]
  by_cases h5 : w < 100000
  · rw [if_pos h5, if_pos (show w / 100 < 1000 by omega)]
  rw [if_neg h5, if_neg (show ¬ w / 100 < 1000 by omega)]
  by_cases h6 : w < 1000000
  · rw [if_pos h6, if_pos (show w / 100 < 10000 by omega)]
  rw [if_neg h6, if_neg (show ¬ w / 100 < 10000 by omega)]
  by_cases h7 : w < 10000000
  · rw [if_pos h7, if_pos (show w / 100 < 100000 by omega)]
  rw [if_neg h7, if_neg (show ¬ w / 100 < 100000 by omega)]
  by_cases h8 : w < 100000000
  · rw [if_pos h8, if_pos (show w / 100 < 1000000 by omega)]
  rw [if_neg h8, if_neg (show ¬ w / 100 < 1000000 by omega)]
  by_cases h9 : w < 1000000000
  · rw [if_pos h9, if_pos (show w / 100 < 10000000 by omega)]
  rw [if_neg h9, if_neg (show ¬ w / 100 < 10000000 by omega)]
  rw [if_pos (show w / 100 < 100000000 by omega)]
theorem sb_negT {w : Nat} (h : w < 2 ^ 31) : (-nI w).toInt = -(w : Int) := by
  rw [Int32.toInt_neg, nI_toInt h]
  exact Int.bmod_eq_of_le (by omega) (by omega)
theorem sb_nle {a b : Nat} (ha : a < 2 ^ 31) (hb : b < 2 ^ 31) : -nI a ≤ -nI b ↔ b ≤ a := by
  rw [Int32.le_iff_toInt_le, sb_negT ha, sb_negT hb]
  omega
theorem sb_nlt {a b : Nat} (ha : a < 2 ^ 31) (hb : b < 2 ^ 31) : -nI a < -nI b ↔ b < a := by
  rw [Int32.lt_iff_toInt_lt, sb_negT ha, sb_negT hb]
  omega
theorem sb_cmp {A B : Prop} {x : Int32} (v c : Nat) (f : c ≤ v → A) (g : v < c → B) (hv : v < 2 ^ 31) (hx : x = -nI c := by rfl) (hc : c < 2 ^ 31 := by omega) : (-nI v ≤ x → A) ∧ (¬ -nI v ≤ x → B) := by
  subst hx
  rw [sb_nle hv hc]
  exact ⟨f, fun z => g (by omega)⟩
theorem sb_ndiv {w : Nat} (hw : w < 2 ^ 31) : (-nI w) / 100 = -nI (w / 100) := by
  apply Int32.toInt_inj.mp
  have h100 : (100 : Int32).toInt = 100 := by decide
  rw [Int32.toInt_div, sb_negT hw, h100, sb_negT (by omega), Int.neg_tdiv, Int.tdiv_eq_ediv_of_nonneg (by omega), Int.bmod_eq_of_le (by omega) (by omega)]
  omega
theorem sb_nrem {w : Nat} (hw : w < 2 ^ 31) : (-nI (w / 100)) * 100 - (-nI w) = nI (w % 100) := by
  have h := pk_rem (a := w) (d := 100) hw (by decide) (by decide)
  rw [pk_div hw (by decide) (by decide)] at h
  rw [← h]
  show (-nI (w / 100)) * nI 100 - (-nI w) = nI w - nI (w / 100) * nI 100
  rw [Int32.neg_mul, Int32.sub_neg, Int32.add_comm, ← Int32.sub_eq_add_neg]
end
section
abbrev gm_V : Type := Int × Int × Int × Int
def gm_mx (a : Int) (P : gm_V) (b : Int) (Q : gm_V) : gm_V :=
  (a * P.1 + b * Q.1, a * P.2.1 + b * Q.2.1, a * P.2.2.1 + b * Q.2.2.1, a * P.2.2.2 + b * Q.2.2.2)
def gm_Lin (f : gm_V → Int) : Prop := ∀ a P b Q, f (gm_mx a P b Q) = a * f P + b * f Q
def gm_dot (p q r s : Int) (P : gm_V) : Int := p * P.1 + q * P.2.1 + r * P.2.2.1 + s * P.2.2.2
theorem gm_lin_dot (p q r s : Int) : gm_Lin (gm_dot p q r s) := by
  intro a P b Q
  simp only [gm_dot, gm_mx]
  grind
theorem gm_lin_comb {f g : gm_V → Int} (hf : gm_Lin f) (hg : gm_Lin g) (p q : Int) : gm_Lin (fun P => p * f P + q * g P) := by
  intro a P b Q
  have h1 := hf a P b Q
  have h2 := hg a P b Q
  show p * f (gm_mx a P b Q) + q * g (gm_mx a P b Q) = a * (p * f P + q * g P) + b * (p * f Q + q * g Q)
  rw [h1, h2]
  grind
theorem gm_ext {P Q : gm_V} (h1 : P.1 = Q.1) (h2 : P.2.1 = Q.2.1) (h3 : P.2.2.1 = Q.2.2.1) (h4 : P.2.2.2 = Q.2.2.2) : P = Q :=
  Prod.ext h1 (Prod.ext h2 (Prod.ext h3 h4))
def gm_g4 (P : gm_V) : Nat := Nat.gcd (Nat.gcd (Nat.gcd P.1.natAbs P.2.1.natAbs) P.2.2.1.natAbs) P.2.2.2.natAbs
def gm_dv (P : gm_V) (g : Int) : gm_V := (P.1.tdiv g, P.2.1.tdiv g, P.2.2.1.tdiv g, P.2.2.2.tdiv g)
def gm_rd (P : gm_V) : gm_V := if 1 < gm_g4 P then gm_dv P (gm_g4 P) else P
theorem gm_g4_dvd (P : gm_V) : (gm_g4 P : Int) ∣ P.1 ∧ (gm_g4 P : Int) ∣ P.2.1 ∧ (gm_g4 P : Int) ∣ P.2.2.1 ∧ (gm_g4 P : Int) ∣ P.2.2.2 := by
  have h4 : gm_g4 P ∣ P.2.2.2.natAbs := Nat.gcd_dvd_right _ _
  have k3 : gm_g4 P ∣ Nat.gcd (Nat.gcd P.1.natAbs P.2.1.natAbs) P.2.2.1.natAbs := Nat.gcd_dvd_left _ _
  have h3 : gm_g4 P ∣ P.2.2.1.natAbs := Nat.dvd_trans k3 (Nat.gcd_dvd_right _ _)
  have k2 := Nat.dvd_trans k3 (Nat.gcd_dvd_left _ _)
  have h2 : gm_g4 P ∣ P.2.1.natAbs := Nat.dvd_trans k2 (Nat.gcd_dvd_right _ _)
  have h1 : gm_g4 P ∣ P.1.natAbs := Nat.dvd_trans k2 (Nat.gcd_dvd_left _ _)
  exact ⟨Int.ofNat_dvd_left.mpr h1, Int.ofNat_dvd_left.mpr h2, Int.ofNat_dvd_left.mpr h3, Int.ofNat_dvd_left.mpr h4⟩
theorem gm_rd_mul (P : gm_V) : ∃ g : Int, 1 ≤ g ∧ P = gm_mx g (gm_rd P) 0 (gm_rd P) := by
  by_cases h : 1 < gm_g4 P
  · obtain ⟨d1, d2, d3, d4⟩ := gm_g4_dvd P
    refine ⟨gm_g4 P, by omega, ?_⟩
    have e : gm_rd P = gm_dv P (gm_g4 P) := if_pos h
    have aux : ∀ x : Int, (gm_g4 P : Int) ∣ x → x = (gm_g4 P : Int) * x.tdiv (gm_g4 P) + 0 * x.tdiv (gm_g4 P) := by
      intro x hx
      rw [Int.zero_mul, Int.add_zero, Int.mul_tdiv_cancel' hx]
    rw [e]
    exact gm_ext (aux _ d1) (aux _ d2) (aux _ d3) (aux _ d4)
  · refine ⟨1, by omega, ?_⟩
    have e : gm_rd P = P := if_neg h
    have aux : ∀ x : Int, x = 1 * x + 0 * x := by intro x; omega
    rw [e]
    exact gm_ext (aux _) (aux _) (aux _) (aux _)
theorem gm_rd_lin {f : gm_V → Int} (hf : gm_Lin f) (P : gm_V) : ∃ g : Int, 1 ≤ g ∧ f P = g * f (gm_rd P) := by
  obtain ⟨g, h, e⟩ := gm_rd_mul P
  refine ⟨g, h, ?_⟩
  have k := hf g (gm_rd P) 0 (gm_rd P)
  have k2 : f P = f (gm_mx g (gm_rd P) 0 (gm_rd P)) := congrArg f e
  rw [k2, k, Int.zero_mul, Int.add_zero]
theorem gm_sgn {g r p : Int} (hg : 1 ≤ g) (e : p = g * r) : (0 < r ↔ 0 < p) ∧ (r < 0 ↔ p < 0) ∧ (r = 0 ↔ p = 0) := by
  rcases Int.lt_trichotomy r 0 with h | h | h
  · have := Int.mul_neg_of_pos_of_neg (a := g) (b := r) (by omega) h
    refine ⟨?_, ?_, ?_⟩ <;> omega
  · subst h
    rw [Int.mul_zero] at e
    refine ⟨?_, ?_, ?_⟩ <;> omega
  · have := Int.mul_pos (a := g) (b := r) (by omega) h
    refine ⟨?_, ?_, ?_⟩ <;> omega
theorem gm_rd_sg {f : gm_V → Int} (hf : gm_Lin f) (P : gm_V) : (0 < f (gm_rd P) ↔ 0 < f P) ∧ (f (gm_rd P) < 0 ↔ f P < 0) ∧ (f (gm_rd P) = 0 ↔ f P = 0) := by
  obtain ⟨g, h, e⟩ := gm_rd_lin hf P
  exact gm_sgn h e
theorem gm_g4_mul (g : Nat) (Q P : gm_V) (h1 : P.1.natAbs = g * Q.1.natAbs) (h2 : P.2.1.natAbs = g * Q.2.1.natAbs) (h3 : P.2.2.1.natAbs = g * Q.2.2.1.natAbs) (h4 : P.2.2.2.natAbs = g * Q.2.2.2.natAbs) : gm_g4 P = g * gm_g4 Q := by
  unfold gm_g4
  rw [h1, h2, h3, h4, Nat.gcd_mul_left, Nat.gcd_mul_left, Nat.gcd_mul_left]
theorem gm_rd_prim (P : gm_V) (h : gm_g4 P ≠ 0) : gm_g4 (gm_rd P) = 1 := by
  by_cases h1 : 1 < gm_g4 P
  · have e : gm_rd P = gm_dv P (gm_g4 P) := if_pos h1
    obtain ⟨d1, d2, d3, d4⟩ := gm_g4_dvd P
    have aux : ∀ x : Int, (gm_g4 P : Int) ∣ x → x.natAbs = gm_g4 P * (x.tdiv (gm_g4 P)).natAbs := by
      intro x hx
      have k := congrArg Int.natAbs (Int.mul_tdiv_cancel' hx)
      rw [Int.natAbs_mul, Int.natAbs_natCast] at k
      exact k.symm
    have k := gm_g4_mul (gm_g4 P) (gm_dv P (gm_g4 P)) P (aux _ d1) (aux _ d2) (aux _ d3) (aux _ d4)
    rw [e]
    exact Nat.eq_of_mul_eq_mul_left (by omega : 0 < gm_g4 P) (k.symm.trans (Nat.mul_one _).symm)
  · have e : gm_rd P = P := if_neg h1
    rw [e]; omega
theorem gm_prim_le {R T : gm_V} {p q : Int} (hR : gm_g4 R = 1) (hp : p ≠ 0) (h1 : p * R.1 = q * T.1) (h2 : p * R.2.1 = q * T.2.1) (h3 : p * R.2.2.1 = q * T.2.2.1) (h4 : p * R.2.2.2 = q * T.2.2.2) :
    R.1.natAbs ≤ T.1.natAbs ∧ R.2.1.natAbs ≤ T.2.1.natAbs ∧ R.2.2.1.natAbs ≤ T.2.2.1.natAbs ∧ R.2.2.2.natAbs ≤ T.2.2.2.natAbs := by
  have aux : ∀ x y : Int, p * x = q * y → p.natAbs * x.natAbs = q.natAbs * y.natAbs := by
    intro x y h
    have k := congrArg Int.natAbs h
    rwa [Int.natAbs_mul, Int.natAbs_mul] at k
  have s1 : gm_g4 (p * R.1, p * R.2.1, p * R.2.2.1, p * R.2.2.2) = p.natAbs * gm_g4 R :=
    gm_g4_mul _ _ _ (Int.natAbs_mul _ _) (Int.natAbs_mul _ _) (Int.natAbs_mul _ _) (Int.natAbs_mul _ _)
  have s2 : gm_g4 (p * R.1, p * R.2.1, p * R.2.2.1, p * R.2.2.2) = q.natAbs * gm_g4 T := by
    rw [h1, h2, h3, h4]
    exact gm_g4_mul _ _ _ (Int.natAbs_mul _ _) (Int.natAbs_mul _ _) (Int.natAbs_mul _ _) (Int.natAbs_mul _ _)
  have s3 : p.natAbs = q.natAbs * gm_g4 T := by rw [← s2, s1, hR, Nat.mul_one]
  have hp' : 0 < p.natAbs := by omega
  have hg : 1 ≤ gm_g4 T := by
    rcases Nat.eq_zero_or_pos (gm_g4 T) with h | h
    · rw [h, Nat.mul_zero] at s3; omega
    · exact h
  have hq : q.natAbs ≤ p.natAbs := by rw [s3]; exact Nat.le_mul_of_pos_right _ hg
  have fin : ∀ x y : Int, p * x = q * y → x.natAbs ≤ y.natAbs := by
    intro x y h
    have k := aux x y h
    have k2 : p.natAbs * x.natAbs ≤ p.natAbs * y.natAbs := by rw [k]; exact Nat.mul_le_mul_right _ hq
    exact Nat.le_of_mul_le_mul_left k2 hp'
  exact ⟨fin _ _ h1, fin _ _ h2, fin _ _ h3, fin _ _ h4⟩
def gm_ot (n : gm_V → Int) (P N : gm_V) : List gm_V :=
  (if 0 ≤ n P then [gm_rd (gm_mx 1 P 0 N)] else []) ++ (if 0 < n P ∧ n N < 0 then [gm_rd (gm_mx (-(n N)) P (n P) N)] else []) ++ (if n P < 0 ∧ 0 < n N then [gm_rd (gm_mx (n N) P (-(n P)) N)] else [])
theorem gm_ot_c (n : gm_V → Int) (P N : gm_V) :
    (0 < n P ∧ n N < 0 ∧ gm_ot n P N = [gm_rd (gm_mx 1 P 0 N), gm_rd (gm_mx (-(n N)) P (n P) N)]) ∨
    (0 ≤ n P ∧ (n P = 0 ∨ 0 ≤ n N) ∧ gm_ot n P N = [gm_rd (gm_mx 1 P 0 N)]) ∨
    (n P < 0 ∧ 0 < n N ∧ gm_ot n P N = [gm_rd (gm_mx (n N) P (-(n P)) N)]) ∨
    (n P < 0 ∧ n N ≤ 0 ∧ gm_ot n P N = []) := by
  unfold gm_ot
  by_cases h1 : 0 ≤ n P
  · have h3 : ¬ (n P < 0 ∧ 0 < n N) := by omega
    by_cases h2 : 0 < n P ∧ n N < 0
    · left; rw [if_pos h1, if_pos h2, if_neg h3]; exact ⟨h2.1, h2.2, rfl⟩
    · right; left; rw [if_pos h1, if_neg h2, if_neg h3]; exact ⟨h1, by omega, rfl⟩
  · have h2 : ¬ (0 < n P ∧ n N < 0) := by omega
    by_cases h3 : n P < 0 ∧ 0 < n N
    · right; right; left; rw [if_neg h1, if_neg h2, if_pos h3]; exact ⟨h3.1, h3.2, rfl⟩
    · right; right; right; rw [if_neg h1, if_neg h2, if_neg h3]; exact ⟨by omega, by omega, rfl⟩
def gm_cg (n : gm_V → Int) : List gm_V → List gm_V
  | [] => []
  | [_] => []
  | P :: N :: r => gm_ot n P N ++ gm_cg n (N :: r)
def gm_cl (L : List gm_V) : List gm_V := L ++ L.take 1
def gm_clip (n : gm_V → Int) (L : List gm_V) : List gm_V := gm_cg n (gm_cl L)
def gm_d (a b : Bool) : Nat := if a = b then 0 else 1
def gm_ch (s : gm_V → Bool) : List gm_V → Nat
  | [] => 0
  | [_] => 0
  | P :: N :: r => gm_d (s P) (s N) + gm_ch s (N :: r)
def gm_sg (f : gm_V → Int) (P : gm_V) : Bool := decide (0 < f P)
theorem gm_d_self (a : Bool) : gm_d a a = 0 := if_pos rfl
theorem gm_d_tri (a b c : Bool) : gm_d a c ≤ gm_d a b + gm_d b c := by revert a b c; decide
theorem gm_d_par (a b c : Bool) : (gm_d a b % 2 + gm_d b c) % 2 = gm_d a c := by revert a b c; decide
theorem gm_d_le (a b : Bool) : gm_d a b ≤ 1 := by revert a b; decide
theorem gm_d_mod (a b : Bool) : gm_d a b % 2 = gm_d a b := by revert a b; decide
theorem gm_kv {f : gm_V → Int} (hf : gm_Lin f) (P N : gm_V) : f (gm_mx 1 P 0 N) = f P := by
  rw [hf, Int.zero_mul, Int.add_zero, Int.one_mul]
theorem gm_kf {f : gm_V → Int} (hf : gm_Lin f) (P N : gm_V) : (0 < f (gm_rd (gm_mx 1 P 0 N)) ↔ 0 < f P) ∧ (f (gm_rd (gm_mx 1 P 0 N)) < 0 ↔ f P < 0) ∧ (f (gm_rd (gm_mx 1 P 0 N)) = 0 ↔ f P = 0) := by
  have h := gm_rd_sg hf (gm_mx 1 P 0 N)
  rwa [gm_kv hf] at h
theorem gm_xf {f : gm_V → Int} (hf : gm_Lin f) (a b : Int) (P N : gm_V) : (0 < f (gm_rd (gm_mx a P b N)) ↔ 0 < a * f P + b * f N) ∧ (f (gm_rd (gm_mx a P b N)) < 0 ↔ a * f P + b * f N < 0) ∧ (f (gm_rd (gm_mx a P b N)) = 0 ↔ a * f P + b * f N = 0) := by
  have h := gm_rd_sg hf (gm_mx a P b N)
  rwa [hf a P b N] at h
theorem gm_sP {f : gm_V → Int} (hf : gm_Lin f) (P N : gm_V) : gm_sg f (gm_rd (gm_mx 1 P 0 N)) = gm_sg f P :=
  decide_eq_decide.mpr (gm_kf hf P N).1
theorem gm_pp {a b x y : Int} (ha : 0 < a) (hb : 0 < b) (hx : 0 < x) (hy : 0 < y) : 0 < a * x + b * y := by
  have h1 := Int.mul_pos ha hx
  have h2 := Int.mul_pos hb hy
  omega
theorem gm_nn {a b x y : Int} (ha : 0 ≤ a) (hb : 0 ≤ b) (hx : 0 ≤ x) (hy : 0 ≤ y) : 0 ≤ a * x + b * y := by
  have h1 := Int.mul_nonneg ha hx
  have h2 := Int.mul_nonneg hb hy
  omega
theorem gm_np {a b x y : Int} (ha : 0 ≤ a) (hb : 0 ≤ b) (hx : x ≤ 0) (hy : y ≤ 0) : a * x + b * y ≤ 0 := by
  have h1 := Int.mul_nonneg ha (show 0 ≤ -x by omega)
  have h2 := Int.mul_nonneg hb (show 0 ≤ -y by omega)
  rw [Int.mul_neg] at h1 h2
  omega
theorem gm_sX {f : gm_V → Int} (hf : gm_Lin f) {a b : Int} (ha : 0 < a) (hb : 0 < b) (P N : gm_V) : gm_sg f (gm_rd (gm_mx a P b N)) = gm_sg f P ∨ gm_sg f (gm_rd (gm_mx a P b N)) = gm_sg f N := by
  have h := (gm_xf hf a b P N).1
  by_cases hP : 0 < f P
  · by_cases hN : 0 < f N
    · left
      exact decide_eq_decide.mpr ⟨fun _ => hP, fun _ => h.mpr (gm_pp ha hb hP hN)⟩
    · by_cases hX : 0 < f (gm_rd (gm_mx a P b N))
      · left; exact decide_eq_decide.mpr ⟨fun _ => hP, fun _ => hX⟩
      · right; exact decide_eq_decide.mpr ⟨fun z => absurd z hX, fun z => absurd z hN⟩
  · by_cases hN : 0 < f N
    · by_cases hX : 0 < f (gm_rd (gm_mx a P b N))
      · right; exact decide_eq_decide.mpr ⟨fun _ => hN, fun _ => hX⟩
      · left; exact decide_eq_decide.mpr ⟨fun z => absurd z hX, fun z => absurd z hP⟩
    · left
      have k := gm_np (a := a) (b := b) (x := f P) (y := f N) (by omega) (by omega) (by omega) (by omega)
      exact decide_eq_decide.mpr ⟨fun z => absurd (h.mp z) (by omega), fun z => absurd z hP⟩
theorem gm_ch_cg {n f : gm_V → Int} (hf : gm_Lin f) : ∀ (r : List gm_V) (U P : gm_V), gm_ch (gm_sg f) (U :: gm_cg n (P :: r)) ≤ gm_ch (gm_sg f) (U :: P :: r) := by
  intro r
  induction r with
  | nil => intro U P; exact Nat.zero_le _
  | cons N r ih =>
    intro U P
    have e : gm_cg n (P :: N :: r) = gm_ot n P N ++ gm_cg n (N :: r) := rfl
    have ih' : ∀ U, gm_ch (gm_sg f) (U :: gm_cg n (N :: r)) ≤ gm_d (gm_sg f U) (gm_sg f N) + gm_ch (gm_sg f) (N :: r) := fun U => ih U N
    rw [e]
    show _ ≤ gm_d (gm_sg f U) (gm_sg f P) + (gm_d (gm_sg f P) (gm_sg f N) + gm_ch (gm_sg f) (N :: r))
    generalize gm_cg n (N :: r) = K at ih' ⊢
    generalize gm_ch (gm_sg f) (N :: r) = c at ih' ⊢
    rcases gm_ot_c n P N with ⟨h1, h2, e⟩ | ⟨h1, h2, e⟩ | ⟨h1, h2, e⟩ | ⟨h1, h2, e⟩
    · rw [e]
      have sx := gm_sX hf (a := -(n N)) (b := n P) (by omega) h1 P N
      have i := ih' (gm_rd (gm_mx (-(n N)) P (n P) N))
      show gm_d (gm_sg f U) (gm_sg f (gm_rd (gm_mx 1 P 0 N))) + (gm_d (gm_sg f (gm_rd (gm_mx 1 P 0 N))) (gm_sg f (gm_rd (gm_mx (-(n N)) P (n P) N))) + gm_ch (gm_sg f) (gm_rd (gm_mx (-(n N)) P (n P) N) :: K)) ≤ _
      rw [gm_sP hf]
      rcases sx with s | s
      · rw [s] at i ⊢; rw [gm_d_self]; omega
      · rw [s] at i ⊢; rw [gm_d_self] at i; omega
    · rw [e]
      have i := ih' (gm_rd (gm_mx 1 P 0 N))
      show gm_d (gm_sg f U) (gm_sg f (gm_rd (gm_mx 1 P 0 N))) + gm_ch (gm_sg f) (gm_rd (gm_mx 1 P 0 N) :: K) ≤ _
      rw [gm_sP hf] at i ⊢
      omega
    · rw [e]
      have sx := gm_sX hf (a := n N) (b := -(n P)) h2 (by omega) P N
      have i := ih' (gm_rd (gm_mx (n N) P (-(n P)) N))
      show gm_d (gm_sg f U) (gm_sg f (gm_rd (gm_mx (n N) P (-(n P)) N))) + gm_ch (gm_sg f) (gm_rd (gm_mx (n N) P (-(n P)) N) :: K) ≤ _
      have tr := gm_d_tri (gm_sg f U) (gm_sg f P) (gm_sg f N)
      rcases sx with s | s
      · rw [s] at i ⊢; omega
      · rw [s] at i ⊢; rw [gm_d_self] at i; omega
    · rw [e]
      have i := ih' U
      have tr := gm_d_tri (gm_sg f U) (gm_sg f P) (gm_sg f N)
      show gm_ch (gm_sg f) (U :: K) ≤ _
      omega
theorem gm_ch_cons (s : gm_V → Bool) (P : gm_V) (L : List gm_V) : gm_ch s L ≤ gm_ch s (P :: L) := by
  cases L with
  | nil => exact Nat.zero_le _
  | cons N r => exact Nat.le_add_left _ _
theorem gm_ch_clip {n f : gm_V → Int} (hf : gm_Lin f) (L : List gm_V) : gm_ch (gm_sg f) (gm_clip n L) ≤ gm_ch (gm_sg f) (gm_cl L) := by
  cases L with
  | nil => exact Nat.zero_le _
  | cons P r =>
    have h : gm_ch (gm_sg f) (P :: gm_cg n (P :: (r ++ [P]))) ≤ gm_d (gm_sg f P) (gm_sg f P) + gm_ch (gm_sg f) (P :: (r ++ [P])) := gm_ch_cg hf (r ++ [P]) P P
    have h2 := gm_ch_cons (gm_sg f) P (gm_cg n (P :: (r ++ [P])))
    rw [gm_d_self] at h
    show gm_ch (gm_sg f) (gm_cg n (P :: (r ++ [P]))) ≤ gm_ch (gm_sg f) (P :: (r ++ [P]))
    omega
theorem gm_ch_par (s : gm_V → Bool) (E : gm_V) : ∀ (r : List gm_V) (P : gm_V), gm_ch s (P :: (r ++ [E])) % 2 = gm_d (s P) (s E) := by
  intro r
  induction r with
  | nil => intro P; show (gm_d (s P) (s E) + 0) % 2 = _; exact gm_d_mod _ _
  | cons N r ih =>
    intro P
    show (gm_d (s P) (s N) + gm_ch s (N :: (r ++ [E]))) % 2 = _
    rw [Nat.add_mod, ih N]
    exact gm_d_par _ _ _
theorem gm_ch_snoc (s : gm_V → Bool) (E : gm_V) : ∀ (r : List gm_V) (P : gm_V), gm_ch s (P :: (r ++ [E])) ≤ gm_ch s (P :: r) + 1 := by
  intro r
  induction r with
  | nil => intro P; exact gm_d_le (s P) (s E)
  | cons N r ih =>
    intro P
    have h := ih N
    show gm_d (s P) (s N) + gm_ch s (N :: (r ++ [E])) ≤ gm_d (s P) (s N) + gm_ch s (N :: r) + 1
    omega
theorem gm_ch_close (s : gm_V → Bool) (L : List gm_V) (h : gm_ch s L ≤ 2) : gm_ch s (gm_cl L) ≤ 2 := by
  cases L with
  | nil => exact Nat.zero_le _
  | cons P r =>
    have h1 := gm_ch_snoc s P r P
    have h2 := gm_ch_par s P r P
    rw [gm_d_self] at h2
    show gm_ch s (P :: (r ++ [P])) ≤ 2
    omega
def gm_CV (L : List gm_V) : Prop := ∀ f, gm_Lin f → gm_ch (gm_sg f) (gm_cl L) ≤ 2
theorem gm_cv_clip {n : gm_V → Int} {L : List gm_V} (h : gm_CV L) : gm_CV (gm_clip n L) := fun f hf =>
  gm_ch_close _ _ (Nat.le_trans (gm_ch_clip hf L) (h f hf))
theorem gm_cv_3 (A B C : gm_V) : gm_CV [A, B, C] := by
  intro f hf
  apply gm_ch_close
  show gm_d (gm_sg f A) (gm_sg f B) + (gm_d (gm_sg f B) (gm_sg f C) + 0) ≤ 2
  have h1 := gm_d_le (gm_sg f A) (gm_sg f B)
  have h2 := gm_d_le (gm_sg f B) (gm_sg f C)
  omega
theorem gm_sg_t {f : gm_V → Int} {P : gm_V} (h : 0 < f P) : gm_sg f P = true := decide_eq_true h
theorem gm_sg_f {f : gm_V → Int} {P : gm_V} (h : ¬ 0 < f P) : gm_sg f P = false := decide_eq_false h
theorem gm_ot_len (n : gm_V → Int) (P N : gm_V) : (gm_ot n P N).length ≤ 1 + gm_d (gm_sg n P) (gm_sg n N) := by
  rcases gm_ot_c n P N with ⟨h1, h2, e⟩ | ⟨h1, h2, e⟩ | ⟨h1, h2, e⟩ | ⟨h1, h2, e⟩
  · rw [e, gm_sg_t h1, gm_sg_f (by omega)]; exact Nat.le_refl 2
  · rw [e]; exact Nat.le_add_right _ _
  · rw [e]; exact Nat.le_add_right _ _
  · rw [e]; exact Nat.zero_le _
theorem gm_cg_len (n : gm_V → Int) : ∀ (r : List gm_V) (P : gm_V), (gm_cg n (P :: r)).length ≤ r.length + gm_ch (gm_sg n) (P :: r) := by
  intro r
  induction r with
  | nil => intro P; exact Nat.zero_le _
  | cons N r ih =>
    intro P
    have e : gm_cg n (P :: N :: r) = gm_ot n P N ++ gm_cg n (N :: r) := rfl
    have h1 := gm_ot_len n P N
    have h2 := ih N
    rw [e, List.length_append, List.length_cons]
    show _ ≤ r.length + 1 + (gm_d (gm_sg n P) (gm_sg n N) + gm_ch (gm_sg n) (N :: r))
    omega
theorem gm_clip_len {n : gm_V → Int} (hn : gm_Lin n) {L : List gm_V} (h : gm_CV L) : (gm_clip n L).length ≤ L.length + 2 := by
  cases L with
  | nil => exact Nat.zero_le _
  | cons P r =>
    have h1 := gm_cg_len n (r ++ [P]) P
    have h2 : gm_ch (gm_sg n) (P :: (r ++ [P])) ≤ 2 := h n hn
    rw [List.length_append, List.length_singleton] at h1
    show (gm_cg n (P :: (r ++ [P]))).length ≤ r.length + 1 + 2
    omega
end
section
def gm_ec (R : gm_V → gm_V → Prop) : List gm_V → Prop
  | [] => True
  | [_] => True
  | P :: N :: r => R P N ∧ gm_ec R (N :: r)
theorem gm_ec_cg {n : gm_V → Int} {R : gm_V → gm_V → Prop} {p : gm_V → Prop} (h : ∀ P N, R P N → ∀ X, X ∈ gm_ot n P N → p X) : ∀ (r : List gm_V) (P : gm_V), gm_ec R (P :: r) → ∀ X, X ∈ gm_cg n (P :: r) → p X := by
  intro r
  induction r with
  | nil => intro P _ X hX; exact absurd hX List.not_mem_nil
  | cons N r ih =>
    intro P hR X hX
    have e : gm_cg n (P :: N :: r) = gm_ot n P N ++ gm_cg n (N :: r) := rfl
    have hR' : R P N ∧ gm_ec R (N :: r) := hR
    rw [e] at hX
    rcases List.mem_append.mp hX with h1 | h1
    · exact h P N hR'.1 X h1
    · exact ih N hR'.2 X h1
theorem gm_cg_ec {n : gm_V → Int} {p : gm_V → Prop} : ∀ (r : List gm_V) (P : gm_V), (∀ X, X ∈ gm_cg n (P :: r) → p X) → gm_ec (fun P N => ∀ X, X ∈ gm_ot n P N → p X) (P :: r) := by
  intro r
  induction r with
  | nil => intro P _; exact trivial
  | cons N r ih =>
    intro P h
    have e : gm_cg n (P :: N :: r) = gm_ot n P N ++ gm_cg n (N :: r) := rfl
    rw [e] at h
    exact ⟨fun X hX => h X (List.mem_append.mpr (Or.inl hX)), ih N fun X hX => h X (List.mem_append.mpr (Or.inr hX))⟩
theorem gm_ec_2 {R S T : gm_V → gm_V → Prop} (h : ∀ P N, R P N → S P N → T P N) : ∀ (r : List gm_V) (P : gm_V), gm_ec R (P :: r) → gm_ec S (P :: r) → gm_ec T (P :: r) := by
  intro r
  induction r with
  | nil => intro P _ _; exact trivial
  | cons N r ih =>
    intro P h1 h2
    have k1 : R P N ∧ gm_ec R (N :: r) := h1
    have k2 : S P N ∧ gm_ec S (N :: r) := h2
    exact ⟨h P N k1.1 k2.1, ih N k1.2 k2.2⟩
theorem gm_ec_all {p : gm_V → Prop} : ∀ (r : List gm_V) (P : gm_V), (∀ X, X ∈ P :: r → p X) → gm_ec (fun P N => p P ∧ p N) (P :: r) := by
  intro r
  induction r with
  | nil => intro P _; exact trivial
  | cons N r ih =>
    intro P h
    exact ⟨⟨h P List.mem_cons_self, h N (List.mem_cons_of_mem _ List.mem_cons_self)⟩, ih N fun X hX => h X (List.mem_cons_of_mem _ hX)⟩
theorem gm_ec_first {R : gm_V → gm_V → Prop} (E : gm_V) : ∀ (r : List gm_V) (P : gm_V), gm_ec R (P :: (r ++ [E])) → ∀ X, X ∈ P :: r → ∃ N, R X N := by
  intro r
  induction r with
  | nil =>
    intro P h X hX
    have k : R P E ∧ gm_ec R [E] := h
    rcases List.mem_cons.mp hX with e | e
    · exact ⟨E, e ▸ k.1⟩
    · exact absurd e List.not_mem_nil
  | cons N r ih =>
    intro P h X hX
    have k : R P N ∧ gm_ec R (N :: (r ++ [E])) := h
    rcases List.mem_cons.mp hX with e | e
    · exact ⟨N, e ▸ k.1⟩
    · exact ih N k.2 X e
theorem gm_ch_split (b e : gm_V → Bool) : ∀ (r : List gm_V) (P : gm_V), gm_ec (fun P N => b P = true → b N = true → e P = e N) (P :: r) → gm_ch (fun P => b P && e P) (P :: r) + gm_ch (fun P => b P && !e P) (P :: r) ≤ gm_ch b (P :: r) := by
  intro r
  induction r with
  | nil => intro P _; exact Nat.le_refl _
  | cons N r ih =>
    intro P h
    have k : (b P = true → b N = true → e P = e N) ∧ gm_ec (fun P N => b P = true → b N = true → e P = e N) (N :: r) := h
    have i := ih N k.2
    have j : gm_d (b P && e P) (b N && e N) + gm_d (b P && !e P) (b N && !e N) ≤ gm_d (b P) (b N) := by
      have k1 := k.1
      revert k1
      generalize b P = x, b N = y, e P = z, e N = w
      revert x y z w
      decide
    show (gm_d (b P && e P) (b N && e N) + gm_ch (fun P => b P && e P) (N :: r)) + (gm_d (b P && !e P) (b N && !e N) + gm_ch (fun P => b P && !e P) (N :: r)) ≤ gm_d (b P) (b N) + gm_ch b (N :: r)
    omega
theorem gm_ch_z (s : gm_V → Bool) : ∀ (r : List gm_V) (P : gm_V), gm_ch s (P :: r) = 0 → ∀ X, X ∈ P :: r → s X = s P := by
  intro r
  induction r with
  | nil =>
    intro P _ X hX
    rcases List.mem_cons.mp hX with e | e
    · rw [e]
    · exact absurd e List.not_mem_nil
  | cons N r ih =>
    intro P h X hX
    have k : gm_d (s P) (s N) + gm_ch s (N :: r) = 0 := h
    have k1 : gm_d (s P) (s N) = 0 := by omega
    have k2 : gm_ch s (N :: r) = 0 := by omega
    have k3 : s P = s N := by
      by_cases z : s P = s N
      · exact z
      · have : gm_d (s P) (s N) = 1 := if_neg z
        omega
    rcases List.mem_cons.mp hX with e | e
    · rw [e]
    · rw [ih N k2 X e, k3]
theorem gm_ch_two (s : gm_V → Bool) (P : gm_V) (r : List gm_V) {X Y : gm_V} (hX : X ∈ P :: r) (hY : Y ∈ P :: r) (sX : s X = true) (sY : s Y = false) : 2 ≤ gm_ch s (P :: (r ++ [P])) := by
  have h2 := gm_ch_par s P r P
  rw [gm_d_self] at h2
  have h0 : gm_ch s (P :: (r ++ [P])) ≠ 0 := by
    intro z
    have m : ∀ Z, Z ∈ P :: r → Z ∈ P :: (r ++ [P]) := fun Z hZ => List.mem_append.mpr (Or.inl hZ : Z ∈ P :: r ∨ Z ∈ [P])
    have a := gm_ch_z s _ P z X (m X hX)
    have b := gm_ch_z s _ P z Y (m Y hY)
    rw [sX] at a
    rw [sY] at b
    exact absurd (a.trans b.symm) (by decide)
  omega
def gm_Cov (L : List gm_V) (D : gm_V) : Prop := ∀ g, gm_Lin g → (∀ P, P ∈ L → 0 ≤ g P) → 0 ≤ g D
theorem gm_tr {a b c x y z : Int} (hx : 0 < x) (hy : 0 < y) (hz : 0 < z) (h1 : a * y ≤ b * x) (h2 : b * z ≤ c * y) : a * z ≤ c * x := by
  have k1 := Int.mul_le_mul_of_nonneg_right h1 (Int.le_of_lt hz)
  have k2 := Int.mul_le_mul_of_nonneg_right h2 (Int.le_of_lt hx)
  have e1 : a * y * z = a * z * y := by grind
  have e2 : b * x * z = b * z * x := by grind
  have e3 : c * y * x = c * x * y := by grind
  rw [e1, e2] at k1
  rw [e3] at k2
  exact Int.le_of_mul_le_mul_right (Int.le_trans k1 k2) hy
theorem gm_min (n g : gm_V → Int) : ∀ L : List gm_V, (∃ A, A ∈ L ∧ 0 < n A) → ∃ A, A ∈ L ∧ 0 < n A ∧ ∀ P, P ∈ L → 0 < n P → g A * n P ≤ g P * n A := by
  intro L
  induction L with
  | nil => intro ⟨A, h, _⟩; exact absurd h List.not_mem_nil
  | cons Q L ih =>
    intro hA
    by_cases h : ∃ A, A ∈ L ∧ 0 < n A
    · obtain ⟨A, mA, pA, lA⟩ := ih h
      by_cases q : 0 < n Q ∧ g Q * n A < g A * n Q
      · refine ⟨Q, List.mem_cons_self, q.1, fun P hP pP => ?_⟩
        rcases List.mem_cons.mp hP with e | e
        · rw [e]; exact Int.le_refl _
        · exact gm_tr q.1 pA pP (Int.le_of_lt q.2) (lA P e pP)
      · refine ⟨A, List.mem_cons_of_mem _ mA, pA, fun P hP pP => ?_⟩
        rcases List.mem_cons.mp hP with e | e
        · rw [e] at pP ⊢
          by_cases z : g A * n Q ≤ g Q * n A
          · exact z
          · exact absurd ⟨pP, by omega⟩ q
        · exact lA P e pP
    · obtain ⟨A, mA, pA⟩ := hA
      rcases List.mem_cons.mp mA with e | e
      · rw [e] at pA
        refine ⟨Q, List.mem_cons_self, pA, fun P hP pP => ?_⟩
        rcases List.mem_cons.mp hP with e | e
        · rw [e]; exact Int.le_refl _
        · exact absurd ⟨P, e, pP⟩ h
      · exact absurd ⟨A, e, pA⟩ h
theorem gm_bd (g : gm_V → Int) : ∀ L : List gm_V, ∃ M : Int, 0 ≤ M ∧ ∀ P, P ∈ L → 0 ≤ g P + M := by
  intro L
  induction L with
  | nil => exact ⟨0, Int.le_refl _, fun P h => absurd h List.not_mem_nil⟩
  | cons Q L ih =>
    obtain ⟨M, h0, h⟩ := ih
    refine ⟨M + (g Q).natAbs, by omega, fun P hP => ?_⟩
    rcases List.mem_cons.mp hP with e | e
    · rw [e]; omega
    · have := h P e; omega
theorem gm_sg_of {f : gm_V → Int} {P : gm_V} (h : gm_sg f P = true) : 0 < f P := of_decide_eq_true h
theorem gm_chord {n g : gm_V → Int} (hn : gm_Lin n) (hg : gm_Lin g) {P0 : gm_V} {r : List gm_V} (cv : gm_CV (P0 :: r))
    (hk : ∀ P, P ∈ P0 :: r → 0 ≤ n P → 0 ≤ g P) (he : gm_ec (fun P N => ∀ X, X ∈ gm_ot n P N → 0 ≤ g X) (P0 :: (r ++ [P0])))
    {A B : gm_V} (mA : A ∈ P0 :: r) (mB : B ∈ P0 :: r) (pA : 0 < n A) (pB : n B < 0) : 0 ≤ n A * g B + (-(g A)) * n B := by
  by_cases z : 0 ≤ n A * g B + (-(g A)) * n B
  · exact z
  exfalso
  have ht := gm_lin_comb hg hn (n A) (-(g A))
  have hF := gm_lin_comb hn ht 1 (-(1 - n B))
  have cF := cv _ hF
  have eA : n A * g A + (-(g A)) * n A = 0 := by grind
  have hP' : ∀ P, P ∈ P0 :: (r ++ [P0]) → P ∈ P0 :: r := by
    intro P h
    rcases List.mem_append.mp (show P ∈ (P0 :: r) ++ [P0] from h) with h | h
    · exact h
    · rw [List.mem_singleton.mp h]; exact List.mem_cons_self
  have neg0 : ∀ X : gm_V, n X = 0 → 0 ≤ g X → 1 * n X + (-(1 - n B)) * (n A * g X + (-(g A)) * n X) ≤ 0 := by
    intro X h0 h1
    rw [h0, Int.mul_zero, Int.mul_zero, Int.add_zero, Int.zero_add, Int.neg_mul]
    have k := Int.mul_nonneg (show 0 ≤ 1 - n B by omega) (Int.mul_nonneg (Int.le_of_lt pA) h1)
    omega
  have ad : gm_ec (fun P N => gm_sg (fun P => 1 * n P + (-(1 - n B)) * (n A * g P + (-(g A)) * n P)) P = true → gm_sg (fun P => 1 * n P + (-(1 - n B)) * (n A * g P + (-(g A)) * n P)) N = true → gm_sg n P = gm_sg n N) (P0 :: (r ++ [P0])) := by
    refine gm_ec_2 ?_ _ _ he (gm_ec_all (p := fun P => P ∈ P0 :: r) _ _ hP')
    intro P N hX ⟨mP, mN⟩ bP bN
    have fP := gm_sg_of bP
    have fN := gm_sg_of bN
    have zP : n P ≠ 0 := fun h => absurd (neg0 P h (hk P mP (by omega))) (by omega)
    have zN : n N ≠ 0 := fun h => absurd (neg0 N h (hk N mN (by omega))) (by omega)
    have cross : ∀ a b : Int, 0 < a → 0 < b → a * n P + b * n N = 0 → gm_rd (gm_mx a P b N) ∈ gm_ot n P N → False := by
      intro a b ha hb h0 hm
      have x1 := (gm_xf hn a b P N).2.2.mpr h0
      have x2 := neg0 _ x1 (hX _ hm)
      have x3 := (gm_xf hF a b P N).1.mpr (gm_pp ha hb fP fN)
      omega
    rcases gm_ot_c n P N with ⟨h1, h2, e⟩ | ⟨h1, h2, e⟩ | ⟨h1, h2, e⟩ | ⟨h1, h2, e⟩
    · exact absurd (cross (-(n N)) (n P) (by omega) h1 (by grind) (by rw [e]; exact List.mem_cons_of_mem _ List.mem_cons_self)) id
    · rw [gm_sg_t (show 0 < n P by omega), gm_sg_t (show 0 < n N by omega)]
    · exact absurd (cross (n N) (-(n P)) h2 (by omega) (by grind) (by rw [e]; exact List.mem_cons_self)) id
    · rw [gm_sg_f (show ¬ 0 < n P by omega), gm_sg_f (show ¬ 0 < n N by omega)]
  have sp := gm_ch_split _ _ _ _ ad
  have bA : gm_sg (fun P => 1 * n P + (-(1 - n B)) * (n A * g P + (-(g A)) * n P)) A = true := by
    refine gm_sg_t ?_
    show 0 < 1 * n A + (-(1 - n B)) * (n A * g A + (-(g A)) * n A)
    rw [eA]; omega
  have bB : gm_sg (fun P => 1 * n P + (-(1 - n B)) * (n A * g P + (-(g A)) * n P)) B = true := by
    refine gm_sg_t ?_
    show 0 < 1 * n B + (-(1 - n B)) * (n A * g B + (-(g A)) * n B)
    have k := Int.mul_nonneg (show 0 ≤ 1 - n B by omega) (show 0 ≤ -1 - (n A * g B + (-(g A)) * n B) by omega)
    generalize n A * g B + (-(g A)) * n B = t at k ⊢
    have k2 : (1 - n B) * (-1 - t) = -(1 - n B) - (1 - n B) * t := by grind
    rw [Int.neg_mul]
    omega
  have eA' : gm_sg n A = true := gm_sg_t pA
  have eB' : gm_sg n B = false := gm_sg_f (by omega)
  have t1 := gm_ch_two (fun P => gm_sg (fun P => 1 * n P + (-(1 - n B)) * (n A * g P + (-(g A)) * n P)) P && gm_sg n P) P0 r mA mB (by rw [bA, eA']; rfl) (by rw [bB, eB']; rfl)
  have t2 := gm_ch_two (fun P => gm_sg (fun P => 1 * n P + (-(1 - n B)) * (n A * g P + (-(g A)) * n P)) P && !gm_sg n P) P0 r mB mA (by rw [bB, eB']; rfl) (by rw [bA, eA']; rfl)
  have cF' : gm_ch (gm_sg (fun P => 1 * n P + (-(1 - n B)) * (n A * g P + (-(g A)) * n P))) (P0 :: (r ++ [P0])) ≤ 2 := cF
  omega
theorem gm_cov_clip {n : gm_V → Int} (hn : gm_Lin n) {L : List gm_V} (cv : gm_CV L) {D : gm_V} (hc : gm_Cov L D) (hD : 0 ≤ n D) : gm_Cov (gm_clip n L) D := by
  intro g hg hQ
  cases L with
  | nil => exact hc g hg (fun P h => absurd h List.not_mem_nil)
  | cons P0 r =>
    have he : gm_ec (fun P N => ∀ X, X ∈ gm_ot n P N → 0 ≤ g X) (P0 :: (r ++ [P0])) := gm_cg_ec (p := fun X => 0 ≤ g X) _ _ hQ
    have hk : ∀ P, P ∈ P0 :: r → 0 ≤ n P → 0 ≤ g P := by
      intro P hP h0
      obtain ⟨N, hN⟩ := gm_ec_first P0 r P0 he P hP
      have m : gm_rd (gm_mx 1 P 0 N) ∈ gm_ot n P N := by
        rcases gm_ot_c n P N with ⟨h1, h2, e⟩ | ⟨h1, h2, e⟩ | ⟨h1, h2, e⟩ | ⟨h1, h2, e⟩
        · rw [e]; exact List.mem_cons_self
        · rw [e]; exact List.mem_cons_self
        · omega
        · omega
      have k := hN _ m
      have s := (gm_kf hg P N).2.1
      omega
    by_cases hpos : ∃ A, A ∈ P0 :: r ∧ 0 < n A
    · obtain ⟨A, mA, pA, lA⟩ := gm_min n g _ hpos
      have gA : 0 ≤ g A := hk A mA (by omega)
      have ht := gm_lin_comb hg hn (n A) (-(g A))
      have key := hc _ ht (by
        intro P mP
        show 0 ≤ n A * g P + (-(g A)) * n P
        rcases Int.lt_trichotomy (n P) 0 with h | h | h
        · exact gm_chord hn hg cv hk he mA mP pA h
        · rw [h, Int.mul_zero, Int.add_zero]
          exact Int.mul_nonneg (Int.le_of_lt pA) (hk P mP (by omega))
        · have := lA P mP h
          rw [Int.neg_mul, Int.mul_comm (n A)]
          omega)
      have key' : 0 ≤ n A * g D + (-(g A)) * n D := key
      have k2 := Int.mul_nonneg gA hD
      rw [Int.neg_mul] at key'
      by_cases z : 0 ≤ g D
      · exact z
      · have := Int.mul_neg_of_pos_of_neg pA (show g D < 0 by omega)
        omega
    · obtain ⟨M, hM, hb⟩ := gm_bd g (P0 :: r)
      have ht := gm_lin_comb hg hn 1 (-M)
      have key := hc _ ht (by
        intro P mP
        show 0 ≤ 1 * g P + (-M) * n P
        have q : ¬ 0 < n P := fun h => hpos ⟨P, mP, h⟩
        rcases Int.lt_trichotomy (n P) 0 with h | h | h
        · have k := Int.mul_nonneg hM (show 0 ≤ -1 - n P by omega)
          have k2 : M * (-1 - n P) = -M - M * n P := by grind
          have k3 := hb P mP
          rw [Int.neg_mul]
          omega
        · rw [h, Int.mul_zero, Int.add_zero, Int.one_mul]
          exact hk P mP (by omega)
        · exact absurd h q)
      have key' : 0 ≤ 1 * g D + (-M) * n D := key
      have k2 := Int.mul_nonneg hM hD
      rw [Int.neg_mul] at key'
      omega
end
section
def gm_Lab (G : (gm_V → Int) → Prop) (P N : gm_V) : Prop := ∃ l : gm_V → Int, gm_Lin l ∧ G l ∧ l P = 0 ∧ l N = 0
def gm_St (G : (gm_V → Int) → Prop) (n : gm_V → Int) (U P : gm_V) : Prop := (0 ≤ n P → gm_Lab G U P) ∧ (n P < 0 → n U = 0)
def gm_lk (G : (gm_V → Int) → Prop) (n : gm_V → Int) : gm_V → List gm_V → gm_V → Prop
  | U, [], E => gm_St G n U E
  | U, X :: Q, E => gm_Lab G U X ∧ gm_lk G n X Q E
def gm_last : gm_V → List gm_V → gm_V
  | P, [] => P
  | _, N :: r => gm_last N r
theorem gm_last_snoc (E : gm_V) : ∀ (r : List gm_V) (P : gm_V), gm_last P (r ++ [E]) = E := by
  intro r
  induction r with
  | nil => intro P; rfl
  | cons N r ih => intro P; exact ih N
theorem gm_x0 {f : gm_V → Int} (hf : gm_Lin f) (a b : Int) {P N : gm_V} (hP : f P = 0) (hN : f N = 0) : f (gm_rd (gm_mx a P b N)) = 0 :=
  (gm_xf hf a b P N).2.2.mpr (by rw [hP, hN, Int.mul_zero, Int.mul_zero]; rfl)
theorem gm_k0 {f : gm_V → Int} (hf : gm_Lin f) {P : gm_V} (N : gm_V) (hP : f P = 0) : f (gm_rd (gm_mx 1 P 0 N)) = 0 :=
  (gm_kf hf P N).2.2.mpr hP
theorem gm_lk_step {G : (gm_V → Int) → Prop} {n : gm_V → Int} (hn : gm_Lin n) {U P N E : gm_V} {K : List gm_V} (hS : gm_St G n U P) (hL : gm_Lab G P N)
    (hG : n P < 0 → G n) (hK : ∀ U', gm_St G n U' N → gm_lk G n U' K E) : gm_lk G n U (gm_ot n P N ++ K) E := by
  obtain ⟨l, ll, lG, lP, lN⟩ := hL
  rcases gm_ot_c n P N with ⟨h1, h2, e⟩ | ⟨h1, h2, e⟩ | ⟨h1, h2, e⟩ | ⟨h1, h2, e⟩
  · rw [e]
    obtain ⟨k, kl, kG, kU, kP⟩ := hS.1 (by omega)
    have x0 : n (gm_rd (gm_mx (-(n N)) P (n P) N)) = 0 := (gm_xf hn _ _ P N).2.2.mpr (by grind)
    exact ⟨⟨k, kl, kG, kU, gm_k0 kl N kP⟩, ⟨l, ll, lG, gm_k0 ll N lP, gm_x0 ll _ _ lP lN⟩, hK _ ⟨fun h => absurd h (by omega), fun _ => x0⟩⟩
  · rw [e]
    obtain ⟨k, kl, kG, kU, kP⟩ := hS.1 h1
    refine ⟨⟨k, kl, kG, kU, gm_k0 kl N kP⟩, hK _ ⟨fun h => ⟨l, ll, lG, gm_k0 ll N lP, lN⟩, fun h => gm_k0 hn N (by omega)⟩⟩
  · rw [e]
    have u0 := hS.2 h1
    have x0 : n (gm_rd (gm_mx (n N) P (-(n P)) N)) = 0 := (gm_xf hn _ _ P N).2.2.mpr (by grind)
    exact ⟨⟨n, hn, hG h1, u0, x0⟩, hK _ ⟨fun _ => ⟨l, ll, lG, gm_x0 ll _ _ lP lN, lN⟩, fun h => absurd h (by omega)⟩⟩
  · rw [e]
    have u0 := hS.2 h1
    exact hK U ⟨fun h => ⟨n, hn, hG h1, u0, by omega⟩, fun _ => u0⟩
theorem gm_lk_cg {G : (gm_V → Int) → Prop} {n : gm_V → Int} (hn : gm_Lin n) : ∀ (r : List gm_V) (U P : gm_V), gm_St G n U P → gm_ec (gm_Lab G) (P :: r) →
    (∀ X, X ∈ P :: r → n X < 0 → G n) → gm_lk G n U (gm_cg n (P :: r)) (gm_last P r) := by
  intro r
  induction r with
  | nil => intro U P hS _ _; exact hS
  | cons N r ih =>
    intro U P hS hE hG
    have k : gm_Lab G P N ∧ gm_ec (gm_Lab G) (N :: r) := hE
    exact gm_lk_step hn hS k.1 (hG P List.mem_cons_self) (fun U' h' => ih U' N h' k.2 fun X hX => hG X (List.mem_cons_of_mem _ hX))
theorem gm_lk_ec {G : (gm_V → Int) → Prop} {n : gm_V → Int} {E Y : gm_V} (hY : ∀ Z, gm_St G n Z E → gm_Lab G Z Y) : ∀ (Q : List gm_V) (X : gm_V), gm_lk G n X Q E → gm_ec (gm_Lab G) (X :: (Q ++ [Y])) := by
  intro Q
  induction Q with
  | nil => intro X h; exact ⟨hY X h, trivial⟩
  | cons N Q ih =>
    intro X h
    have k : gm_Lab G X N ∧ gm_lk G n N Q E := h
    exact ⟨k.1, ih N k.2⟩
theorem gm_cg_first {n : gm_V → Int} (hn : gm_Lin n) : ∀ (r : List gm_V) (P : gm_V), n P ≤ 0 → ∀ (Y : gm_V) (Q : List gm_V), gm_cg n (P :: r) = Y :: Q → n Y = 0 := by
  intro r
  induction r with
  | nil => intro P _ Y Q h; exact absurd h (by intro z; cases z)
  | cons N r ih =>
    intro P hP Y Q h
    have e0 : gm_cg n (P :: N :: r) = gm_ot n P N ++ gm_cg n (N :: r) := rfl
    rw [e0] at h
    rcases gm_ot_c n P N with ⟨h1, h2, e⟩ | ⟨h1, h2, e⟩ | ⟨h1, h2, e⟩ | ⟨h1, h2, e⟩
    · omega
    · rw [e] at h
      have hh : gm_rd (gm_mx 1 P 0 N) = Y := (List.cons.inj h).1
      rw [← hh]; exact gm_k0 hn N (by omega)
    · rw [e] at h
      have hh : gm_rd (gm_mx (n N) P (-(n P)) N) = Y := (List.cons.inj h).1
      rw [← hh]; exact (gm_xf hn _ _ P N).2.2.mpr (by grind)
    · rw [e] at h
      exact ih N h2 Y Q h
theorem gm_lab_clip {G : (gm_V → Int) → Prop} {n : gm_V → Int} (hn : gm_Lin n) {L : List gm_V} (hE : gm_ec (gm_Lab G) (gm_cl L)) (hG : ∀ X, X ∈ L → n X < 0 → G n) :
    gm_ec (gm_Lab G) (gm_cl (gm_clip n L)) := by
  cases L with
  | nil => exact trivial
  | cons P r =>
    have hE' : gm_ec (gm_Lab G) (P :: (r ++ [P])) := hE
    have hG' : ∀ X, X ∈ P :: (r ++ [P]) → n X < 0 → G n := by
      intro X hX
      rcases List.mem_append.mp (show X ∈ (P :: r) ++ [P] from hX) with h | h
      · exact hG X h
      · rw [List.mem_singleton.mp h]; exact hG P List.mem_cons_self
    have hq : gm_clip n (P :: r) = gm_cg n (P :: (r ++ [P])) := rfl
    by_cases hP : 0 ≤ n P
    · obtain ⟨N, l, ll, lG, lP, lN⟩ := gm_ec_first P r P hE' P List.mem_cons_self
      have K := gm_lk_cg hn (r ++ [P]) P P ⟨fun _ => ⟨l, ll, lG, lP, lP⟩, fun h => absurd h (by omega)⟩ hE' hG'
      rw [gm_last_snoc] at K
      rw [hq]
      have hY : ∀ Y, (∀ f : gm_V → Int, gm_Lin f → f P = 0 → f Y = 0) → ∀ Z, gm_St G n Z P → gm_Lab G Z Y := by
        intro Y hf Z hZ
        obtain ⟨k, kl, kG, kZ, kP⟩ := hZ.1 hP
        exact ⟨k, kl, kG, kZ, hf k kl kP⟩
      cases hQ : gm_cg n (P :: (r ++ [P])) with
      | nil => exact trivial
      | cons Y Q =>
        rw [hQ] at K
        have hd : ∃ M, Y = gm_rd (gm_mx 1 P 0 M) := by
          cases hr : r ++ [P] with
          | nil => exact absurd hr (by simp)
          | cons M r' =>
            rw [hr] at hQ
            have e0 : gm_cg n (P :: M :: r') = gm_ot n P M ++ gm_cg n (M :: r') := rfl
            rw [e0] at hQ
            rcases gm_ot_c n P M with ⟨h1, h2, e⟩ | ⟨h1, h2, e⟩ | ⟨h1, h2, e⟩ | ⟨h1, h2, e⟩
            · rw [e] at hQ; exact ⟨M, (List.cons.inj hQ).1.symm⟩
            · rw [e] at hQ; exact ⟨M, (List.cons.inj hQ).1.symm⟩
            · omega
            · omega
        obtain ⟨M, hM⟩ := hd
        have K' : gm_Lab G P Y ∧ gm_lk G n Y Q P := K
        exact gm_lk_ec (hY Y fun f hf h0 => by rw [hM]; exact gm_k0 hf M h0) Q Y K'.2
    · have hz : n (gm_mx 0 P 0 P) = 0 := by rw [hn, Int.zero_mul]; rfl
      have K := gm_lk_cg hn (r ++ [P]) (gm_mx 0 P 0 P) P ⟨fun h => absurd h hP, fun _ => hz⟩ hE' hG'
      rw [gm_last_snoc] at K
      rw [hq]
      cases hQ : gm_cg n (P :: (r ++ [P])) with
      | nil => exact trivial
      | cons Y Q =>
        rw [hQ] at K
        have y0 := gm_cg_first hn _ P (by omega) Y Q hQ
        have K' : gm_Lab G (gm_mx 0 P 0 P) Y ∧ gm_lk G n Y Q P := K
        refine gm_lk_ec ?_ Q Y K'.2
        intro Z hZ
        exact ⟨n, hn, hG P List.mem_cons_self (by omega), hZ.2 (by omega), y0⟩
def gm_dt (P Q R : gm_V) : Int := P.1 * (Q.2.1 * R.2.2.2 - R.2.1 * Q.2.2.2) - P.2.1 * (Q.1 * R.2.2.2 - R.1 * Q.2.2.2) + P.2.2.2 * (Q.1 * R.2.1 - R.1 * Q.2.1)
theorem gm_lin_e0 (B C : gm_V) : gm_Lin (fun P => gm_dt P B C) := by
  intro a P b Q
  simp only [gm_dt, gm_mx]
  grind
theorem gm_lin_e1 (A C : gm_V) : gm_Lin (fun P => gm_dt A P C) := by
  intro a P b Q
  simp only [gm_dt, gm_mx]
  grind
theorem gm_lin_e2 (A B : gm_V) : gm_Lin (fun P => gm_dt A B P) := by
  intro a P b Q
  simp only [gm_dt, gm_mx]
  grind
theorem gm_cx (A B C P : gm_V) : gm_dt A B C * P.1 = gm_dt P B C * A.1 + gm_dt A P C * B.1 + gm_dt A B P * C.1 := by
  simp only [gm_dt]; grind
theorem gm_cy (A B C P : gm_V) : gm_dt A B C * P.2.1 = gm_dt P B C * A.2.1 + gm_dt A P C * B.2.1 + gm_dt A B P * C.2.1 := by
  simp only [gm_dt]; grind
theorem gm_cw (A B C P : gm_V) : gm_dt A B C * P.2.2.2 = gm_dt P B C * A.2.2.2 + gm_dt A P C * B.2.2.2 + gm_dt A B P * C.2.2.2 := by
  simp only [gm_dt]; grind
def gm_Sp (A B C P : gm_V) : Prop := gm_dt A B C * P.2.2.1 = gm_dt P B C * A.2.2.1 + gm_dt A P C * B.2.2.1 + gm_dt A B P * C.2.2.1
def gm_sp (A B C P : gm_V) : Int := gm_dt A B C * P.2.2.1 - (gm_dt P B C * A.2.2.1 + gm_dt A P C * B.2.2.1 + gm_dt A B P * C.2.2.1)
theorem gm_lin_sp (A B C : gm_V) : gm_Lin (gm_sp A B C) := by
  intro a P b Q
  have h0 := gm_lin_e0 B C a P b Q
  have h1 := gm_lin_e1 A C a P b Q
  have h2 := gm_lin_e2 A B a P b Q
  have h3 : (gm_mx a P b Q).2.2.1 = a * P.2.2.1 + b * Q.2.2.1 := rfl
  simp only at h0 h1 h2
  unfold gm_sp
  rw [h0, h1, h2, h3]
  grind
theorem gm_sp_iff {A B C P : gm_V} : gm_Sp A B C P ↔ gm_sp A B C P = 0 := by
  unfold gm_Sp gm_sp
  omega
theorem gm_sp_comb {A B C P : gm_V} {n : gm_V → Int} (hn : gm_Lin n) (h : gm_Sp A B C P) : gm_dt A B C * n P = gm_dt P B C * n A + gm_dt A P C * n B + gm_dt A B P * n C := by
  have e : gm_mx (gm_dt A B C) P 0 P = gm_mx 1 (gm_mx (gm_dt P B C) A (gm_dt A P C) B) (gm_dt A B P) C := by
    refine gm_ext ?_ ?_ ?_ ?_
    · show gm_dt A B C * P.1 + 0 * P.1 = 1 * (gm_dt P B C * A.1 + gm_dt A P C * B.1) + gm_dt A B P * C.1
      rw [gm_cx]; omega
    · show gm_dt A B C * P.2.1 + 0 * P.2.1 = 1 * (gm_dt P B C * A.2.1 + gm_dt A P C * B.2.1) + gm_dt A B P * C.2.1
      rw [gm_cy]; omega
    · show gm_dt A B C * P.2.2.1 + 0 * P.2.2.1 = 1 * (gm_dt P B C * A.2.2.1 + gm_dt A P C * B.2.2.1) + gm_dt A B P * C.2.2.1
      have h' := h
      unfold gm_Sp at h'
      rw [h']; omega
    · show gm_dt A B C * P.2.2.2 + 0 * P.2.2.2 = 1 * (gm_dt P B C * A.2.2.2 + gm_dt A P C * B.2.2.2) + gm_dt A B P * C.2.2.2
      rw [gm_cw]; omega
  have k := congrArg n e
  rw [hn, hn, hn] at k
  omega
def gm_G (A B C : gm_V) (l : gm_V → Int) : Prop := ∃ s a b c : Int, s ≠ 0 ∧ a.natAbs ≤ 40 ∧ b.natAbs ≤ 40 ∧ c.natAbs ≤ 40 ∧ ¬ (a = 0 ∧ b = 0 ∧ c = 0) ∧
  ∀ P, gm_Sp A B C P → s * l P = a * gm_dt P B C + b * gm_dt A P C + c * gm_dt A B P
theorem gm_mulb {x y : Int} {X Y : Nat} (hx : x.natAbs ≤ X) (hy : y.natAbs ≤ Y) : (x * y).natAbs ≤ X * Y := by
  rw [Int.natAbs_mul]; exact Nat.mul_le_mul hx hy
theorem gm_g4_ne {f : gm_V → Int} (hf : gm_Lin f) {P : gm_V} (h : f P ≠ 0) : gm_g4 P ≠ 0 := by
  intro z
  unfold gm_g4 at z
  have z4 := Nat.gcd_eq_zero_iff.mp z
  have z3 := Nat.gcd_eq_zero_iff.mp z4.1
  have z2 := Nat.gcd_eq_zero_iff.mp z3.1
  have e : P = gm_mx 0 P 0 P := by
    refine gm_ext ?_ ?_ ?_ ?_
    · show P.1 = 0 * P.1 + 0 * P.1; omega
    · show P.2.1 = 0 * P.2.1 + 0 * P.2.1; omega
    · show P.2.2.1 = 0 * P.2.2.1 + 0 * P.2.2.1; omega
    · show P.2.2.2 = 0 * P.2.2.2 + 0 * P.2.2.2; omega
  have k := congrArg f e
  rw [hf, Int.zero_mul] at k
  omega
theorem gm_par {V x e0 e1 e2 T0 T1 T2 a b c : Int} (h : V * x = e0 * a + e1 * b + e2 * c) (r1 : T0 * e1 = T1 * e0) (r2 : T0 * e2 = T2 * e0) : T0 * V * x = e0 * (T0 * a + T1 * b + T2 * c) := by
  have k : T0 * V * x = T0 * (V * x) := Int.mul_assoc _ _ _
  rw [k, h]
  grind
theorem gm_par' {V x e0 e1 e2 T0 T1 T2 a b c : Int} (h : V * x = e0 * a + e1 * b + e2 * c) (r1 : T1 * e0 = T0 * e1) (r2 : T1 * e2 = T2 * e1) : T1 * V * x = e1 * (T0 * a + T1 * b + T2 * c) := by
  have k : T1 * V * x = T1 * (V * x) := Int.mul_assoc _ _ _
  rw [k, h]
  grind
theorem gm_par'' {V x e0 e1 e2 T0 T1 T2 a b c : Int} (h : V * x = e0 * a + e1 * b + e2 * c) (r1 : T2 * e0 = T0 * e2) (r2 : T2 * e1 = T1 * e2) : T2 * V * x = e2 * (T0 * a + T1 * b + T2 * c) := by
  have k : T2 * V * x = T2 * (V * x) := Int.mul_assoc _ _ _
  rw [k, h]
  grind
def gm_B (M : Nat) (P : gm_V) : Prop := P.1.natAbs ≤ M ∧ P.2.1.natAbs ≤ M ∧ P.2.2.1.natAbs ≤ M ∧ P.2.2.2.natAbs ≤ M
theorem gm_T {a b c : Int} {t0 t1 t2 : Int} (h0 : t0.natAbs ≤ 3200) (h1 : t1.natAbs ≤ 3200) (h2 : t2.natAbs ≤ 3200) (ha : a.natAbs ≤ 20) (hb : b.natAbs ≤ 20) (hc : c.natAbs ≤ 20) : (t0 * a + t1 * b + t2 * c).natAbs ≤ 192000 := by
  have k0 := gm_mulb h0 ha
  have k1 := gm_mulb h1 hb
  have k2 := gm_mulb h2 hc
  omega
theorem gm_r01 {a b c a' b' c' x y z : Int} (h : 0 = a * x + b * y + c * z) (h' : 0 = a' * x + b' * y + c' * z) : (b * c' - c * b') * y = (c * a' - a * c') * x := by grind
theorem gm_r02 {a b c a' b' c' x y z : Int} (h : 0 = a * x + b * y + c * z) (h' : 0 = a' * x + b' * y + c' * z) : (b * c' - c * b') * z = (a * b' - b * a') * x := by grind
theorem gm_r12 {a b c a' b' c' x y z : Int} (h : 0 = a * x + b * y + c * z) (h' : 0 = a' * x + b' * y + c' * z) : (c * a' - a * c') * z = (a * b' - b * a') * y := by grind
theorem gm_m1 {a b c a' b' c' x y z : Int} (h : 0 = a * x + b * y + c * z) (t0 : b * c' - c * b' = 0) (t1 : c * a' - a * c' = 0) (t2 : a * b' - b * a' = 0) : a * (a' * x + b' * y + c' * z) = 0 := by grind
theorem gm_m2 {a b c a' b' c' x y z : Int} (h : 0 = a * x + b * y + c * z) (t0 : b * c' - c * b' = 0) (t1 : c * a' - a * c' = 0) (t2 : a * b' - b * a' = 0) : b * (a' * x + b' * y + c' * z) = 0 := by grind
theorem gm_m3 {a b c a' b' c' x y z : Int} (h : 0 = a * x + b * y + c * z) (t0 : b * c' - c * b' = 0) (t1 : c * a' - a * c' = 0) (t2 : a * b' - b * a' = 0) : c * (a' * x + b' * y + c' * z) = 0 := by grind
theorem gm_bound {A B C : gm_V} (hV : gm_dt A B C ≠ 0) (bA : gm_B 20 A) (bB : gm_B 20 B) (bC : gm_B 20 C) {l n : gm_V → Int} (hl : gm_Lin l) (hn : gm_Lin n) (gl : gm_G A B C l) (gn : gm_G A B C n)
    {P R : gm_V} (sP : gm_Sp A B C P) (sR : gm_Sp A B C R) (lP : l P = 0) (nP : n P ≠ 0) (lR : l R = 0) (nR : n R = 0) (hR : gm_g4 R = 1) : gm_B 192000 R := by
  obtain ⟨s, a, b, c, hs, ha, hb, hc, hz, hl'⟩ := gl
  obtain ⟨s', a', b', c', hs', ha', hb', hc', hz', hn'⟩ := gn
  have q1 := hl' P sP
  have q2 := hn' P sP
  have q3 := hl' R sR
  have q4 := hn' R sR
  rw [lP, Int.mul_zero] at q1
  rw [lR, Int.mul_zero] at q3
  rw [nR, Int.mul_zero] at q4
  have q2' : a' * gm_dt P B C + b' * gm_dt A P C + c' * gm_dt A B P ≠ 0 := by
    rw [← q2]
    intro z
    rcases Int.mul_eq_zero.mp z with h | h
    · exact hs' h
    · exact nP h
  have hT0 : (b * c' - c * b').natAbs ≤ 3200 := by
    have k1 := gm_mulb hb hc'
    have k2 := gm_mulb hc hb'
    omega
  have hT1 : (c * a' - a * c').natAbs ≤ 3200 := by
    have k1 := gm_mulb hc ha'
    have k2 := gm_mulb ha hc'
    omega
  have hT2 : (a * b' - b * a').natAbs ≤ 3200 := by
    have k1 := gm_mulb ha hb'
    have k2 := gm_mulb hb ha'
    omega
  have cx := gm_cx A B C R
  have cy := gm_cy A B C R
  have cw := gm_cw A B C R
  have cz := sR
  unfold gm_Sp at cz
  have hT : ¬ (b * c' - c * b' = 0 ∧ c * a' - a * c' = 0 ∧ a * b' - b * a' = 0) := by
    intro ⟨t0, t1, t2⟩
    apply q2'
    generalize gm_dt P B C = x at *
    generalize gm_dt A P C = y at *
    generalize gm_dt A B P = z at *
    have m1 : a * (a' * x + b' * y + c' * z) = 0 := gm_m1 q1 t0 t1 t2
    have m2 : b * (a' * x + b' * y + c' * z) = 0 := gm_m2 q1 t0 t1 t2
    have m3 : c * (a' * x + b' * y + c' * z) = 0 := gm_m3 q1 t0 t1 t2
    rcases Int.mul_eq_zero.mp m1 with h1 | h1
    · rcases Int.mul_eq_zero.mp m2 with h2 | h2
      · rcases Int.mul_eq_zero.mp m3 with h3 | h3
        · exact absurd ⟨h1, h2, h3⟩ hz
        · exact h3
      · exact h2
    · exact h1
  generalize gm_dt R B C = x at *
  generalize gm_dt A R C = y at *
  generalize gm_dt A B R = z at *
  generalize hV' : gm_dt A B C = V at *
  have r01 : (b * c' - c * b') * y = (c * a' - a * c') * x := gm_r01 q3 q4
  have r02 : (b * c' - c * b') * z = (a * b' - b * a') * x := gm_r02 q3 q4
  have r12 : (c * a' - a * c') * z = (a * b' - b * a') * y := gm_r12 q3 q4
  generalize b * c' - c * b' = T0 at *
  generalize c * a' - a * c' = T1 at *
  generalize a * b' - b * a' = T2 at *
  obtain ⟨bA1, bA2, bA3, bA4⟩ := bA
  obtain ⟨bB1, bB2, bB3, bB4⟩ := bB
  obtain ⟨bC1, bC2, bC3, bC4⟩ := bC
  have fin : ∀ (p q : Int), p ≠ 0 → p * R.1 = q * (T0 * A.1 + T1 * B.1 + T2 * C.1) → p * R.2.1 = q * (T0 * A.2.1 + T1 * B.2.1 + T2 * C.2.1) → p * R.2.2.1 = q * (T0 * A.2.2.1 + T1 * B.2.2.1 + T2 * C.2.2.1) → p * R.2.2.2 = q * (T0 * A.2.2.2 + T1 * B.2.2.2 + T2 * C.2.2.2) → gm_B 192000 R := by
    intro p q hp g1 g2 g3 g4
    have h := gm_prim_le (R := R) (T := (T0 * A.1 + T1 * B.1 + T2 * C.1, T0 * A.2.1 + T1 * B.2.1 + T2 * C.2.1, T0 * A.2.2.1 + T1 * B.2.2.1 + T2 * C.2.2.1, T0 * A.2.2.2 + T1 * B.2.2.2 + T2 * C.2.2.2)) hR hp g1 g2 g3 g4
    obtain ⟨h1, h2, h3, h4⟩ := h
    exact ⟨Nat.le_trans h1 (gm_T hT0 hT1 hT2 bA1 bB1 bC1), Nat.le_trans h2 (gm_T hT0 hT1 hT2 bA2 bB2 bC2), Nat.le_trans h3 (gm_T hT0 hT1 hT2 bA3 bB3 bC3), Nat.le_trans h4 (gm_T hT0 hT1 hT2 bA4 bB4 bC4)⟩
  have ne : ∀ T : Int, T ≠ 0 → T * V ≠ 0 := fun T hT' h => (Int.mul_eq_zero.mp h).elim hT' hV
  by_cases w0 : T0 = 0
  · by_cases w1 : T1 = 0
    · by_cases w2 : T2 = 0
      · exact absurd ⟨w0, w1, w2⟩ hT
      · exact fin (T2 * V) z (ne _ w2) (gm_par'' cx r02.symm r12.symm) (gm_par'' cy r02.symm r12.symm) (gm_par'' cz r02.symm r12.symm) (gm_par'' cw r02.symm r12.symm)
    · exact fin (T1 * V) y (ne _ w1) (gm_par' cx r01.symm r12) (gm_par' cy r01.symm r12) (gm_par' cz r01.symm r12) (gm_par' cw r01.symm r12)
  · exact fin (T0 * V) x (ne _ w0) (gm_par cx r01 r02) (gm_par cy r01 r02) (gm_par cz r01 r02) (gm_par cw r01 r02)
end
section
def gm_In (A B C : gm_V) (q : Int) (P : gm_V) : Prop := 0 ≤ q * gm_dt P B C ∧ 0 ≤ q * gm_dt A P C ∧ 0 ≤ q * gm_dt A B P ∧ 0 < q * (gm_dt P B C + gm_dt A P C + gm_dt A B P) ∧ gm_Sp A B C P ∧ gm_B 192000 P
theorem gm_lin_s (f : gm_V → Int) (hf : gm_Lin f) (q : Int) : gm_Lin (fun P => q * f P) := by
  intro a P b Q
  have h := hf a P b Q
  show q * f (gm_mx a P b Q) = a * (q * f P) + b * (q * f Q)
  rw [h]; grind
theorem gm_lin_add {f g : gm_V → Int} (hf : gm_Lin f) (hg : gm_Lin g) : gm_Lin (fun P => f P + g P) := by
  intro a P b Q
  have h := hf a P b Q
  have h2 := hg a P b Q
  show f (gm_mx a P b Q) + g (gm_mx a P b Q) = a * (f P + g P) + b * (f Q + g Q)
  rw [h, h2]; grind
theorem gm_lin_q0 (B C : gm_V) (q : Int) : gm_Lin (fun P => q * gm_dt P B C) := gm_lin_s _ (gm_lin_e0 B C) q
theorem gm_lin_q1 (A C : gm_V) (q : Int) : gm_Lin (fun P => q * gm_dt A P C) := gm_lin_s _ (gm_lin_e1 A C) q
theorem gm_lin_q2 (A B : gm_V) (q : Int) : gm_Lin (fun P => q * gm_dt A B P) := gm_lin_s _ (gm_lin_e2 A B) q
theorem gm_lin_qs (A B C : gm_V) (q : Int) : gm_Lin (fun P => q * (gm_dt P B C + gm_dt A P C + gm_dt A B P)) :=
  gm_lin_s _ (gm_lin_add (gm_lin_add (gm_lin_e0 B C) (gm_lin_e1 A C)) (gm_lin_e2 A B)) q
theorem gm_rd_ge {f : gm_V → Int} (hf : gm_Lin f) {P : gm_V} (h : 0 ≤ f P) : 0 ≤ f (gm_rd P) := by
  have k := (gm_rd_sg hf P).2.1; omega
theorem gm_rd_abs (P : gm_V) {M : Nat} (h : gm_B M P) : gm_B M (gm_rd P) := by
  obtain ⟨g, hg, e⟩ := gm_rd_mul P
  have aux : ∀ x y : Int, x = g * y + 0 * y → x.natAbs ≤ M → y.natAbs ≤ M := by
    intro x y h1 h2
    rw [Int.zero_mul, Int.add_zero] at h1
    rw [h1, Int.natAbs_mul] at h2
    exact Nat.le_trans (Nat.le_mul_of_pos_left _ (by omega)) h2
  obtain ⟨h1, h2, h3, h4⟩ := h
  exact ⟨aux _ _ (congrArg (fun P : gm_V => P.1) e) h1, aux _ _ (congrArg (fun P : gm_V => P.2.1) e) h2, aux _ _ (congrArg (fun P : gm_V => P.2.2.1) e) h3, aux _ _ (congrArg (fun P : gm_V => P.2.2.2) e) h4⟩
theorem gm_in_keep {A B C : gm_V} {q : Int} {P : gm_V} (N : gm_V) (h : gm_In A B C q P) : gm_In A B C q (gm_rd (gm_mx 1 P 0 N)) := by
  obtain ⟨h0, h1, h2, h3, h4, h5⟩ := h
  have k0 := (gm_kf (gm_lin_q0 B C q) P N).2.1
  have k1 := (gm_kf (gm_lin_q1 A C q) P N).2.1
  have k2 := (gm_kf (gm_lin_q2 A B q) P N).2.1
  have k3 := (gm_kf (gm_lin_qs A B C q) P N).1
  have k4 := (gm_kf (gm_lin_sp A B C) P N).2.2
  try simp only at k0 k1 k2 k3
  refine ⟨by omega, by omega, by omega, k3.mpr h3, gm_sp_iff.mpr (k4.mpr (gm_sp_iff.mp h4)), gm_rd_abs _ ?_⟩
  have e : gm_mx 1 P 0 N = P := by
    refine gm_ext ?_ ?_ ?_ ?_
    · show 1 * P.1 + 0 * N.1 = P.1; omega
    · show 1 * P.2.1 + 0 * N.2.1 = P.2.1; omega
    · show 1 * P.2.2.1 + 0 * N.2.2.1 = P.2.2.1; omega
    · show 1 * P.2.2.2 + 0 * N.2.2.2 = P.2.2.2; omega
  rw [e]; exact h5
theorem gm_in_mix {A B C : gm_V} (hV : gm_dt A B C ≠ 0) (bA : gm_B 20 A) (bB : gm_B 20 B) (bC : gm_B 20 C) {q : Int} {P N : gm_V} (hP : gm_In A B C q P) (hN : gm_In A B C q N) (hL : gm_Lab (gm_G A B C) P N)
    {n : gm_V → Int} (hn : gm_Lin n) (gn : gm_G A B C n) {a b : Int} (ha : 0 < a) (hb : 0 < b) (h0 : a * n P + b * n N = 0) (nP : n P ≠ 0) : gm_In A B C q (gm_rd (gm_mx a P b N)) := by
  obtain ⟨p0, p1, p2, p3, p4, p5⟩ := hP
  obtain ⟨n0, n1, n2, n3, n4, n5⟩ := hN
  obtain ⟨l, ll, lG, lP, lN⟩ := hL
  have k0 := (gm_xf (gm_lin_q0 B C q) a b P N).2.1
  have k1 := (gm_xf (gm_lin_q1 A C q) a b P N).2.1
  have k2 := (gm_xf (gm_lin_q2 A B q) a b P N).2.1
  have k3 := (gm_xf (gm_lin_qs A B C q) a b P N).1
  have k4 := (gm_xf (gm_lin_sp A B C) a b P N).2.2
  try simp only at k0 k1 k2 k3
  have m0 := gm_nn (Int.le_of_lt ha) (Int.le_of_lt hb) p0 n0
  have m1 := gm_nn (Int.le_of_lt ha) (Int.le_of_lt hb) p1 n1
  have m2 := gm_nn (Int.le_of_lt ha) (Int.le_of_lt hb) p2 n2
  have m3 := gm_pp ha hb p3 n3
  have m4 : a * gm_sp A B C P + b * gm_sp A B C N = 0 := by
    rw [gm_sp_iff.mp p4, gm_sp_iff.mp n4, Int.mul_zero, Int.mul_zero]; rfl
  have sR := gm_sp_iff.mpr (k4.mpr m4)
  have g4 : gm_g4 (gm_mx a P b N) ≠ 0 := by
    refine gm_g4_ne (gm_lin_qs A B C q) ?_
    have e := gm_lin_qs A B C q a P b N
    simp only at e
    rw [e]
    omega
  exact ⟨by omega, by omega, by omega, k3.mpr m3, sR, gm_bound hV bA bB bC ll hn lG gn p4 sR lP nP (gm_x0 ll a b lP lN) ((gm_xf hn a b P N).2.2.mpr h0) (gm_rd_prim _ g4)⟩
theorem gm_gn {A B C : gm_V} (hV : gm_dt A B C ≠ 0) {n : gm_V → Int} (hn : gm_Lin n) (nA : (n A).natAbs ≤ 40) (nB : (n B).natAbs ≤ 40) (nC : (n C).natAbs ≤ 40) {P : gm_V} (hP : gm_Sp A B C P) (h : n P < 0) : gm_G A B C n := by
  refine ⟨gm_dt A B C, n A, n B, n C, hV, nA, nB, nC, ?_, ?_⟩
  · intro ⟨a0, b0, c0⟩
    have k := gm_sp_comb hn hP
    rw [a0, b0, c0, Int.mul_zero, Int.mul_zero, Int.mul_zero] at k
    rcases Int.mul_eq_zero.mp (show gm_dt A B C * n P = 0 by omega) with z | z
    · exact hV z
    · omega
  · intro Q hQ
    rw [gm_sp_comb hn hQ]
    grind
def gm_Inv (A B C : gm_V) (q : Int) (L : List gm_V) : Prop := (∀ P, P ∈ L → gm_In A B C q P) ∧ gm_CV L ∧ gm_ec (gm_Lab (gm_G A B C)) (gm_cl L)
theorem gm_ec_and3 {R S : gm_V → gm_V → Prop} (r : List gm_V) (P : gm_V) (h1 : gm_ec R (P :: r)) (h2 : gm_ec S (P :: r)) : gm_ec (fun P N => R P N ∧ S P N) (P :: r) :=
  gm_ec_2 (fun _ _ a b => ⟨a, b⟩) r P h1 h2
theorem gm_cl_mem {P X : gm_V} {r : List gm_V} (h : X ∈ P :: (r ++ [P])) : X ∈ P :: r := by
  rcases List.mem_append.mp (show X ∈ (P :: r) ++ [P] from h) with h | h
  · exact h
  · rw [List.mem_singleton.mp h]; exact List.mem_cons_self
theorem gm_inv_clip {A B C : gm_V} (hV : gm_dt A B C ≠ 0) (bA : gm_B 20 A) (bB : gm_B 20 B) (bC : gm_B 20 C) {q : Int} {n : gm_V → Int} (hn : gm_Lin n) (nA : (n A).natAbs ≤ 40) (nB : (n B).natAbs ≤ 40) (nC : (n C).natAbs ≤ 40)
    {L : List gm_V} (h : gm_Inv A B C q L) : gm_Inv A B C q (gm_clip n L) := by
  obtain ⟨h1, h2, h3⟩ := h
  have hG : ∀ X, X ∈ L → n X < 0 → gm_G A B C n := fun X hX hx => gm_gn hV hn nA nB nC (h1 X hX).2.2.2.2.1 hx
  refine ⟨?_, gm_cv_clip h2, gm_lab_clip hn h3 hG⟩
  cases L with
  | nil => intro P hP; exact absurd hP List.not_mem_nil
  | cons P r =>
    have e1 : gm_ec (fun P N => (P ∈ _ :: r) ∧ (N ∈ _ :: r)) (P :: (r ++ [P])) := gm_ec_all (p := fun X => X ∈ P :: r) _ _ fun X hX => gm_cl_mem hX
    have e2 := gm_ec_and3 _ _ e1 h3
    intro X hX
    refine gm_ec_cg (n := n) (p := gm_In A B C q) ?_ _ _ e2 X hX
    intro P' N' ⟨⟨mP, mN⟩, hL⟩ X hX
    have iP := h1 _ mP
    have iN := h1 _ mN
    rcases gm_ot_c n P' N' with ⟨c1, c2, e⟩ | ⟨c1, c2, e⟩ | ⟨c1, c2, e⟩ | ⟨c1, c2, e⟩
    · rw [e] at hX
      rcases List.mem_cons.mp hX with z | z
      · rw [z]; exact gm_in_keep _ iP
      · rw [List.mem_singleton.mp z]
        exact gm_in_mix hV bA bB bC iP iN hL hn (hG _ mN c2) (by omega) c1 (by grind) (by omega)
    · rw [e] at hX
      rw [List.mem_singleton.mp hX]; exact gm_in_keep _ iP
    · rw [e] at hX
      rw [List.mem_singleton.mp hX]
      exact gm_in_mix hV bA bB bC iP iN hL hn (hG _ mP c1) c2 (by omega) (by grind) (by omega)
    · rw [e] at hX; exact absurd hX List.not_mem_nil
theorem gm_clip_ge {n f : gm_V → Int} (hf : gm_Lin f) {L : List gm_V} (h : ∀ P, P ∈ L → 0 ≤ f P) : ∀ X, X ∈ gm_clip n L → 0 ≤ f X := by
  cases L with
  | nil => intro P hP; exact absurd hP List.not_mem_nil
  | cons P r =>
    have e1 : gm_ec (fun P N => 0 ≤ f P ∧ 0 ≤ f N) (P :: (r ++ [P])) := gm_ec_all (p := fun X => 0 ≤ f X) _ _ fun X hX => h X (gm_cl_mem hX)
    intro X hX
    refine gm_ec_cg (n := n) (p := fun X => 0 ≤ f X) ?_ _ _ e1 X hX
    intro P' N' ⟨iP, iN⟩ X hX
    have kp := (gm_kf hf P' N').2.1
    rcases gm_ot_c n P' N' with ⟨c1, c2, e⟩ | ⟨c1, c2, e⟩ | ⟨c1, c2, e⟩ | ⟨c1, c2, e⟩
    · rw [e] at hX
      rcases List.mem_cons.mp hX with z | z
      · rw [z]; omega
      · rw [List.mem_singleton.mp z]
        have k := (gm_xf hf (-(n N')) (n P') P' N').2.1
        have k2 := gm_nn (a := -(n N')) (b := n P') (by omega) (by omega) iP iN
        omega
    · rw [e] at hX
      rw [List.mem_singleton.mp hX]; omega
    · rw [e] at hX
      rw [List.mem_singleton.mp hX]
      have k := (gm_xf hf (n N') (-(n P')) P' N').2.1
      have k2 := gm_nn (a := n N') (b := -(n P')) (by omega) (by omega) iP iN
      omega
    · rw [e] at hX; exact absurd hX List.not_mem_nil
theorem gm_clip_self {n : gm_V → Int} (hn : gm_Lin n) (L : List gm_V) : ∀ X, X ∈ gm_clip n L → 0 ≤ n X := by
  cases L with
  | nil => intro P hP; exact absurd hP List.not_mem_nil
  | cons P r =>
    have e1 : gm_ec (fun _ _ => True ∧ True) (P :: (r ++ [P])) := gm_ec_all (p := fun X => True) _ _ fun X hX => trivial
    intro X hX
    refine gm_ec_cg (n := n) (p := fun X => 0 ≤ n X) ?_ _ _ e1 X hX
    intro P' N' _ X hX
    have kp := (gm_kf hn P' N').2.1
    rcases gm_ot_c n P' N' with ⟨c1, c2, e⟩ | ⟨c1, c2, e⟩ | ⟨c1, c2, e⟩ | ⟨c1, c2, e⟩
    · rw [e] at hX
      rcases List.mem_cons.mp hX with z | z
      · rw [z]; omega
      · rw [List.mem_singleton.mp z]
        have k := (gm_xf hn (-(n N')) (n P') P' N').2.2.mpr (by grind)
        omega
    · rw [e] at hX
      rw [List.mem_singleton.mp hX]; omega
    · rw [e] at hX
      rw [List.mem_singleton.mp hX]
      have k := (gm_xf hn (n N') (-(n P')) P' N').2.2.mpr (by grind)
      omega
    · rw [e] at hX; exact absurd hX List.not_mem_nil
def gm_side (s : Nat) (P : gm_V) : Int :=
  if s < 2 then (if s = 0 then P.2.2.2 + P.1 else P.2.2.2 - P.1) else if s < 4 then (if s = 2 then P.2.2.2 + P.2.1 else P.2.2.2 - P.2.1) else if s = 4 then P.2.2.1 else P.2.2.2 - P.2.2.1
theorem gm_lin_side (s : Nat) : gm_Lin (gm_side s) := by
  intro a P b Q
  unfold gm_side gm_mx
  split
  · split <;> grind
  · split
    · split <;> grind
    · split <;> grind
theorem gm_side_b (s : Nat) {A : gm_V} (h : gm_B 20 A) : (gm_side s A).natAbs ≤ 40 := by
  obtain ⟨h1, h2, h3, h4⟩ := h
  unfold gm_side
  split
  · split <;> omega
  · split
    · split <;> omega
    · split <;> omega
def gm_poly (A B C : gm_V) : Nat → List gm_V
  | 0 => [A, B, C]
  | s + 1 => gm_clip (gm_side s) (gm_poly A B C s)
def gm_Rg (A B C : gm_V) (q : Int) (D : gm_V) : Prop := 0 ≤ q * gm_dt D B C ∧ 0 ≤ q * gm_dt A D C ∧ 0 ≤ q * gm_dt A B D ∧ gm_Sp A B C D ∧ ∀ s, 0 ≤ gm_side s D
theorem gm_inv_0 {A B C : gm_V} {q : Int} (hq : 0 < q * gm_dt A B C) (bA : gm_B 20 A) (bB : gm_B 20 B) (bC : gm_B 20 C) : gm_Inv A B C q [A, B, C] := by
  have a1 : gm_dt A A C = 0 := by simp only [gm_dt]; grind
  have a2 : gm_dt A B A = 0 := by simp only [gm_dt]; grind
  have b1 : gm_dt B B C = 0 := by simp only [gm_dt]; grind
  have b2 : gm_dt A B B = 0 := by simp only [gm_dt]; grind
  have c1 : gm_dt C B C = 0 := by simp only [gm_dt]; grind
  have c2 : gm_dt A C C = 0 := by simp only [gm_dt]; grind
  have up : ∀ P : gm_V, gm_B 20 P → gm_B 192000 P := fun P ⟨x1, x2, x3, x4⟩ => ⟨by omega, by omega, by omega, by omega⟩
  have iA : gm_In A B C q A := by
    unfold gm_In gm_Sp
    rw [a1, a2]
    exact ⟨by omega, by omega, by omega, by rw [Int.add_zero, Int.add_zero]; exact hq, by omega, up A bA⟩
  have iB : gm_In A B C q B := by
    unfold gm_In gm_Sp
    rw [b1, b2]
    exact ⟨by omega, by omega, by omega, by rw [Int.add_zero, Int.zero_add]; exact hq, by omega, up B bB⟩
  have iC : gm_In A B C q C := by
    unfold gm_In gm_Sp
    rw [c1, c2]
    exact ⟨by omega, by omega, by omega, by rw [Int.add_zero, Int.zero_add]; exact hq, by omega, up C bC⟩
  refine ⟨?_, gm_cv_3 A B C, ?_⟩
  · intro P hP
    rcases List.mem_cons.mp hP with z | z
    · rw [z]; exact iA
    · rcases List.mem_cons.mp z with z | z
      · rw [z]; exact iB
      · rw [List.mem_singleton.mp z]; exact iC
  · refine ⟨⟨fun P => gm_dt A B P, gm_lin_e2 A B, ⟨1, 0, 0, 1, by decide, by decide, by decide, by decide, by decide, fun P _ => by grind⟩, a2, b2⟩,
      ⟨fun P => gm_dt P B C, gm_lin_e0 B C, ⟨1, 1, 0, 0, by decide, by decide, by decide, by decide, by decide, fun P _ => by grind⟩, b1, c1⟩,
      ⟨fun P => gm_dt A P C, gm_lin_e1 A C, ⟨1, 0, 1, 0, by decide, by decide, by decide, by decide, by decide, fun P _ => by grind⟩, c2, a1⟩, trivial⟩
theorem gm_cov_0 {A B C : gm_V} {q : Int} (hq : 0 < q * gm_dt A B C) {D : gm_V} (hD : gm_Rg A B C q D) : gm_Cov [A, B, C] D := by
  intro g hg h
  obtain ⟨d0, d1, d2, d3, _⟩ := hD
  have k := gm_sp_comb hg d3
  have gA := h A List.mem_cons_self
  have gB := h B (List.mem_cons_of_mem _ List.mem_cons_self)
  have gC := h C (List.mem_cons_of_mem _ (List.mem_cons_of_mem _ List.mem_cons_self))
  have m0 := Int.mul_nonneg d0 gA
  have m1 := Int.mul_nonneg d1 gB
  have m2 := Int.mul_nonneg d2 gC
  have e : q * gm_dt A B C * g D = q * gm_dt D B C * g A + q * gm_dt A D C * g B + q * gm_dt A B D * g C := by grind
  by_cases z : 0 ≤ g D
  · exact z
  · have := Int.mul_neg_of_pos_of_neg hq (show g D < 0 by omega)
    omega
theorem gm_poly_ok {A B C : gm_V} {q : Int} (hq : 0 < q * gm_dt A B C) (bA : gm_B 20 A) (bB : gm_B 20 B) (bC : gm_B 20 C) : ∀ s, gm_Inv A B C q (gm_poly A B C s) ∧ (gm_poly A B C s).length ≤ 3 + 2 * s ∧
    (∀ s', s' < s → ∀ P, P ∈ gm_poly A B C s → 0 ≤ gm_side s' P) ∧ (∀ D, gm_Rg A B C q D → gm_Cov (gm_poly A B C s) D) := by
  have hV : gm_dt A B C ≠ 0 := by intro z; rw [z, Int.mul_zero] at hq; omega
  intro s
  induction s with
  | zero => exact ⟨gm_inv_0 hq bA bB bC, Nat.le_refl _, fun s' h => absurd h (Nat.not_lt_zero _), fun D hD => gm_cov_0 hq hD⟩
  | succ s ih =>
    obtain ⟨i1, i2, i3, i4⟩ := ih
    have hn := gm_lin_side s
    have l := gm_clip_len hn i1.2.1
    refine ⟨gm_inv_clip hV bA bB bC hn (gm_side_b s bA) (gm_side_b s bB) (gm_side_b s bC) i1, ?_, ?_, ?_⟩
    · show (gm_clip (gm_side s) (gm_poly A B C s)).length ≤ _; omega
    · intro s' hs' P hP
      by_cases z : s' = s
      · rw [z]; exact gm_clip_self hn _ P hP
      · exact gm_clip_ge (gm_lin_side s') (i3 s' (by omega)) P hP
    · intro D hD
      exact gm_cov_clip hn i1.2.1 (i4 D hD) (hD.2.2.2.2 s)
end
section
def gm_ab (x : Int) : Int := if x < 0 then -x else x
def gm_mo (h : gm_V → Int) (P N : gm_V) : List gm_V :=
  if h P = 0 then [P] else if (h P < 0 ∧ 0 < h N) ∨ (0 < h P ∧ h N < 0) then [gm_mx (gm_ab (h N)) P (gm_ab (h P)) N] else []
def gm_mg (h : gm_V → Int) : List gm_V → List gm_V
  | [] => []
  | [_] => []
  | P :: N :: r => gm_mo h P N ++ gm_mg h (N :: r)
theorem gm_mg_ec {h : gm_V → Int} {p : gm_V → Prop} : ∀ (r : List gm_V) (P : gm_V), (∀ X, X ∈ gm_mg h (P :: r) → p X) → gm_ec (fun P N => ∀ X, X ∈ gm_mo h P N → p X) (P :: r) := by
  intro r
  induction r with
  | nil => intro P _; exact trivial
  | cons N r ih =>
    intro P hp
    have e : gm_mg h (P :: N :: r) = gm_mo h P N ++ gm_mg h (N :: r) := rfl
    rw [e] at hp
    exact ⟨fun X hX => hp X (List.mem_append.mpr (Or.inl hX)), ih N fun X hX => hp X (List.mem_append.mpr (Or.inr hX))⟩
theorem gm_ec_mg {h : gm_V → Int} {R : gm_V → gm_V → Prop} {p : gm_V → Prop} (hp : ∀ P N, R P N → ∀ X, X ∈ gm_mo h P N → p X) : ∀ (r : List gm_V) (P : gm_V), gm_ec R (P :: r) → ∀ X, X ∈ gm_mg h (P :: r) → p X := by
  intro r
  induction r with
  | nil => intro P _ X hX; exact absurd hX List.not_mem_nil
  | cons N r ih =>
    intro P hR X hX
    have e : gm_mg h (P :: N :: r) = gm_mo h P N ++ gm_mg h (N :: r) := rfl
    have hR' : R P N ∧ gm_ec R (N :: r) := hR
    rw [e] at hX
    rcases List.mem_append.mp hX with h1 | h1
    · exact hp P N hR'.1 X h1
    · exact ih N hR'.2 X h1
theorem gm_row_cov {h : gm_V → Int} (hh : gm_Lin h) {L : List gm_V} (cv : gm_CV L) {D : gm_V} (hc : gm_Cov L D) (hD : h D = 0) {g : gm_V → Int} (hg : gm_Lin g)
    (hM : ∀ X, X ∈ gm_mg h (gm_cl L) → 0 ≤ g X) : 0 ≤ g D := by
  have hn' := gm_lin_s h hh (-1)
  have c1 := gm_cov_clip hh cv hc (by omega)
  have c2 := gm_cov_clip hn' (gm_cv_clip (n := h) cv) c1 (by show 0 ≤ -1 * h D; omega)
  have q1 := gm_clip_self hh L
  have q2 : ∀ Y, Y ∈ gm_clip h L → h Y = 0 → 0 ≤ g Y := by
    cases L with
    | nil => intro Y hY; exact absurd hY List.not_mem_nil
    | cons P r =>
      have e1 := gm_mg_ec (p := fun X => 0 ≤ g X) _ _ hM
      intro Y hY
      refine gm_ec_cg (n := h) (p := fun Y => h Y = 0 → 0 ≤ g Y) ?_ _ _ e1 Y hY
      intro P N hX Y hY y0
      have kp := (gm_kf hg P N).2.1
      have kh := (gm_kf hh P N).2.2
      rcases gm_ot_c h P N with ⟨d1, d2, e⟩ | ⟨d1, d2, e⟩ | ⟨d1, d2, e⟩ | ⟨d1, d2, e⟩
      · rw [e] at hY
        rcases List.mem_cons.mp hY with z | z
        · rw [z] at y0 ⊢; omega
        · rw [List.mem_singleton.mp z]
          have m : gm_mx (-(h N)) P (h P) N ∈ gm_mo h P N := by
            unfold gm_mo gm_ab
            rw [if_neg (by omega), if_pos (by omega), if_pos (by omega), if_neg (by omega)]
            exact List.mem_cons_self
          exact gm_rd_ge hg (hX _ m)
      · rw [e] at hY
        rw [List.mem_singleton.mp hY] at y0 ⊢
        have p0 := kh.mp y0
        have m : P ∈ gm_mo h P N := by
          unfold gm_mo
          rw [if_pos p0]
          exact List.mem_cons_self
        have := hX _ m
        omega
      · rw [e] at hY
        rw [List.mem_singleton.mp hY]
        have m : gm_mx (h N) P (-(h P)) N ∈ gm_mo h P N := by
          unfold gm_mo gm_ab
          rw [if_neg (by omega), if_pos (by omega), if_neg (by omega), if_pos (by omega)]
          exact List.mem_cons_self
        exact gm_rd_ge hg (hX _ m)
      · rw [e] at hY; exact absurd hY List.not_mem_nil
  refine c2 g hg ?_
  generalize gm_clip h L = Q at q1 q2
  cases Q with
  | nil => intro Y hY; exact absurd hY List.not_mem_nil
  | cons P r =>
    have e1 : gm_ec (fun P N => (P ∈ _ :: r) ∧ (N ∈ _ :: r)) (P :: (r ++ [P])) := gm_ec_all (p := fun X => X ∈ P :: r) _ _ fun X hX => gm_cl_mem hX
    intro Y hY
    refine gm_ec_cg (n := fun P => -1 * h P) (p := fun Y => 0 ≤ g Y) ?_ _ _ e1 Y hY
    intro P' N' ⟨mP, mN⟩ X hX
    have a1 := q1 _ mP
    have a2 := q1 _ mN
    have kp := (gm_kf hg P' N').2.1
    rcases gm_ot_c (fun P => -1 * h P) P' N' with ⟨d1, d2, e⟩ | ⟨d1, d2, e⟩ | ⟨d1, d2, e⟩ | ⟨d1, d2, e⟩
    · (try simp only at d1); omega
    · rw [e] at hX
      rw [List.mem_singleton.mp hX]
      try simp only at d1
      have := q2 _ mP (by omega)
      omega
    · (try simp only at d2); omega
    · rw [e] at hX; exact absurd hX List.not_mem_nil
def gm_h (l : Int) (P : gm_V) : Int := 16 * P.2.1 - l * P.2.2.2
def gm_gx (p : Int) (P : gm_V) : Int := 16 * P.1 - p * P.2.2.2
def gm_w (P : gm_V) : Int := P.2.2.2
theorem gm_lin_h (l : Int) : gm_Lin (gm_h l) := by intro a P b Q; simp only [gm_h, gm_mx]; grind
theorem gm_lin_gx (l : Int) : gm_Lin (gm_gx l) := by intro a P b Q; simp only [gm_gx, gm_mx]; grind
theorem gm_lin_w : gm_Lin gm_w := by intro a P b Q; simp only [gm_w, gm_mx]
theorem gm_ab_pos {x : Int} (h : x ≠ 0) : 0 < gm_ab x := by unfold gm_ab; split <;> omega
theorem gm_mo_c {h : gm_V → Int} {P N X : gm_V} (hX : X ∈ gm_mo h P N) : (h P = 0 ∧ X = P) ∨ ∃ a b, 0 < a ∧ 0 < b ∧ a * h P + b * h N = 0 ∧ X = gm_mx a P b N := by
  unfold gm_mo at hX
  by_cases h0 : h P = 0
  · rw [if_pos h0] at hX
    exact Or.inl ⟨h0, List.mem_singleton.mp hX⟩
  · rw [if_neg h0] at hX
    by_cases h1 : (h P < 0 ∧ 0 < h N) ∨ (0 < h P ∧ h N < 0)
    · rw [if_pos h1] at hX
      refine Or.inr ⟨_, _, gm_ab_pos (by omega), gm_ab_pos h0, ?_, List.mem_singleton.mp hX⟩
      unfold gm_ab
      rcases h1 with h1 | h1
      · rw [if_neg (by omega), if_pos h1.1]; grind
      · rw [if_pos h1.2, if_neg (by omega)]; grind
    · rw [if_neg h1] at hX
      exact absurd hX List.not_mem_nil
theorem gm_mg_ge {h f : gm_V → Int} (hf : gm_Lin f) {L : List gm_V} (hL : ∀ P, P ∈ L → 0 ≤ f P) : ∀ X, X ∈ gm_mg h (gm_cl L) → 0 ≤ f X := by
  cases L with
  | nil => intro P hP; exact absurd hP List.not_mem_nil
  | cons P r =>
    have e1 : gm_ec (fun P N => 0 ≤ f P ∧ 0 ≤ f N) (P :: (r ++ [P])) := gm_ec_all (p := fun X => 0 ≤ f X) _ _ fun X hX => hL X (gm_cl_mem hX)
    intro X hX
    refine gm_ec_mg (h := h) (p := fun X => 0 ≤ f X) ?_ _ _ e1 X hX
    intro P' N' ⟨iP, iN⟩ X hX
    rcases gm_mo_c hX with ⟨_, e⟩ | ⟨a, b, ha, hb, _, e⟩
    · rw [e]; exact iP
    · rw [e, hf]; exact gm_nn (by omega) (by omega) iP iN
theorem gm_mg_gt {h f : gm_V → Int} (hf : gm_Lin f) {L : List gm_V} (hL : ∀ P, P ∈ L → 0 < f P) : ∀ X, X ∈ gm_mg h (gm_cl L) → 0 < f X := by
  cases L with
  | nil => intro P hP; exact absurd hP List.not_mem_nil
  | cons P r =>
    have e1 : gm_ec (fun P N => 0 < f P ∧ 0 < f N) (P :: (r ++ [P])) := gm_ec_all (p := fun X => 0 < f X) _ _ fun X hX => hL X (gm_cl_mem hX)
    intro X hX
    refine gm_ec_mg (h := h) (p := fun X => 0 < f X) ?_ _ _ e1 X hX
    intro P' N' ⟨iP, iN⟩ X hX
    rcases gm_mo_c hX with ⟨_, e⟩ | ⟨a, b, ha, hb, _, e⟩
    · rw [e]; exact iP
    · rw [e, hf]; exact gm_pp ha hb iP iN
theorem gm_mg_h {h : gm_V → Int} (hh : gm_Lin h) (L : List gm_V) : ∀ X, X ∈ gm_mg h (gm_cl L) → h X = 0 := by
  cases L with
  | nil => intro P hP; exact absurd hP List.not_mem_nil
  | cons P r =>
    have e1 : gm_ec (fun _ _ => True ∧ True) (P :: (r ++ [P])) := gm_ec_all (p := fun X => True) _ _ fun X hX => trivial
    intro X hX
    refine gm_ec_mg (h := h) (p := fun X => h X = 0) ?_ _ _ e1 X hX
    intro P' N' _ X hX
    rcases gm_mo_c hX with ⟨h0, e⟩ | ⟨a, b, ha, hb, h0, e⟩
    · rw [e]; exact h0
    · rw [e, hh]; exact h0
def gm_Dp (p l : Int) : gm_V := (p, l, 0, 16)
def gm_top (A B C : gm_V) (q p l : Int) : Int := q * gm_dt (gm_Dp p l) B C * A.2.2.1 + q * gm_dt A (gm_Dp p l) C * B.2.2.1 + q * gm_dt A B (gm_Dp p l) * C.2.2.1
def gm_cov (A B C : gm_V) (q p l : Int) : Prop := 0 ≤ q * gm_dt (gm_Dp p l) B C ∧ 0 ≤ q * gm_dt A (gm_Dp p l) C ∧ 0 ≤ q * gm_dt A B (gm_Dp p l) ∧ 0 ≤ gm_top A B C q p l ∧ gm_top A B C q p l ≤ 16 * (q * gm_dt A B C)
theorem gm_posr {w x : Int} (hw : 0 < w) (h : 0 ≤ w * x) : 0 ≤ x := by
  by_cases z : 0 ≤ x
  · exact z
  · have := Int.mul_neg_of_pos_of_neg hw (show x < 0 by omega)
    omega
theorem gm_dtD0 {B C Z : gm_V} {p l : Int} (hx : 16 * Z.1 = p * Z.2.2.2) (hy : 16 * Z.2.1 = l * Z.2.2.2) : Z.2.2.2 * gm_dt (gm_Dp p l) B C = 16 * gm_dt Z B C := by
  simp only [gm_dt, gm_Dp]; grind
theorem gm_dtD1 {B C Z : gm_V} {p l : Int} (hx : 16 * Z.1 = p * Z.2.2.2) (hy : 16 * Z.2.1 = l * Z.2.2.2) : Z.2.2.2 * gm_dt B (gm_Dp p l) C = 16 * gm_dt B Z C := by
  simp only [gm_dt, gm_Dp]; grind
theorem gm_dtD2 {B C Z : gm_V} {p l : Int} (hx : 16 * Z.1 = p * Z.2.2.2) (hy : 16 * Z.2.1 = l * Z.2.2.2) : Z.2.2.2 * gm_dt B C (gm_Dp p l) = 16 * gm_dt B C Z := by
  simp only [gm_dt, gm_Dp]; grind
theorem gm_sound1 {A B C : gm_V} {q p l : Int} {Z : gm_V} (hq : 0 < q * gm_dt A B C) (h0 : 0 ≤ q * gm_dt Z B C) (h1 : 0 ≤ q * gm_dt A Z C) (h2 : 0 ≤ q * gm_dt A B Z) (hs : gm_Sp A B C Z)
    (hz : 0 ≤ Z.2.2.1) (hwz : 0 ≤ Z.2.2.2 - Z.2.2.1) (hw : 0 < Z.2.2.2) (hx : gm_gx p Z = 0) (hy : gm_h l Z = 0) : gm_cov A B C q p l := by
  have hx' : 16 * Z.1 = p * Z.2.2.2 := by unfold gm_gx at hx; omega
  have hy' : 16 * Z.2.1 = l * Z.2.2.2 := by unfold gm_h at hy; omega
  have d0 := gm_dtD0 (B := B) (C := C) hx' hy'
  have d1 := gm_dtD1 (B := A) (C := C) hx' hy'
  have d2 := gm_dtD2 (B := A) (C := B) hx' hy'
  unfold gm_Sp at hs
  unfold gm_cov gm_top
  generalize gm_dt (gm_Dp p l) B C = x0 at *
  generalize gm_dt A (gm_Dp p l) C = x1 at *
  generalize gm_dt A B (gm_Dp p l) = x2 at *
  generalize gm_dt Z B C = z0 at *
  generalize gm_dt A Z C = z1 at *
  generalize gm_dt A B Z = z2 at *
  generalize gm_dt A B C = V at *
  generalize Z.2.2.2 = w at *
  generalize Z.2.2.1 = z at *
  have e0 : w * (q * x0) = 16 * (q * z0) := by grind
  have e1 : w * (q * x1) = 16 * (q * z1) := by grind
  have e2 : w * (q * x2) = 16 * (q * z2) := by grind
  have e3 : w * (q * x0 * A.2.2.1 + q * x1 * B.2.2.1 + q * x2 * C.2.2.1) = 16 * ((q * V) * z) := by grind
  have e4 : w * (16 * (q * V) - (q * x0 * A.2.2.1 + q * x1 * B.2.2.1 + q * x2 * C.2.2.1)) = 16 * ((q * V) * (w - z)) := by grind
  have m3 := Int.mul_nonneg (Int.le_of_lt hq) hz
  have m4 := Int.mul_nonneg (Int.le_of_lt hq) hwz
  refine ⟨gm_posr hw (by omega), gm_posr hw (by omega), gm_posr hw (by omega), gm_posr hw (by omega), ?_⟩
  have := gm_posr hw (show 0 ≤ w * (16 * (q * V) - (q * x0 * A.2.2.1 + q * x1 * B.2.2.1 + q * x2 * C.2.2.1)) by omega)
  omega
def gm_Mt (A B C : gm_V) (l : Int) : List gm_V := gm_mg (gm_h l) (gm_cl (gm_poly A B C 6))
theorem gm_p6 {A B C : gm_V} {q : Int} (hq : 0 < q * gm_dt A B C) (bA : gm_B 20 A) (bB : gm_B 20 B) (bC : gm_B 20 C) : ∀ P, P ∈ gm_poly A B C 6 → 0 < P.2.2.2 ∧ 0 ≤ P.2.2.2 + P.1 ∧ 0 ≤ P.2.2.2 - P.1 ∧ 0 ≤ P.2.2.1 ∧ 0 ≤ P.2.2.2 - P.2.2.1 := by
  obtain ⟨i1, _, i3, _⟩ := gm_poly_ok hq bA bB bC 6
  intro P hP
  have s0 : 0 ≤ P.2.2.2 + P.1 := i3 0 (by omega) P hP
  have s1 : 0 ≤ P.2.2.2 - P.1 := i3 1 (by omega) P hP
  have s2 : 0 ≤ P.2.2.2 + P.2.1 := i3 2 (by omega) P hP
  have s3 : 0 ≤ P.2.2.2 - P.2.1 := i3 3 (by omega) P hP
  have s4 : 0 ≤ P.2.2.1 := i3 4 (by omega) P hP
  have s5 : 0 ≤ P.2.2.2 - P.2.2.1 := i3 5 (by omega) P hP
  refine ⟨?_, s0, s1, s4, s5⟩
  by_cases z : 0 < P.2.2.2
  · exact z
  · exfalso
    have k := (i1.1 P hP).2.2.2.1
    have w0 : P.2.2.2 = 0 := by omega
    have x0 : P.1 = 0 := by omega
    have y0 : P.2.1 = 0 := by omega
    simp only [gm_dt, w0, x0, y0, Int.zero_mul, Int.mul_zero, Int.sub_zero, Int.add_zero, Int.zero_sub, Int.neg_zero, Int.sub_self] at k
    omega
theorem gm_sound {A B C : gm_V} {q p l : Int} (hq : 0 < q * gm_dt A B C) (bA : gm_B 20 A) (bB : gm_B 20 B) (bC : gm_B 20 C) {X Y : gm_V} (hX : X ∈ gm_Mt A B C l) (hY : Y ∈ gm_Mt A B C l)
    (gX : gm_gx p X ≤ 0) (gY : 0 ≤ gm_gx p Y) : gm_cov A B C q p l := by
  have p6 := gm_p6 hq bA bB bC
  obtain ⟨i1, _, _, _⟩ := gm_poly_ok hq bA bB bC 6
  have ge : ∀ f : gm_V → Int, gm_Lin f → (∀ P, P ∈ gm_poly A B C 6 → 0 ≤ f P) → 0 ≤ f X ∧ 0 ≤ f Y := fun f hf h => ⟨gm_mg_ge hf h X hX, gm_mg_ge hf h Y hY⟩
  have a0 := ge _ (gm_lin_q0 B C q) (fun P hP => (i1.1 P hP).1)
  have a1 := ge _ (gm_lin_q1 A C q) (fun P hP => (i1.1 P hP).2.1)
  have a2 := ge _ (gm_lin_q2 A B q) (fun P hP => (i1.1 P hP).2.2.1)
  have a3 := ge _ (gm_lin_sp A B C) (fun P hP => by rw [gm_sp_iff.mp (i1.1 P hP).2.2.2.2.1]; exact Int.le_refl _)
  have a4 := ge _ (gm_lin_s _ (gm_lin_sp A B C) (-1)) (fun P hP => by rw [gm_sp_iff.mp (i1.1 P hP).2.2.2.2.1]; exact Int.le_refl _)
  have a5 := ge _ (gm_lin_side 4) (fun P hP => (p6 P hP).2.2.2.1)
  have a6 := ge _ (gm_lin_side 5) (fun P hP => (p6 P hP).2.2.2.2)
  have wX := gm_mg_gt gm_lin_w (fun P hP => (p6 P hP).1) X hX
  have wY := gm_mg_gt gm_lin_w (fun P hP => (p6 P hP).1) Y hY
  have hX0 := gm_mg_h (gm_lin_h l) _ X hX
  have hY0 := gm_mg_h (gm_lin_h l) _ Y hY
  have lz : gm_Lin (fun P : gm_V => P.2.2.1) := gm_lin_side 4
  have lwz : gm_Lin (fun P : gm_V => P.2.2.2 - P.2.2.1) := gm_lin_side 5
  try simp only at a0 a1 a2 a4
  have sX : gm_sp A B C X = 0 := by omega
  have sY : gm_sp A B C Y = 0 := by omega
  by_cases z : gm_gx p X = 0
  · exact gm_sound1 hq a0.1 a1.1 a2.1 (gm_sp_iff.mpr sX) a5.1 a6.1 wX z hX0
  · have u : 0 < -(gm_gx p X) := by omega
    have f0 := gm_lin_q0 B C q (gm_gx p Y) X (-(gm_gx p X)) Y
    have f1 := gm_lin_q1 A C q (gm_gx p Y) X (-(gm_gx p X)) Y
    have f2 := gm_lin_q2 A B q (gm_gx p Y) X (-(gm_gx p X)) Y
    have f3 := gm_lin_sp A B C (gm_gx p Y) X (-(gm_gx p X)) Y
    have f4 := lz (gm_gx p Y) X (-(gm_gx p X)) Y
    have f5 := lwz (gm_gx p Y) X (-(gm_gx p X)) Y
    have f6 := gm_lin_w (gm_gx p Y) X (-(gm_gx p X)) Y
    have f7 := gm_lin_gx p (gm_gx p Y) X (-(gm_gx p X)) Y
    have f8 := gm_lin_h l (gm_gx p Y) X (-(gm_gx p X)) Y
    try simp only at f0 f1 f2 f4 f5
    have b5X : 0 ≤ X.2.2.1 := a5.1
    have b5Y : 0 ≤ Y.2.2.1 := a5.2
    have b6X : 0 ≤ X.2.2.2 - X.2.2.1 := a6.1
    have b6Y : 0 ≤ Y.2.2.2 - Y.2.2.1 := a6.2
    refine gm_sound1 (Z := gm_mx (gm_gx p Y) X (-(gm_gx p X)) Y) hq ?_ ?_ ?_ ?_ ?_ ?_ ?_ ?_ ?_
    · rw [f0]; exact gm_nn gY (by omega) a0.1 a0.2
    · rw [f1]; exact gm_nn gY (by omega) a1.1 a1.2
    · rw [f2]; exact gm_nn gY (by omega) a2.1 a2.2
    · refine gm_sp_iff.mpr ?_
      rw [f3, sX, sY, Int.mul_zero, Int.mul_zero]; rfl
    · rw [f4]; exact gm_nn gY (by omega) b5X b5Y
    · rw [f5]; exact gm_nn gY (by omega) b6X b6Y
    · show 0 < gm_w (gm_mx (gm_gx p Y) X (-(gm_gx p X)) Y)
      rw [f6]
      have k1 := Int.mul_nonneg gY (Int.le_of_lt wX)
      have k2 := Int.mul_pos u wY
      omega
    · rw [f7]; grind
    · rw [f8, hX0, hY0, Int.mul_zero, Int.mul_zero]; rfl
theorem gm_D_rg {A B C : gm_V} {q p l : Int} (hq : 0 < q * gm_dt A B C) (hp : -16 ≤ p ∧ p ≤ 16) (hl : -16 ≤ l ∧ l ≤ 16) (h : gm_cov A B C q p l) :
    gm_Rg A B C q (q * gm_dt A B C * p, q * gm_dt A B C * l, gm_top A B C q p l, 16 * (q * gm_dt A B C)) := by
  obtain ⟨h0, h1, h2, h3, h4⟩ := h
  have e0 : ∀ z : Int, gm_dt (q * gm_dt A B C * p, q * gm_dt A B C * l, z, 16 * (q * gm_dt A B C)) B C = q * gm_dt A B C * gm_dt (gm_Dp p l) B C := by
    intro z; generalize q * gm_dt A B C = v; simp only [gm_dt, gm_Dp]; grind
  have e1 : ∀ z : Int, gm_dt A (q * gm_dt A B C * p, q * gm_dt A B C * l, z, 16 * (q * gm_dt A B C)) C = q * gm_dt A B C * gm_dt A (gm_Dp p l) C := by
    intro z; generalize q * gm_dt A B C = v; simp only [gm_dt, gm_Dp]; grind
  have e2 : ∀ z : Int, gm_dt A B (q * gm_dt A B C * p, q * gm_dt A B C * l, z, 16 * (q * gm_dt A B C)) = q * gm_dt A B C * gm_dt A B (gm_Dp p l) := by
    intro z; generalize q * gm_dt A B C = v; simp only [gm_dt, gm_Dp]; grind
  have m0 := Int.mul_nonneg (Int.le_of_lt hq) h0
  have m1 := Int.mul_nonneg (Int.le_of_lt hq) h1
  have m2 := Int.mul_nonneg (Int.le_of_lt hq) h2
  refine ⟨?_, ?_, ?_, ?_, ?_⟩
  · rw [e0]
    have : q * (q * gm_dt A B C * gm_dt (gm_Dp p l) B C) = q * gm_dt A B C * (q * gm_dt (gm_Dp p l) B C) := by grind
    omega
  · rw [e1]
    have : q * (q * gm_dt A B C * gm_dt A (gm_Dp p l) C) = q * gm_dt A B C * (q * gm_dt A (gm_Dp p l) C) := by grind
    omega
  · rw [e2]
    have : q * (q * gm_dt A B C * gm_dt A B (gm_Dp p l)) = q * gm_dt A B C * (q * gm_dt A B (gm_Dp p l)) := by grind
    omega
  · unfold gm_Sp
    rw [e0, e1, e2]
    unfold gm_top
    show gm_dt A B C * (q * gm_dt (gm_Dp p l) B C * A.2.2.1 + q * gm_dt A (gm_Dp p l) C * B.2.2.1 + q * gm_dt A B (gm_Dp p l) * C.2.2.1) = _
    grind
  · intro s
    generalize q * gm_dt A B C = v at *
    have k1 := Int.mul_nonneg (Int.le_of_lt hq) (show 0 ≤ 16 + p by omega)
    have k2 := Int.mul_nonneg (Int.le_of_lt hq) (show 0 ≤ 16 - p by omega)
    have k3 := Int.mul_nonneg (Int.le_of_lt hq) (show 0 ≤ 16 + l by omega)
    have k4 := Int.mul_nonneg (Int.le_of_lt hq) (show 0 ≤ 16 - l by omega)
    rw [Int.mul_add] at k1 k3
    rw [Int.mul_sub] at k2 k4
    unfold gm_side
    simp only
    split
    · split <;> omega
    · split
      · split <;> omega
      · split <;> omega
theorem gm_comp {A B C : gm_V} {q p l : Int} (hq : 0 < q * gm_dt A B C) (bA : gm_B 20 A) (bB : gm_B 20 B) (bC : gm_B 20 C) (hp : -16 ≤ p ∧ p ≤ 16) (hl : -16 ≤ l ∧ l ≤ 16) (h : gm_cov A B C q p l) :
    (∃ X, X ∈ gm_Mt A B C l ∧ gm_gx p X ≤ 0) ∧ (∃ X, X ∈ gm_Mt A B C l ∧ 0 ≤ gm_gx p X) := by
  have hR := gm_D_rg hq hp hl h
  obtain ⟨i1, _, _, i4⟩ := gm_poly_ok hq bA bB bC 6
  have hc := i4 _ hR
  have hD0 : gm_h l (q * gm_dt A B C * p, q * gm_dt A B C * l, gm_top A B C q p l, 16 * (q * gm_dt A B C)) = 0 := by
    unfold gm_h; simp only; grind
  have gD0 : gm_gx p (q * gm_dt A B C * p, q * gm_dt A B C * l, gm_top A B C q p l, 16 * (q * gm_dt A B C)) = 0 := by
    unfold gm_gx; simp only; grind
  have wD : gm_w (q * gm_dt A B C * p, q * gm_dt A B C * l, gm_top A B C q p l, 16 * (q * gm_dt A B C)) = 16 * (q * gm_dt A B C) := rfl
  generalize (q * gm_dt A B C * p, q * gm_dt A B C * l, gm_top A B C q p l, 16 * (q * gm_dt A B C)) = D at *
  have cl := fun g hg hM => gm_row_cov (g := g) (gm_lin_h l) i1.2.1 hc hD0 hg hM
  obtain ⟨K, hK, hb⟩ := gm_bd (fun P => -1 * gm_w P) (gm_Mt A B C l)
  have main : ∀ f : gm_V → Int, gm_Lin f → f D = 0 → ∃ X, X ∈ gm_Mt A B C l ∧ 0 ≤ f X := by
    intro f hf fD
    by_cases z : ∃ X, X ∈ gm_Mt A B C l ∧ 0 ≤ f X
    · exact z
    · exfalso
      have k := cl _ (gm_lin_comb hf gm_lin_w (-K) (-1)) (by
        intro X hX
        show 0 ≤ -K * f X + -1 * gm_w X
        have n1 : f X < 0 := by
          by_cases y : f X < 0
          · exact y
          · exact absurd ⟨X, hX, by omega⟩ z
        have b1 := hb X hX
        try simp only at b1
        have k1 := Int.mul_nonneg hK (show 0 ≤ -1 - f X by omega)
        have k2 : K * (-1 - f X) = -K - K * f X := by grind
        rw [Int.neg_mul]
        omega)
      have k' : 0 ≤ -K * f D + -1 * gm_w D := k
      rw [fD, wD, Int.mul_zero] at k'
      omega
  refine ⟨?_, main _ (gm_lin_gx p) gD0⟩
  obtain ⟨X, hX, h0⟩ := main _ (gm_lin_s _ (gm_lin_gx p) (-1)) (by show -1 * gm_gx p D = 0; rw [gD0]; rfl)
  exact ⟨X, hX, by (try simp only at h0); omega⟩
def gm_la (X : gm_V) : Int := (16 * X.1 + 17 * X.2.2.2).tdiv (2 * X.2.2.2) - 1
def gm_fi (X : gm_V) : Int := (16 * X.1 + 17 * X.2.2.2 + 2 * X.2.2.2 - 1).tdiv (2 * X.2.2.2) - 1
theorem gm_la_iff {X : gm_V} (hw : 0 < X.2.2.2) (h1 : 0 ≤ X.2.2.2 + X.1) (i : Int) : i ≤ gm_la X ↔ 0 ≤ gm_gx (2 * i - 15) X := by
  unfold gm_la gm_gx
  rw [Int.tdiv_eq_ediv_of_nonneg (by omega)]
  generalize X.1 = x at *
  generalize X.2.2.2 = w at *
  have k := Int.le_ediv_iff_mul_le (a := i + 1) (b := 16 * x + 17 * w) (c := 2 * w) (by omega)
  have e : (i + 1) * (2 * w) = 2 * (i * w) + 2 * w := by grind
  have e2 : (2 * i - 15) * w = 2 * (i * w) - 15 * w := by grind
  rw [e] at k
  rw [e2]
  omega
theorem gm_fi_iff {X : gm_V} (hw : 0 < X.2.2.2) (h1 : 0 ≤ X.2.2.2 + X.1) (i : Int) : gm_fi X ≤ i ↔ gm_gx (2 * i - 15) X ≤ 0 := by
  unfold gm_fi gm_gx
  rw [Int.tdiv_eq_ediv_of_nonneg (by omega)]
  generalize X.1 = x at *
  generalize X.2.2.2 = w at *
  have k := Int.ediv_lt_iff_lt_mul (a := 16 * x + 17 * w + 2 * w - 1) (b := i + 2) (c := 2 * w) (by omega)
  have e : (i + 2) * (2 * w) = 2 * (i * w) + 4 * w := by grind
  have e2 : (2 * i - 15) * w = 2 * (i * w) - 15 * w := by grind
  rw [e] at k
  rw [e2]
  omega
def gm_ff : Int → List gm_V → Int
  | a, [] => a
  | a, X :: r => gm_ff (if gm_fi X < a then gm_fi X else a) r
def gm_fl : Int → List gm_V → Int
  | a, [] => a
  | a, X :: r => gm_fl (if a < gm_la X then gm_la X else a) r
theorem gm_ff_iff (i : Int) : ∀ (M : List gm_V) (a : Int), gm_ff a M ≤ i ↔ a ≤ i ∨ ∃ X, X ∈ M ∧ gm_fi X ≤ i := by
  intro M
  induction M with
  | nil => intro a; exact ⟨Or.inl, fun h => h.elim id (fun ⟨X, hX, _⟩ => absurd hX List.not_mem_nil)⟩
  | cons Y M ih =>
    intro a
    have k := ih (if gm_fi Y < a then gm_fi Y else a)
    show gm_ff (if gm_fi Y < a then gm_fi Y else a) M ≤ i ↔ _
    rw [k]
    constructor
    · rintro (h | ⟨X, hX, h⟩)
      · split at h
        · exact Or.inr ⟨Y, List.mem_cons_self, h⟩
        · exact Or.inl h
      · exact Or.inr ⟨X, List.mem_cons_of_mem _ hX, h⟩
    · rintro (h | ⟨X, hX, h⟩)
      · left; split <;> omega
      · rcases List.mem_cons.mp hX with e | e
        · left; rw [e] at h; split <;> omega
        · right; exact ⟨X, e, h⟩
theorem gm_fl_iff (i : Int) : ∀ (M : List gm_V) (a : Int), i ≤ gm_fl a M ↔ i ≤ a ∨ ∃ X, X ∈ M ∧ i ≤ gm_la X := by
  intro M
  induction M with
  | nil => intro a; exact ⟨Or.inl, fun h => h.elim id (fun ⟨X, hX, _⟩ => absurd hX List.not_mem_nil)⟩
  | cons Y M ih =>
    intro a
    have k := ih (if a < gm_la Y then gm_la Y else a)
    show i ≤ gm_fl (if a < gm_la Y then gm_la Y else a) M ↔ _
    rw [k]
    constructor
    · rintro (h | ⟨X, hX, h⟩)
      · split at h
        · exact Or.inr ⟨Y, List.mem_cons_self, h⟩
        · exact Or.inl h
      · exact Or.inr ⟨X, List.mem_cons_of_mem _ hX, h⟩
    · rintro (h | ⟨X, hX, h⟩)
      · left; split <;> omega
      · rcases List.mem_cons.mp hX with e | e
        · left; rw [e] at h; split <;> omega
        · right; exact ⟨X, e, h⟩
def gm_rf (A B C : gm_V) (l : Int) : Int := gm_ff 16 (gm_Mt A B C l)
def gm_rl (A B C : gm_V) (l : Int) : Int := gm_fl (-1) (gm_Mt A B C l)
theorem gm_row {A B C : gm_V} {q l : Int} (hq : 0 < q * gm_dt A B C) (bA : gm_B 20 A) (bB : gm_B 20 B) (bC : gm_B 20 C) (hl : -16 ≤ l ∧ l ≤ 16) :
    0 ≤ gm_rf A B C l ∧ gm_rf A B C l ≤ 16 ∧ -1 ≤ gm_rl A B C l ∧ gm_rl A B C l ≤ 15 ∧ ∀ i : Int, 0 ≤ i → i ≤ 15 → ((gm_rf A B C l ≤ i ∧ i ≤ gm_rl A B C l) ↔ gm_cov A B C q (2 * i - 15) l) := by
  have p6 := gm_p6 hq bA bB bC
  have wX : ∀ X, X ∈ gm_Mt A B C l → 0 < X.2.2.2 := fun X hX => gm_mg_gt gm_lin_w (fun P hP => (p6 P hP).1) X hX
  have uX : ∀ X, X ∈ gm_Mt A B C l → 0 ≤ X.2.2.2 + X.1 := fun X hX => gm_mg_ge (gm_lin_side 0) (fun P hP => (p6 P hP).2.1) X hX
  have vX : ∀ X, X ∈ gm_Mt A B C l → 0 ≤ X.2.2.2 - X.1 := fun X hX => gm_mg_ge (gm_lin_side 1) (fun P hP => (p6 P hP).2.2.1) X hX
  have f1 := fun i => gm_ff_iff i (gm_Mt A B C l) 16
  have f2 := fun i => gm_fl_iff i (gm_Mt A B C l) (-1)
  unfold gm_rf gm_rl
  refine ⟨?_, (f1 16).mpr (Or.inl (by omega)), (f2 (-1)).mpr (Or.inl (by omega)), ?_, ?_⟩
  · by_cases z : 0 ≤ gm_ff 16 (gm_Mt A B C l)
    · exact z
    · rcases (f1 (-1)).mp (by omega) with h | ⟨X, hX, h⟩
      · omega
      · have k := (gm_fi_iff (wX X hX) (uX X hX) (-1)).mp h
        have a := wX X hX
        have b := uX X hX
        unfold gm_gx at k
        omega
  · by_cases z : gm_fl (-1) (gm_Mt A B C l) ≤ 15
    · exact z
    · rcases (f2 16).mp (by omega) with h | ⟨X, hX, h⟩
      · omega
      · have k := (gm_la_iff (wX X hX) (uX X hX) 16).mp h
        have a := wX X hX
        have b := vX X hX
        unfold gm_gx at k
        omega
  · intro i i0 i1
    constructor
    · intro ⟨h1, h2⟩
      rcases (f1 i).mp h1 with h | ⟨X, hX, hx⟩
      · omega
      · rcases (f2 i).mp h2 with h | ⟨Y, hY, hy⟩
        · omega
        · exact gm_sound hq bA bB bC hX hY ((gm_fi_iff (wX X hX) (uX X hX) i).mp hx) ((gm_la_iff (wX Y hY) (uX Y hY) i).mp hy)
    · intro h
      obtain ⟨⟨X, hX, hx⟩, ⟨Y, hY, hy⟩⟩ := gm_comp hq bA bB bC (by omega) hl h
      exact ⟨(f1 i).mpr (Or.inr ⟨X, hX, (gm_fi_iff (wX X hX) (uX X hX) i).mpr hx⟩), (f2 i).mpr (Or.inr ⟨Y, hY, (gm_la_iff (wX Y hY) (uX Y hY) i).mpr hy⟩)⟩
end
section
def ra_L (x : Int) : Int64 := Int64.ofInt x
def ra_I (x : Int) : Int32 := Int32.ofInt x
theorem ra_Lt {x : Int} (h : x.natAbs < 4611686018427387904) : (ra_L x).toInt = x := Int64.toInt_ofInt_of_le (by omega) (by omega)
theorem ra_It {x : Int} (h : x.natAbs < 1073741824) : (ra_I x).toInt = x := Int32.toInt_ofInt_of_le (by omega) (by omega)
theorem ra_Ladd (x y : Int) : ra_L x + ra_L y = ra_L (x + y) := (Int64.ofInt_add x y).symm
theorem ra_Lsub (x y : Int) : ra_L x - ra_L y = ra_L (x - y) := (Int64.ofInt_sub x y).symm
theorem ra_Lmul (x y : Int) : ra_L x * ra_L y = ra_L (x * y) := (Int64.ofInt_mul x y).symm
theorem ra_Lneg (x : Int) : -ra_L x = ra_L (-x) := (Int64.ofInt_neg x).symm
theorem ra_Iadd (x y : Int) : ra_I x + ra_I y = ra_I (x + y) := (Int32.ofInt_add x y).symm
theorem ra_Isub (x y : Int) : ra_I x - ra_I y = ra_I (x - y) := (Int32.ofInt_sub x y).symm
theorem ra_Imul (x y : Int) : ra_I x * ra_I y = ra_I (x * y) := (Int32.ofInt_mul x y).symm
theorem ra_Ineg (x : Int) : -ra_I x = ra_I (-x) := (Int32.ofInt_neg x).symm
theorem ra_Lle {x y : Int} (hx : x.natAbs < 4611686018427387904) (hy : y.natAbs < 4611686018427387904) : ra_L x ≤ ra_L y ↔ x ≤ y := by
  rw [Int64.le_iff_toInt_le, ra_Lt hx, ra_Lt hy]
theorem ra_Llt {x y : Int} (hx : x.natAbs < 4611686018427387904) (hy : y.natAbs < 4611686018427387904) : ra_L x < ra_L y ↔ x < y := by
  rw [Int64.lt_iff_toInt_lt, ra_Lt hx, ra_Lt hy]
theorem ra_Leq {x y : Int} (hx : x.natAbs < 4611686018427387904) (hy : y.natAbs < 4611686018427387904) : ra_L x = ra_L y ↔ x = y := by
  rw [← Int64.toInt_inj, ra_Lt hx, ra_Lt hy]
theorem ra_Ile {x y : Int} (hx : x.natAbs < 1073741824) (hy : y.natAbs < 1073741824) : ra_I x ≤ ra_I y ↔ x ≤ y := by
  rw [Int32.le_iff_toInt_le, ra_It hx, ra_It hy]
theorem ra_Ilt {x y : Int} (hx : x.natAbs < 1073741824) (hy : y.natAbs < 1073741824) : ra_I x < ra_I y ↔ x < y := by
  rw [Int32.lt_iff_toInt_lt, ra_It hx, ra_It hy]
theorem ra_Ieq {x y : Int} (hx : x.natAbs < 1073741824) (hy : y.natAbs < 1073741824) : ra_I x = ra_I y ↔ x = y := by
  rw [← Int32.toInt_inj, ra_It hx, ra_It hy]
theorem ra_n (n : Nat) : nI n = ra_I n := (Int32.ofInt_eq_ofNat).symm
theorem ra_l (n : Nat) : lN n = ra_L n := (Int64.ofInt_eq_ofNat).symm
theorem ra_IL {x : Int} (h : x.natAbs < 1073741824) : (ra_I x).toInt64 = ra_L x := by
  have e := ra_It h
  have k : Int64.ofInt (ra_I x).toInt = (ra_I x).toInt64 := Int64.ofInt_int32ToInt _
  rw [← k, e]; rfl
theorem ra_LI (x : Int) : (ra_L x).toInt32 = ra_I x := Int64.toInt32_ofInt
theorem ra_Ldiv {x y : Int} (hx : x.natAbs < 4611686018427387904) (hy : y.natAbs < 4611686018427387904) : ra_L x / ra_L y = ra_L (x.tdiv y) := by
  have e := Jvm.Kit.i64_div (x := ra_L x) (y := ra_L y) (by rw [ra_Lt hx]; omega)
  rw [ra_Lt hx, ra_Lt hy] at e
  rw [← e]
  exact (Int64.ofInt_toInt _).symm
theorem ra_0 : (0 : Int32) = ra_I 0 := by decide
theorem ra_cl {x : Int} (n : Nat) (h : x = n) (hn : n < 1073741824) : (ra_I x).toNatClampNeg = n := by
  rw [h, ← ra_n]; exact nI_clamp (by omega)
theorem ra_in {x : Int} {N : Nat} (h0 : 0 ≤ x) (h : x < N) (hN : N < 1073741824) : vp_in (ra_I x) N := by
  rw [vp_in_iff, ra_It (by omega)]; omega
theorem ra_L0 : (0 : Int64) = ra_L 0 := by decide
theorem ra_L1 : (1 : Int64) = ra_L 1 := by decide
theorem ra_L2 : (2 : Int64) = ra_L 2 := by decide
theorem ra_L16 : (16 : Int64) = ra_L 16 := by decide
theorem ra_L17 : (17 : Int64) = ra_L 17 := by decide
theorem ra_Lm1 : (-1 : Int64) = ra_L (-1) := by decide
theorem ra_I1 : (1 : Int32) = ra_I 1 := by decide
theorem ra_I2 : (2 : Int32) = ra_I 2 := by decide
theorem ra_I4 : (4 : Int32) = ra_I 4 := by decide
theorem ra_I12 : (12 : Int32) = ra_I 12 := by decide
theorem ra_I15 : (15 : Int32) = ra_I 15 := by decide
theorem ra_I16 : (16 : Int32) = ra_I 16 := by decide
theorem ra_Im1 : (-1 : Int32) = ra_I (-1) := by decide
theorem ra_Im2 : (-2 : Int32) = ra_I (-2) := by decide
theorem ra_xy (i : Nat) : (2 : Int32) * nI i - 15 = ra_I (2 * (i : Int) - 15) := by
  rw [ra_n, ra_I2, ra_I15, ra_Imul, ra_Isub]
theorem ra_xyL (i : Nat) (h : i < 1000) : ((2 : Int32) * nI i - 15).toInt64 = ra_L (2 * (i : Int) - 15) := by
  rw [ra_xy, ra_IL (by omega)]
end
section
def pv_A (c : Nat → Int) (t : Nat) : gm_V := (c (12 * t), c (12 * t + 1), c (12 * t + 2), c (12 * t + 3))
def pv_B (c : Nat → Int) (t : Nat) : gm_V := (c (12 * t + 4), c (12 * t + 5), c (12 * t + 6), c (12 * t + 7))
def pv_C (c : Nat → Int) (t : Nat) : gm_V := (c (12 * t + 8), c (12 * t + 9), c (12 * t + 10), c (12 * t + 11))
def pv_V (c : Nat → Int) (t : Nat) : Int := gm_dt (pv_A c t) (pv_B c t) (pv_C c t)
def pv_q (c : Nat → Int) (t : Nat) : Int := if pv_V c t < 0 then -1 else 1
def pv_e0 (c : Nat → Int) (t i j : Nat) : Int := pv_q c t * gm_dt (gm_Dp (2 * (i : Int) - 15) (2 * (j : Int) - 15)) (pv_B c t) (pv_C c t)
def pv_e1 (c : Nat → Int) (t i j : Nat) : Int := pv_q c t * gm_dt (pv_A c t) (gm_Dp (2 * (i : Int) - 15) (2 * (j : Int) - 15)) (pv_C c t)
def pv_e2 (c : Nat → Int) (t i j : Nat) : Int := pv_q c t * gm_dt (pv_A c t) (pv_B c t) (gm_Dp (2 * (i : Int) - 15) (2 * (j : Int) - 15))
def pv_tp (c : Nat → Int) (t i j : Nat) : Int := pv_e0 c t i j * c (12 * t + 2) + pv_e1 c t i j * c (12 * t + 6) + pv_e2 c t i j * c (12 * t + 10)
def pv_bt (c : Nat → Int) (t : Nat) : Int := 16 * (pv_q c t * pv_V c t)
def pv_cov (c : Nat → Int) (t i j : Nat) : Bool := decide (pv_V c t ≠ 0 ∧ 0 ≤ pv_e0 c t i j ∧ 0 ≤ pv_e1 c t i j ∧ 0 ≤ pv_e2 c t i j ∧ 0 ≤ pv_tp c t i j ∧ pv_tp c t i j ≤ pv_bt c t)
theorem pv_cov_iff (c : Nat → Int) (t i j : Nat) : pv_cov c t i j = true ↔ (pv_V c t ≠ 0 ∧ gm_cov (pv_A c t) (pv_B c t) (pv_C c t) (pv_q c t) (2 * (i : Int) - 15) (2 * (j : Int) - 15)) :=
  decide_eq_true_iff
def pv_lt (c : Nat → Int) (t b i j : Nat) : Bool := decide (pv_tp c t i j * pv_bt c b < pv_tp c b i j * pv_bt c t)
def pv_up (t : Nat) (lt : Nat → Bool) : Option Nat → Option Nat
  | none => some t
  | some b => if lt b = true then some t else some b
def pv_ow (c : Nat → Int) (i j : Nat) : Nat → Option Nat
  | 0 => none
  | t + 1 => if pv_cov c t i j = true then pv_up t (fun b => pv_lt c t b i j) (pv_ow c i j t) else pv_ow c i j t
theorem pv_ow_lt (c : Nat → Int) (i j : Nat) : ∀ t b, pv_ow c i j t = some b → b < t := by
  intro t
  induction t with
  | zero => intro b h; cases h
  | succ t ih =>
    intro b h
    unfold pv_ow at h
    by_cases hc : pv_cov c t i j = true
    · rw [if_pos hc] at h
      cases ho : pv_ow c i j t with
      | none => rw [ho] at h; cases h; omega
      | some b' =>
        rw [ho] at h
        have k := ih b' ho
        unfold pv_up at h
        simp only at h
        split at h
        · cases h; omega
        · cases h; omega
    · rw [if_neg hc] at h
      have := ih b h
      omega
def pv_N (c : Nat → Int) (d : Nat) (a : Nat → Int32) : Prop := ∀ k, k < 12 * d → (c k).natAbs ≤ 20 ∧ a k = ra_I (c k)
theorem pv_bA {c : Nat → Int} {d : Nat} {a : Nat → Int32} (h : pv_N c d a) {t : Nat} (ht : t < d) : gm_B 20 (pv_A c t) :=
  ⟨(h _ (by omega)).1, (h _ (by omega)).1, (h _ (by omega)).1, (h _ (by omega)).1⟩
theorem pv_bB {c : Nat → Int} {d : Nat} {a : Nat → Int32} (h : pv_N c d a) {t : Nat} (ht : t < d) : gm_B 20 (pv_B c t) :=
  ⟨(h _ (by omega)).1, (h _ (by omega)).1, (h _ (by omega)).1, (h _ (by omega)).1⟩
theorem pv_bC {c : Nat → Int} {d : Nat} {a : Nat → Int32} (h : pv_N c d a) {t : Nat} (ht : t < d) : gm_B 20 (pv_C c t) :=
  ⟨(h _ (by omega)).1, (h _ (by omega)).1, (h _ (by omega)).1, (h _ (by omega)).1⟩
theorem pv_dtb {P Q R : gm_V} (hP : gm_B 20 P) (hQ : gm_B 20 Q) (hR : gm_B 20 R) : (gm_dt P Q R).natAbs ≤ 48000 := by
  obtain ⟨p1, p2, p3, p4⟩ := hP
  obtain ⟨q1, q2, q3, q4⟩ := hQ
  obtain ⟨r1, r2, r3, r4⟩ := hR
  unfold gm_dt
  have m : ∀ x y z w : Int, x.natAbs ≤ 20 → y.natAbs ≤ 20 → z.natAbs ≤ 20 → w.natAbs ≤ 20 → (x * y - z * w).natAbs ≤ 800 := by
    intro x y z w hx hy hz hw
    have k1 := gm_mulb hx hy
    have k2 := gm_mulb hz hw
    omega
  have a := gm_mulb p1 (m _ _ _ _ q2 r4 r2 q4)
  have b := gm_mulb p2 (m _ _ _ _ q1 r4 r1 q4)
  have c := gm_mulb p4 (m _ _ _ _ q1 r2 r1 q2)
  omega
theorem pv_bD {i j : Nat} (hi : i < 16) (hj : j < 16) : gm_B 20 (gm_Dp (2 * (i : Int) - 15) (2 * (j : Int) - 15)) := by
  unfold gm_B gm_Dp
  simp only
  refine ⟨?_, ?_, ?_, ?_⟩ <;> omega
theorem pv_qb (c : Nat → Int) (t : Nat) (x : Int) : (pv_q c t * x).natAbs = x.natAbs := by
  unfold pv_q; split <;> omega
theorem pv_Vb {c : Nat → Int} {d : Nat} {a : Nat → Int32} (h : pv_N c d a) {t : Nat} (ht : t < d) : (pv_V c t).natAbs ≤ 48000 := pv_dtb (pv_bA h ht) (pv_bB h ht) (pv_bC h ht)
theorem pv_e0b {c : Nat → Int} {d : Nat} {a : Nat → Int32} (h : pv_N c d a) {t i j : Nat} (ht : t < d) (hi : i < 16) (hj : j < 16) : (pv_e0 c t i j).natAbs ≤ 48000 := by
  unfold pv_e0; rw [pv_qb]; exact pv_dtb (pv_bD hi hj) (pv_bB h ht) (pv_bC h ht)
theorem pv_e1b {c : Nat → Int} {d : Nat} {a : Nat → Int32} (h : pv_N c d a) {t i j : Nat} (ht : t < d) (hi : i < 16) (hj : j < 16) : (pv_e1 c t i j).natAbs ≤ 48000 := by
  unfold pv_e1; rw [pv_qb]; exact pv_dtb (pv_bA h ht) (pv_bD hi hj) (pv_bC h ht)
theorem pv_e2b {c : Nat → Int} {d : Nat} {a : Nat → Int32} (h : pv_N c d a) {t i j : Nat} (ht : t < d) (hi : i < 16) (hj : j < 16) : (pv_e2 c t i j).natAbs ≤ 48000 := by
  unfold pv_e2; rw [pv_qb]; exact pv_dtb (pv_bA h ht) (pv_bB h ht) (pv_bD hi hj)
theorem pv_tpb {c : Nat → Int} {d : Nat} {a : Nat → Int32} (h : pv_N c d a) {t i j : Nat} (ht : t < d) (hi : i < 16) (hj : j < 16) : (pv_tp c t i j).natAbs ≤ 2880000 := by
  unfold pv_tp
  have k0 := gm_mulb (pv_e0b h ht hi hj) (h (12 * t + 2) (by omega)).1
  have k1 := gm_mulb (pv_e1b h ht hi hj) (h (12 * t + 6) (by omega)).1
  have k2 := gm_mulb (pv_e2b h ht hi hj) (h (12 * t + 10) (by omega)).1
  omega
theorem pv_btb {c : Nat → Int} {d : Nat} {a : Nat → Int32} (h : pv_N c d a) {t : Nat} (ht : t < d) : (pv_bt c t).natAbs ≤ 768000 := by
  have k := pv_Vb h ht
  have e := pv_qb c t (pv_V c t)
  unfold pv_bt
  omega
theorem pv_qpos {c : Nat → Int} {t : Nat} (h : pv_V c t ≠ 0) : 0 < pv_q c t * gm_dt (pv_A c t) (pv_B c t) (pv_C c t) := by
  show 0 < pv_q c t * pv_V c t
  unfold pv_q
  split <;> omega
theorem pv_bt0 {c : Nat → Int} {t : Nat} : pv_bt c t = 0 ↔ pv_V c t = 0 := by
  unfold pv_bt pv_q
  split <;> omega
def pv_RowOK (c : Nat → Int) (t j : Nat) (a b : Int) : Prop := 0 ≤ a ∧ a ≤ 16 ∧ -1 ≤ b ∧ b ≤ 15 ∧ ∀ i : Nat, i < 16 → ((a ≤ (i : Int) ∧ (i : Int) ≤ b) ↔ pv_cov c t i j = true)
theorem pv_row0 {c : Nat → Int} {t : Nat} (j : Nat) (h : pv_V c t = 0) : pv_RowOK c t j 16 (-1) := by
  refine ⟨by omega, by omega, by omega, by omega, fun i hi => ?_⟩
  rw [pv_cov_iff]
  constructor
  · intro ⟨h1, h2⟩; omega
  · intro ⟨h1, _⟩; exact absurd h h1
theorem pv_row1 {c : Nat → Int} {d : Nat} {a : Nat → Int32} (hN : pv_N c d a) {t : Nat} (ht : t < d) {j : Nat} (hj : j < 16) (h : pv_V c t ≠ 0) :
    pv_RowOK c t j (gm_rf (pv_A c t) (pv_B c t) (pv_C c t) (2 * (j : Int) - 15)) (gm_rl (pv_A c t) (pv_B c t) (pv_C c t) (2 * (j : Int) - 15)) := by
  obtain ⟨k1, k2, k3, k4, k5⟩ := gm_row (l := 2 * (j : Int) - 15) (pv_qpos h) (pv_bA hN ht) (pv_bB hN ht) (pv_bC hN ht) (by omega)
  refine ⟨k1, k2, k3, k4, fun i hi => ?_⟩
  rw [pv_cov_iff]
  have k := k5 (i : Int) (by omega) (by omega)
  exact ⟨fun z => ⟨h, k.mp z⟩, fun z => k.mpr z.2⟩
end
section
def yv_pt (c : Nat → Int) (t k : Nat) (p l : Int) (r s : Nat) : Int := if r = k then (if s = 0 then p else if s = 1 then l else 16) else c (12 * t + 4 * r + s)
theorem yv_part {post : Int32 → Prop} {fd : Int32} {dr num : Nat → Int32} {c : Nat → Int} (t k r s : Nat) (p l : Int) (hr : r < 3) (hk : k ≤ 3) (hs : s < 4) (hin : 12 * t + 4 * r + s < 120) (hread : num (12 * t + 4 * r + s) = ra_I (c (12 * t + 4 * r + s)))
    (h : post (ra_I (yv_pt c t k p l r s))) : wpY_part post (fd, dr, num) (nI t) (nI k) (ra_I p) (ra_I l) (nI r) (nI s) := by
  unfold yv_pt at h
  have e : ((12 : Int32) * nI t + 4 * nI r) + nI s = nI (12 * t + 4 * r + s) := by
    rw [show (12 : Int32) = nI 12 from rfl, show (4 : Int32) = nI 4 from rfl, pk_mul, pk_mul, nI_add, nI_add]
  refine pk_eq r k (fun e1 => ?_) (fun e1 => ?_)
  · rw [if_pos e1] at h
    refine pk_eq s 0 (fun e2 => ?_) (fun e2 => ?_)
    · rw [if_pos e2] at h; exact h
    · rw [if_neg e2] at h
      refine pk_eq s 1 (fun e3 => ?_) (fun e3 => ?_)
      · rw [if_pos e3] at h; exact h
      · rw [if_neg e3] at h; rw [ra_I16]; exact h
  · rw [if_neg e1] at h
    show vp_in (((12 : Int32) * nI t + 4 * nI r) + nI s) 120 ∧ post (num (((12 : Int32) * nI t + 4 * nI r) + nI s).toNatClampNeg)
    rw [e, nI_clamp (by omega), hread]
    exact ⟨vp_in_nI hin (by decide), h⟩
def yv_D (c : Nat → Int) (t k : Nat) (p l : Int) : Int :=
  yv_pt c t k p l 0 0 * (yv_pt c t k p l 1 1 * yv_pt c t k p l 2 3 - yv_pt c t k p l 2 1 * yv_pt c t k p l 1 3) - yv_pt c t k p l 0 1 * (yv_pt c t k p l 1 0 * yv_pt c t k p l 2 3 - yv_pt c t k p l 2 0 * yv_pt c t k p l 1 3) + yv_pt c t k p l 0 3 * (yv_pt c t k p l 1 0 * yv_pt c t k p l 2 1 - yv_pt c t k p l 2 0 * yv_pt c t k p l 1 1)
theorem yv_D0 (c : Nat → Int) (t : Nat) (p l : Int) : yv_D c t 0 p l = gm_dt (gm_Dp p l) (pv_B c t) (pv_C c t) := rfl
theorem yv_D1 (c : Nat → Int) (t : Nat) (p l : Int) : yv_D c t 1 p l = gm_dt (pv_A c t) (gm_Dp p l) (pv_C c t) := rfl
theorem yv_D2 (c : Nat → Int) (t : Nat) (p l : Int) : yv_D c t 2 p l = gm_dt (pv_A c t) (pv_B c t) (gm_Dp p l) := rfl
theorem yv_D3 (c : Nat → Int) (t : Nat) (p l : Int) : yv_D c t 3 p l = pv_V c t := rfl
section
variable {post : Int32 → Prop} {fd : Int32} {dr num : Nat → Int32} {c : Nat → Int} {d : Nat}
theorem yv_vw (hN : pv_N c d num) (hd : d ≤ 10) {t : Nat} (ht : t < d) (k : Nat) (hk : k ≤ 3) (p l : Int) (h : post (ra_I (yv_D c t k p l))) : wpY_volumeWith post (fd, dr, num) (nI t) (nI k) (ra_I p) (ra_I l) := by
  have q : ∀ r s, r < 3 → s < 4 → num (12 * t + 4 * r + s) = ra_I (c (12 * t + 4 * r + s)) := fun r s hr hs => (hN _ (by omega)).2
  unfold wpY_volumeWith
  refine yv_part (c := c) t k 0 0 p l (by omega) hk (by omega) (by omega) (q 0 0 (by omega) (by omega)) ?_
  refine yv_part (c := c) t k 0 1 p l (by omega) hk (by omega) (by omega) (q 0 1 (by omega) (by omega)) ?_
  refine yv_part (c := c) t k 0 3 p l (by omega) hk (by omega) (by omega) (q 0 3 (by omega) (by omega)) ?_
  refine yv_part (c := c) t k 1 0 p l (by omega) hk (by omega) (by omega) (q 1 0 (by omega) (by omega)) ?_
  refine yv_part (c := c) t k 1 1 p l (by omega) hk (by omega) (by omega) (q 1 1 (by omega) (by omega)) ?_
  refine yv_part (c := c) t k 1 3 p l (by omega) hk (by omega) (by omega) (q 1 3 (by omega) (by omega)) ?_
  refine yv_part (c := c) t k 2 0 p l (by omega) hk (by omega) (by omega) (q 2 0 (by omega) (by omega)) ?_
  refine yv_part (c := c) t k 2 1 p l (by omega) hk (by omega) (by omega) (q 2 1 (by omega) (by omega)) ?_
  refine yv_part (c := c) t k 2 3 p l (by omega) hk (by omega) (by omega) (q 2 3 (by omega) (by omega)) ?_
  simp only [ra_Imul, ra_Isub, ra_Iadd]
  exact h
theorem yv_b {x : Int} (h : x.natAbs ≤ 3000000) : x.natAbs < 1073741824 := by omega
theorem yv_ble0 {A B : Prop} {x : Int} (h : x.natAbs ≤ 3000000) (f : 0 ≤ x → A) (g : x < 0 → B) : ((0 : Int32) ≤ ra_I x → A) ∧ (¬ (0 : Int32) ≤ ra_I x → B) := by
  have k : (0 : Int32) ≤ ra_I x ↔ 0 ≤ x := by rw [ra_0]; exact ra_Ile (by decide) (yv_b h)
  rw [k]
  exact ⟨f, fun z => g (by omega)⟩
theorem yv_blt0 {A B : Prop} {x : Int} (h : x.natAbs ≤ 3000000) (f : x < 0 → A) (g : 0 ≤ x → B) : (ra_I x < (0 : Int32) → A) ∧ (¬ ra_I x < (0 : Int32) → B) := by
  have k : ra_I x < (0 : Int32) ↔ x < 0 := by rw [ra_0]; exact ra_Ilt (yv_b h) (by decide)
  rw [k]
  exact ⟨f, fun z => g (by omega)⟩
theorem yv_beq0 {A B : Prop} {x : Int} (h : x.natAbs ≤ 3000000) (f : x = 0 → A) (g : x ≠ 0 → B) : (ra_I x = (0 : Int32) → A) ∧ (¬ ra_I x = (0 : Int32) → B) := by
  have k : ra_I x = (0 : Int32) ↔ x = 0 := by rw [ra_0]; exact ra_Ieq (yv_b h) (by decide)
  rw [k]
  exact ⟨f, fun z => g z⟩
theorem yv_weight (hN : pv_N c d num) (hd : d ≤ 10) {t : Nat} (ht : t < d) (k : Nat) (hk : k ≤ 3) (i j : Nat) (h : post (ra_I (pv_q c t * yv_D c t k (2 * (i : Int) - 15) (2 * (j : Int) - 15)))) : wpY_weight post (fd, dr, num) (nI t) (nI k) (nI i) (nI j) := by
  unfold wpY_weight
  refine yv_vw hN hd ht 3 (by omega) 0 0 ?_
  rw [yv_D3]
  have kb := pv_Vb hN ht
  unfold pv_q at h
  rw [ra_xy, ra_xy]
  refine yv_vw hN hd ht k hk _ _ ?_
  refine yv_ble0 (by omega) (fun z => ?_) (fun z => ?_)
  · rw [if_neg (by omega), Int.one_mul] at h; exact h
  · rw [if_pos z, Int.neg_mul, Int.one_mul] at h
    rw [ra_Ineg]; exact h
theorem yv_bottom (hN : pv_N c d num) (hd : d ≤ 10) {t : Nat} (ht : t < d) (h : post (ra_I (pv_bt c t))) : wpY_bottom post (fd, dr, num) (nI t) := by
  unfold wpY_bottom
  refine yv_vw hN hd ht 3 (by omega) 0 0 ?_
  rw [yv_D3]
  have kb := pv_Vb hN ht
  unfold pv_bt pv_q at h
  refine yv_ble0 (by omega) (fun z => ?_) (fun z => ?_)
  · rw [if_neg (by omega), Int.one_mul] at h; rw [ra_I16, ra_Imul]; exact h
  · rw [if_pos z, Int.neg_mul, Int.one_mul] at h
    rw [ra_Ineg, ra_I16, ra_Imul]; exact h
theorem yv_zin (t k : Nat) : ((12 : Int32) * nI t + 4 * nI k) + 2 = nI (12 * t + 4 * k + 2) := by
  rw [show (12 : Int32) = nI 12 from rfl, show (4 : Int32) = nI 4 from rfl, show (2 : Int32) = nI 2 from rfl, pk_mul, pk_mul, nI_add, nI_add]
theorem yv_top_s (hN : pv_N c d num) (hd : d ≤ 10) {t : Nat} (ht : t < d) (k : Nat) (hk : k < 3) (i j : Nat) {n : Nat} {s s' : Int} (es : s' = s + pv_q c t * yv_D c t k (2 * (i : Int) - 15) (2 * (j : Int) - 15) * c (12 * t + 4 * k + 2))
    (h : wY_top_6 post (nI t) (nI i) (nI j) fd dr num n (ra_I s') (nI (k + 1))) : wY_top_6 post (nI t) (nI i) (nI j) fd dr num (n + 1) (ra_I s) (nI k) := by
  refine pk_le 3 k (fun z => absurd z (by omega)) (fun _ => ?_)
  refine yv_weight hN hd ht k (by omega) i j ?_
  rw [yv_zin]
  refine ⟨vp_in_nI (by omega) (by decide), ?_⟩
  rw [nI_clamp (by omega), (hN _ (by omega)).2, ra_Imul, ra_Iadd, ← es, nI_1]
  exact nm_e (nm_e h)
theorem yv_top (hN : pv_N c d num) (hd : d ≤ 10) {t : Nat} (ht : t < d) (i j : Nat) (h : post (ra_I (pv_tp c t i j))) : wpY_top post (fd, dr, num) (nI t) (nI i) (nI j) := by
  refine ⟨4, ?_⟩
  refine yv_top_s hN hd ht 0 (by omega) i j (s := 0) rfl ?_
  refine yv_top_s hN hd ht 1 (by omega) i j rfl ?_
  refine yv_top_s hN hd ht 2 (by omega) i j rfl ?_
  refine pk_le 3 3 (fun _ => ?_) (fun z => absurd z (by omega))
  have e : pv_tp c t i j = 0 + pv_q c t * yv_D c t 0 (2 * (i : Int) - 15) (2 * (j : Int) - 15) * c (12 * t + 4 * 0 + 2) + pv_q c t * yv_D c t 1 (2 * (i : Int) - 15) (2 * (j : Int) - 15) * c (12 * t + 4 * 1 + 2) + pv_q c t * yv_D c t 2 (2 * (i : Int) - 15) (2 * (j : Int) - 15) * c (12 * t + 4 * 2 + 2) := by
    rw [Int.zero_add]; rfl
  rw [← e]; exact h
end
end
section
section
variable {post : Int32 → Prop} {fd : Int32} {dr num : Nat → Int32} {c : Nat → Int} {d : Nat}
theorem yv_cov_s (hN : pv_N c d num) (hd : d ≤ 10) {t : Nat} (ht : t < d) (k : Nat) (hk : k < 3) (i j : Nat) {n : Nat} (hb : (pv_q c t * yv_D c t k (2 * (i : Int) - 15) (2 * (j : Int) - 15)).natAbs ≤ 3000000)
    (f : 0 ≤ pv_q c t * yv_D c t k (2 * (i : Int) - 15) (2 * (j : Int) - 15) → wY_covering_13 post (nI t) (nI i) (nI j) fd dr num n (nI (k + 1))) (g : pv_q c t * yv_D c t k (2 * (i : Int) - 15) (2 * (j : Int) - 15) < 0 → post 0) :
    wY_covering_13 post (nI t) (nI i) (nI j) fd dr num (n + 1) (nI k) := by
  refine pk_le 3 k (fun z => absurd z (by omega)) (fun _ => ?_)
  refine yv_weight hN hd ht k (by omega) i j ?_
  refine yv_ble0 hb (fun z => ?_) g
  rw [nI_1]
  exact nm_e (f z)
theorem yv_covering (hN : pv_N c d num) (hd : d ≤ 10) {t : Nat} (ht : t < d) {i j : Nat} (hi : i < 16) (hj : j < 16) (h : post (if pv_cov c t i j = true then 1 else 0)) : wpY_covering post (fd, dr, num) (nI t) (nI i) (nI j) := by
  have f0 : pv_cov c t i j ≠ true → post 0 := fun z => by rw [if_neg z] at h; exact h
  have f1 : pv_cov c t i j = true → post 1 := fun z => by rw [if_pos z] at h; exact h
  have D : pv_cov c t i j = true ↔ (pv_V c t ≠ 0 ∧ 0 ≤ pv_e0 c t i j ∧ 0 ≤ pv_e1 c t i j ∧ 0 ≤ pv_e2 c t i j ∧ 0 ≤ pv_tp c t i j ∧ pv_tp c t i j ≤ pv_bt c t) := decide_eq_true_iff
  have b0 := pv_e0b hN ht hi hj
  have b1 := pv_e1b hN ht hi hj
  have b2 := pv_e2b hN ht hi hj
  have bt := pv_tpb hN ht hi hj
  have bb := pv_btb hN ht
  unfold wpY_covering
  refine yv_bottom hN hd ht ?_
  refine yv_beq0 (by omega) (fun z => f0 (fun y => (D.mp y).1 (pv_bt0.mp z))) (fun z => ⟨4, ?_⟩)
  have hV : pv_V c t ≠ 0 := fun y => z (pv_bt0.mpr y)
  refine yv_cov_s hN hd ht 0 (by omega) i j (Nat.le_trans b0 (by decide)) (fun h0 => ?_) (fun h0 => f0 (fun y => absurd (D.mp y).2.1 (Int.not_le.mpr h0)))
  refine yv_cov_s hN hd ht 1 (by omega) i j (Nat.le_trans b1 (by decide)) (fun h1 => ?_) (fun h1 => f0 (fun y => absurd (D.mp y).2.2.1 (Int.not_le.mpr h1)))
  refine yv_cov_s hN hd ht 2 (by omega) i j (Nat.le_trans b2 (by decide)) (fun h2 => ?_) (fun h2 => f0 (fun y => absurd (D.mp y).2.2.2.1 (Int.not_le.mpr h2)))
  refine pk_le 3 3 (fun _ => ?_) (fun z => absurd z (by omega))
  refine yv_top hN hd ht i j ?_
  refine yv_blt0 (by omega) (fun h3 => f0 (fun y => absurd (D.mp y).2.2.2.2.1 (by omega))) (fun h3 => ?_)
  refine yv_bottom hN hd ht ?_
  have k : ra_I (pv_bt c t) < ra_I (pv_tp c t i j) ↔ pv_bt c t < pv_tp c t i j := ra_Ilt (by omega) (by omega)
  show (ra_I (pv_bt c t) < ra_I (pv_tp c t i j) → post 0) ∧ (¬ ra_I (pv_bt c t) < ra_I (pv_tp c t i j) → post 1)
  rw [k]
  exact ⟨fun h4 => f0 (fun y => absurd (D.mp y).2.2.2.2.2 (by omega)), fun h4 => f1 (D.mpr ⟨hV, h0, h1, h2, h3, by omega⟩)⟩
theorem yv_prod {x y : Int} (hx : x.natAbs ≤ 2880000) (hy : y.natAbs ≤ 768000) : (x * y).natAbs < 4611686018427387904 := by
  have := gm_mulb hx hy
  omega
theorem yv_compare (hN : pv_N c d num) (hd : d ≤ 10) {t b : Nat} (ht : t < d) (hb : b < d) {i j : Nat} (hi : i < 16) (hj : j < 16)
    (f : pv_tp c t i j * pv_bt c b < pv_tp c b i j * pv_bt c t → post (-1)) (g : pv_tp c b i j * pv_bt c t < pv_tp c t i j * pv_bt c b → post 1) (e : pv_tp c t i j * pv_bt c b = pv_tp c b i j * pv_bt c t → post 0) :
    wpY_compare post (fd, dr, num) (nI t) (nI b) (nI i) (nI j) := by
  have t1 := pv_tpb hN ht hi hj
  have t2 := pv_tpb hN hb hi hj
  have b1 := pv_btb hN ht
  have b2 := pv_btb hN hb
  unfold wpY_compare
  refine yv_top hN hd ht i j ?_
  refine yv_top hN hd hb i j ?_
  refine yv_bottom hN hd hb ?_
  refine nm_r (e' := ra_L (pv_tp c t i j * pv_bt c b)) (by rw [ra_IL (by omega), ra_IL (by omega), ra_Lmul]) ?_
  refine yv_bottom hN hd ht ?_
  refine nm_r (e' := ra_L (pv_tp c b i j * pv_bt c t)) (by rw [ra_IL (by omega), ra_IL (by omega), ra_Lmul]) ?_
  have p1 := yv_prod t1 b2
  have p2 := yv_prod t2 b1
  rw [ra_Lle p2 p1, ra_Lle p1 p2]
  exact ⟨fun h1 => ⟨fun h2 => e (by omega), fun h2 => g (by omega)⟩, fun h1 => f (by omega)⟩
theorem pv_lt_iff {c : Nat → Int} {t b i j : Nat} : pv_lt c t b i j = true ↔ pv_tp c t i j * pv_bt c b < pv_tp c b i j * pv_bt c t := decide_eq_true_iff
def yv_oc : Option Nat → Int32
  | none => -1
  | some b => nI b
theorem yo_loop (hN : pv_N c d num) (hd : d ≤ 10) {i j : Nat} (hi : i < 16) (hj : j < 16) (h : post (yv_oc (pv_ow c i j d))) : ∀ m t n, t + m = d → m < n → wY_ownerOf_5 post (nI i) (nI j) (nI d) dr num n (yv_oc (pv_ow c i j t)) (nI t) := by
  intro m
  induction m with
  | zero =>
    intro t n e hn
    obtain ⟨n, rfl⟩ : ∃ n', n = n' + 1 := ⟨n - 1, by omega⟩
    have e' : t = d := by omega
    rw [e']
    exact pk_le d d (fun _ => h) (fun z => absurd z (by omega))
  | succ m ih =>
    intro t n e hn
    obtain ⟨n, rfl⟩ : ∃ n', n = n' + 1 := ⟨n - 1, by omega⟩
    have K := ih (t + 1) n (by omega) (by omega)
    refine pk_le d t (fun z => absurd z (by omega)) (fun _ => ?_)
    refine pk_le 10 t (fun z => absurd z (by omega)) (fun _ => ?_)
    refine yv_covering hN hd (by omega) hi hj ?_
    by_cases hc : pv_cov c t i j = true
    · have eo : pv_ow c i j (t + 1) = pv_up t (fun b => pv_lt c t b i j) (pv_ow c i j t) := if_pos hc
      rw [eo] at K
      rw [if_pos hc]
      refine br_f (by decide) ?_
      cases ho : pv_ow c i j t with
      | none =>
        rw [ho] at K
        refine br_f (by decide) ?_
        rw [nI_1]
        exact nm_e K
      | some b =>
        rw [ho] at K
        have hb := pv_ow_lt c i j t b ho
        refine pk_le 0 b (fun _ => ?_) (fun z => absurd z (by omega))
        have K' : wY_ownerOf_5 post (nI i) (nI j) (nI d) dr num n (yv_oc (if pv_lt c t b i j = true then some t else some b)) (nI (t + 1)) := K
        refine yv_compare hN hd (by omega) (by omega) hi hj (fun z => ?_) (fun z => ?_) (fun z => ?_)
        · rw [if_pos (pv_lt_iff.mpr z)] at K'
          refine br_f (by decide) ?_
          rw [nI_1]; exact nm_e K'
        · rw [if_neg (fun y => absurd (pv_lt_iff.mp y) (by omega))] at K'
          refine br_t (by decide) ?_
          rw [nI_1]; exact nm_e K'
        · rw [if_neg (fun y => absurd (pv_lt_iff.mp y) (by omega))] at K'
          refine br_t (by decide) ?_
          rw [nI_1]; exact nm_e K'
    · have eo : pv_ow c i j (t + 1) = pv_ow c i j t := if_neg hc
      rw [eo] at K
      rw [if_neg hc]
      refine br_t (by decide) ?_
      rw [nI_1]
      exact nm_e K
theorem yv_ownerOf (hN : pv_N c d num) (hd : d ≤ 10) {i j : Nat} (hi : i < 16) (hj : j < 16) (h : post (yv_oc (pv_ow c i j d))) : wpY_ownerOf post (nI d, dr, num) (nI i) (nI j) :=
  ⟨d + 1, yo_loop hN hd hi hj h d 0 (d + 1) (by omega) (by omega)⟩
end
end
section
theorem xd_end {post : Int64 → Prop} {n a k : Nat} (hk : k ≤ 100) (h : post (lN a)) : wX_divisor_31 post (n + 1) (lN a) (lN 0) (nI k) :=
  pk_le 100 k (fun _ => h) (fun _ => br_t rfl h)
theorem xd_step {post : Int64 → Prop} {n a b k : Nat} (ha : a < 2 ^ 63) (hb : b < 2 ^ 63) (b0 : 0 < b) (hk : k < 100) (h : wX_divisor_31 post n (lN b) (lN (a % b)) (nI (k + 1))) : wX_divisor_31 post (n + 1) (lN a) (lN b) (nI k) := by
  have nz : ¬ lN b = 0 := by
    rw [show (0 : Int64) = lN 0 from rfl, pk_lEQ hb (by decide)]; omega
  refine pk_le 100 k (fun z => absurd z (by omega)) (fun _ => br_f nz ⟨nz, ?_⟩)
  exact nm_r (pk_lRem ha b0 hb) (nm_r (nI_1 k) h)
theorem xd_half {b r t : Nat} (hb : b < 2 ^ (t + 1)) (hr : 0 < r) (hrb : r < b) : b % r < 2 ^ t := by
  have h1 := Nat.mod_lt b hr
  have h2 := Nat.div_add_mod b r
  have h3 : 1 ≤ b / r := Nat.div_pos (Nat.le_of_lt hrb) hr
  have h4 : r ≤ r * (b / r) := Nat.le_mul_of_pos_right _ h3
  rw [Nat.pow_succ] at hb
  omega
theorem xd_gcd (a b : Nat) : Nat.gcd a b = Nat.gcd b (a % b) := by
  rw [Nat.gcd_comm a b, Nat.gcd_rec b a, Nat.gcd_comm]
theorem xd_loop {post : Int64 → Prop} : ∀ t a b k n : Nat, b < 2 ^ t → a < 2 ^ 63 → b < 2 ^ 63 → k + 2 * t ≤ 100 → 2 * t < n → post (lN (Nat.gcd a b)) → wX_divisor_31 post n (lN a) (lN b) (nI k) := by
  intro t
  induction t with
  | zero =>
    intro a b k n hb ha _ hk hn h
    obtain ⟨n, rfl⟩ : ∃ n', n = n' + 1 := ⟨n - 1, by omega⟩
    have b0 : b = 0 := by rw [Nat.pow_zero] at hb; omega
    subst b0
    rw [Nat.gcd_zero_right] at h
    exact xd_end (by omega) h
  | succ t ih =>
    intro a b k n hb ha hb2 hk hn h
    obtain ⟨n, rfl⟩ : ∃ n', n = n' + 1 := ⟨n - 1, by omega⟩
    rcases Nat.eq_zero_or_pos b with b0 | b0
    · subst b0
      rw [Nat.gcd_zero_right] at h
      exact xd_end (by omega) h
    · have r1 := Nat.mod_lt a b0
      refine xd_step ha hb2 b0 (by omega) ?_
      rw [xd_gcd] at h
      obtain ⟨n, rfl⟩ : ∃ n', n = n' + 1 := ⟨n - 1, by omega⟩
      rcases Nat.eq_zero_or_pos (a % b) with r0 | r0
      · rw [r0, Nat.gcd_zero_right] at h
        rw [r0]
        exact xd_end (by omega) h
      · refine xd_step hb2 (by omega) r0 (by omega) ?_
        rw [xd_gcd] at h
        have r2 := Nat.mod_lt b r0
        exact ih _ _ _ _ (xd_half hb r0 r1) (by omega) (by omega) (by omega) (by omega) h
theorem xd_nat (y : Int) (h : 0 ≤ y) : ra_L y = lN y.natAbs := by
  rw [ra_l]
  exact congrArg ra_L (by omega)
theorem xd_neg (y : Int) (h : ¬ 0 ≤ y) : -ra_L y = lN y.natAbs := by
  rw [ra_l, ra_Lneg]
  exact congrArg ra_L (by omega)
theorem xd_12 {post : Int64 → Prop} {a : Nat} {y : Int} (ha : a < 2 ^ 63) (hy : y.natAbs < 281474976710656) (h : post (lN (Nat.gcd a y.natAbs))) : wX_divisor_12 post (ra_L y) (lN a) := by
  have k : (0 : Int64) ≤ ra_L y ↔ 0 ≤ y := by rw [ra_L0]; exact ra_Lle (by decide) (by omega)
  have L := xd_loop (post := post) 48 a y.natAbs 0 100 hy ha (by omega) (by decide) (by decide) h
  by_cases z : 0 ≤ y
  · refine br_t (k.mpr z) ⟨100, ?_⟩
    rw [xd_nat y z]; exact L
  · refine br_f (fun w => z (k.mp w)) ?_
    exact nm_r (xd_neg y z) ⟨100, L⟩
theorem xd_div {post : Int64 → Prop} {x y : Int} (hx : x.natAbs < 281474976710656) (hy : y.natAbs < 281474976710656) (h : post (lN (Nat.gcd x.natAbs y.natAbs))) : wpX_divisor post (ra_L x) (ra_L y) := by
  have k : (0 : Int64) ≤ ra_L x ↔ 0 ≤ x := by rw [ra_L0]; exact ra_Lle (by decide) (by omega)
  by_cases z : 0 ≤ x
  · refine br_t (k.mpr z) ?_
    rw [xd_nat x z]; exact xd_12 (by omega) hy h
  · refine br_f (fun w => z (k.mp w)) ?_
    rw [xd_neg x z]; exact xd_12 (by omega) hy h
theorem xd_divN {post : Int64 → Prop} {a : Nat} {y : Int} (ha : a < 281474976710656) (hy : y.natAbs < 281474976710656) (h : post (lN (Nat.gcd a y.natAbs))) : wpX_divisor post (lN a) (ra_L y) := by
  rw [ra_l a]
  exact xd_div (x := (a : Int)) (by omega) hy h
def xh_at (ax ay az aw : Nat → Int64) (k : Nat) (P : gm_V) : Prop := ax k = ra_L P.1 ∧ ay k = ra_L P.2.1 ∧ az k = ra_L P.2.2.1 ∧ aw k = ra_L P.2.2.2
section
variable {li sz ma cu : Int32} {dr co rf rl ow : Nat → Int32} {sx sy so bo px py pz pw qx qy qz qw : Nat → Int64}
theorem xk_152 {post : SX → Prop} {m : Nat} (hm : m < 16) (a1 a2 a3 a4 : Int64) (K : post (li, sz, nI (m + 1), cu, dr, co, rf, rl, ow, sx, sy, so, bo, px, py, pz, pw, vp_updL qx m a1, vp_updL qy m a2, vp_updL qz m a3, vp_updL qw m a4)) :
    wX_keep_152 post a1 a2 a3 a4 li sz (nI m) cu dr co rf rl ow sx sy so bo px py pz pw qx qy qz qw := by
  have cm : (nI m).toNatClampNeg = m := nI_clamp (by omega)
  have im : vp_in (nI m) 16 := vp_in_nI hm (by decide)
  unfold wX_keep_152
  rw [cm]
  exact ⟨im, nm_e ⟨im, nm_e ⟨im, nm_e ⟨im, nm_e (nm_r (nI_1 m) K)⟩⟩⟩⟩
theorem xk_gle {a b : Nat} (h : 0 < a) (ha : a < 281474976710656) : Nat.gcd a b < 281474976710656 := Nat.lt_of_le_of_lt (Nat.gcd_le_left b h) ha
theorem xk_gl {a b : Nat} (ha : a < 281474976710656) (hb : b < 281474976710656) : Nat.gcd a b < 281474976710656 := by
  rcases Nat.eq_zero_or_pos a with z | z
  · rw [z, Nat.gcd_zero_left]; exact hb
  · exact xk_gle z ha
theorem xk_keep {post : SX → Prop} {k nx m : Nat} {P N : gm_V} {s s' : Int} (hk : k < 16) (hn : nx < 16) (hm : m < 16) (hP : xh_at px py pz pw k P) (hN : xh_at px py pz pw nx N) (hX : gm_B 281474976710655 (gm_mx s P s' N))
    (K : post (li, sz, nI (m + 1), cu, dr, co, rf, rl, ow, sx, sy, so, bo, px, py, pz, pw, vp_updL qx m (ra_L (gm_rd (gm_mx s P s' N)).1), vp_updL qy m (ra_L (gm_rd (gm_mx s P s' N)).2.1), vp_updL qz m (ra_L (gm_rd (gm_mx s P s' N)).2.2.1), vp_updL qw m (ra_L (gm_rd (gm_mx s P s' N)).2.2.2))) :
    wpX_keep post (li, sz, nI m, cu, dr, co, rf, rl, ow, sx, sy, so, bo, px, py, pz, pw, qx, qy, qz, qw) (nI k) (nI nx) (ra_L s) (ra_L s') := by
  obtain ⟨p1, p2, p3, p4⟩ := hP
  obtain ⟨n1, n2, n3, n4⟩ := hN
  have ck : (nI k).toNatClampNeg = k := nI_clamp (by omega)
  have cn : (nI nx).toNatClampNeg = nx := nI_clamp (by omega)
  have ik : vp_in (nI k) 16 := vp_in_nI hk (by decide)
  have ix : vp_in (nI nx) 16 := vp_in_nI hn (by decide)
  have aux : ∀ (f : Nat → Int64) (x y : Int), f k = ra_L x → f nx = ra_L y → f (nI k).toNatClampNeg * ra_L s + f (nI nx).toNatClampNeg * ra_L s' = ra_L (s * x + s' * y) := by
    intro f x y hx hy
    rw [ck, cn, hx, hy, ra_Lmul, ra_Lmul, ra_Ladd, Int.mul_comm x, Int.mul_comm y]
  have e1 : px (nI k).toNatClampNeg * ra_L s + px (nI nx).toNatClampNeg * ra_L s' = ra_L (gm_mx s P s' N).1 := aux px _ _ p1 n1
  have e2 : py (nI k).toNatClampNeg * ra_L s + py (nI nx).toNatClampNeg * ra_L s' = ra_L (gm_mx s P s' N).2.1 := aux py _ _ p2 n2
  have e3 : pz (nI k).toNatClampNeg * ra_L s + pz (nI nx).toNatClampNeg * ra_L s' = ra_L (gm_mx s P s' N).2.2.1 := aux pz _ _ p3 n3
  have e4 : pw (nI k).toNatClampNeg * ra_L s + pw (nI nx).toNatClampNeg * ra_L s' = ra_L (gm_mx s P s' N).2.2.2 := aux pw _ _ p4 n4
  refine pk_eq m 16 (fun z => absurd z (by omega)) (fun _ => ?_)
  refine ⟨ik, ix, nm_r e1 ⟨ik, ix, nm_r e2 ⟨ik, ix, nm_r e3 ⟨ik, ix, nm_r e4 ?_⟩⟩⟩⟩
  clear e1 e2 e3 e4 aux
  generalize gm_mx s P s' N = X at *
  obtain ⟨x1, x2, x3, x4⟩ := hX
  refine xd_div (by omega) (by omega) ?_
  refine xd_divN (xk_gl (by omega) (by omega)) (by omega) ?_
  refine xd_divN (xk_gl (xk_gl (by omega) (by omega)) (by omega)) (by omega) ?_
  have gb : gm_g4 X < 281474976710656 := xk_gl (xk_gl (xk_gl (by omega) (by omega)) (by omega)) (by omega)
  have kle : lN (gm_g4 X) ≤ 1 ↔ gm_g4 X ≤ 1 := pk_lLE (b := 1) (by omega) (by decide)
  show (lN (gm_g4 X) ≤ 1 → wX_keep_152 post (ra_L X.1) (ra_L X.2.1) (ra_L X.2.2.1) (ra_L X.2.2.2) li sz (nI m) cu dr co rf rl ow sx sy so bo px py pz pw qx qy qz qw) ∧ _
  by_cases g1 : gm_g4 X ≤ 1
  · refine br_t (kle.mpr g1) (xk_152 hm _ _ _ _ ?_)
    have er : gm_rd X = X := if_neg (by omega)
    rw [er] at K
    exact K
  · refine br_f (fun w => g1 (kle.mp w)) ?_
    have nz : ¬ lN (gm_g4 X) = 0 := by
      rw [show (0 : Int64) = lN 0 from rfl, pk_lEQ (by omega) (by decide)]; omega
    have er : gm_rd X = gm_dv X (gm_g4 X) := if_pos (by omega)
    rw [er] at K
    have dv : ∀ x : Int, x.natAbs ≤ 281474976710655 → ra_L x / lN (gm_g4 X) = ra_L (x.tdiv (gm_g4 X)) := by
      intro x hx
      rw [ra_l, ra_Ldiv (by omega) (by omega)]
    exact ⟨nz, nm_r (dv _ x1) ⟨nz, nm_r (dv _ x2) ⟨nz, nm_r (dv _ x3) ⟨nz, nm_r (dv _ x4) (xk_152 hm _ _ _ _ K)⟩⟩⟩⟩
end
end
section
theorem xl_le0 {x : Int} (h : x.natAbs < 4611686018427387904) : ra_L x ≤ 0 ↔ x ≤ 0 := by rw [ra_L0]; exact ra_Lle h (by decide)
theorem xl_0le {x : Int} (h : x.natAbs < 4611686018427387904) : 0 ≤ ra_L x ↔ 0 ≤ x := by rw [ra_L0]; exact ra_Lle (by decide) h
theorem xl_lt0 {x : Int} (h : x.natAbs < 4611686018427387904) : ra_L x < 0 ↔ x < 0 := by rw [ra_L0]; exact ra_Llt h (by decide)
theorem xl_0lt {x : Int} (h : x.natAbs < 4611686018427387904) : 0 < ra_L x ↔ 0 < x := by rw [ra_L0]; exact ra_Llt (by decide) h
theorem xl_eq0 {x : Int} (h : x.natAbs < 4611686018427387904) : ra_L x = 0 ↔ x = 0 := by rw [ra_L0]; exact ra_Leq h (by decide)
def xh_H (L : List gm_V) (ax ay az aw : Nat → Int64) : Prop := ∀ k P, L[k]? = some P → xh_at ax ay az aw k P
theorem xh_nil (ax ay az aw : Nat → Int64) : xh_H [] ax ay az aw := by
  intro k P h
  rw [List.getElem?_nil] at h
  cases h
theorem xh_app {D : List gm_V} {ax ay az aw : Nat → Int64} (h : xh_H D ax ay az aw) (X : gm_V) : xh_H (D ++ [X]) (vp_updL ax D.length (ra_L X.1)) (vp_updL ay D.length (ra_L X.2.1)) (vp_updL az D.length (ra_L X.2.2.1)) (vp_updL aw D.length (ra_L X.2.2.2)) := by
  intro k P hk
  by_cases e : k = D.length
  · subst e
    rw [List.getElem?_concat_length] at hk
    cases hk
    exact ⟨pk_uLs, pk_uLs, pk_uLs, pk_uLs⟩
  · have hlt : k < (D ++ [X]).length := by
      rcases Nat.lt_or_ge k (D ++ [X]).length with z | z
      · exact z
      · rw [List.getElem?_eq_none z] at hk; cases hk
    rw [List.length_append, List.length_singleton] at hlt
    rw [List.getElem?_append_left (by omega)] at hk
    obtain ⟨h1, h2, h3, h4⟩ := h k P hk
    exact ⟨(pk_uLn e).trans h1, (pk_uLn e).trans h2, (pk_uLn e).trans h3, (pk_uLn e).trans h4⟩
theorem xc_sb {s : Nat} {P : gm_V} (h : gm_B 192000 P) : (gm_side s P).natAbs ≤ 384000 := by
  obtain ⟨h1, h2, h3, h4⟩ := h
  unfold gm_side
  split
  · split <;> omega
  · split
    · split <;> omega
    · split <;> omega
theorem xc_mb {P N : gm_V} {a b : Int} (hP : gm_B 192000 P) (hN : gm_B 192000 N) (ha : a.natAbs ≤ 12000000) (hb : b.natAbs ≤ 12000000) : gm_B 281474976710655 (gm_mx a P b N) := by
  obtain ⟨p1, p2, p3, p4⟩ := hP
  obtain ⟨n1, n2, n3, n4⟩ := hN
  have aux : ∀ x y : Int, x.natAbs ≤ 192000 → y.natAbs ≤ 192000 → (a * x + b * y).natAbs ≤ 281474976710655 := by
    intro x y hx hy
    have k1 := gm_mulb ha hx
    have k2 := gm_mulb hb hy
    omega
  exact ⟨aux _ _ p1 n1, aux _ _ p2 n2, aux _ _ p3 n3, aux _ _ p4 n4⟩
section
variable {li sz ma cu : Int32} {dr co rf rl ow : Nat → Int32} {sx sy so bo px py pz pw qx qy qz qw : Nat → Int64}
theorem xk_app {post : SX → Prop} {k nx : Nat} {P N : gm_V} {s s' : Int} {a a' : Int64} (ea : a = ra_L s) (ea' : a' = ra_L s') {D : List gm_V} (hk : k < 16) (hn : nx < 16) (hm : D.length < 16) (hP : xh_at px py pz pw k P) (hN : xh_at px py pz pw nx N) (hX : gm_B 281474976710655 (gm_mx s P s' N)) (hD : xh_H D qx qy qz qw)
    (K : ∀ qx' qy' qz' qw', xh_H (D ++ [gm_rd (gm_mx s P s' N)]) qx' qy' qz' qw' → post (li, sz, nI (D ++ [gm_rd (gm_mx s P s' N)]).length, cu, dr, co, rf, rl, ow, sx, sy, so, bo, px, py, pz, pw, qx', qy', qz', qw')) :
    wpX_keep post (li, sz, nI D.length, cu, dr, co, rf, rl, ow, sx, sy, so, bo, px, py, pz, pw, qx, qy, qz, qw) (nI k) (nI nx) a a' := by
  rw [ea, ea']
  refine xk_keep hk hn hm hP hN hX ?_
  have K' := K _ _ _ _ (xh_app hD (gm_rd (gm_mx s P s' N)))
  rw [List.length_append, List.length_singleton] at K'
  exact K'
theorem xc_inside {post : Int64 → Prop} {s k : Nat} {P : gm_V} (hs : s ≤ 5) (hk : k < 16) (hP : xh_at px py pz pw k P) (h : post (ra_L (gm_side s P))) : wpX_inside post (li, sz, ma, cu, dr, co, rf, rl, ow, sx, sy, so, bo, px, py, pz, pw, qx, qy, qz, qw) (nI s) (nI k) := by
  obtain ⟨p1, p2, p3, p4⟩ := hP
  have ck : (nI k).toNatClampNeg = k := nI_clamp (by omega)
  have ik : vp_in (nI k) 16 := vp_in_nI hk (by decide)
  unfold wpX_inside
  simp only
  rw [ck, p1, p2, p3, p4, ra_Ladd, ra_Ladd, ra_Lsub, ra_Lsub, ra_Lsub]
  unfold gm_side at h
  refine pk_le 2 s (fun z1 => ?_) (fun z1 => ?_)
  · rw [if_neg (by omega)] at h
    refine pk_le 4 s (fun z2 => ?_) (fun z2 => ?_)
    · rw [if_neg (by omega)] at h
      refine pk_eq s 4 (fun z3 => ?_) (fun z3 => ?_)
      · rw [if_pos z3] at h; exact ⟨ik, h⟩
      · rw [if_neg z3] at h; exact ⟨ik, ik, h⟩
    · rw [if_pos (by omega)] at h
      refine pk_eq s 2 (fun z3 => ?_) (fun z3 => ?_)
      · rw [if_pos z3] at h; exact ⟨ik, ik, h⟩
      · rw [if_neg z3] at h; exact ⟨ik, ik, h⟩
  · rw [if_pos (by omega)] at h
    refine pk_eq s 0 (fun z3 => ?_) (fun z3 => ?_)
    · rw [if_pos z3] at h; exact ⟨ik, ik, h⟩
    · rw [if_neg z3] at h; exact ⟨ik, ik, h⟩
theorem xc_32 {post : SX → Prop} {J : Int32 → Int32 → Int32 → Int32 → Int32 → (Nat → Int32) → (Nat → Int32) → (Nat → Int32) → (Nat → Int32) → (Nat → Int32) → (Nat → Int64) → (Nat → Int64) → (Nat → Int64) → (Nat → Int64) → (Nat → Int64) → (Nat → Int64) → (Nat → Int64) → (Nat → Int64) → (Nat → Int64) → (Nat → Int64) → (Nat → Int64) → (Nat → Int64) → Prop}
    {s k nx : Nat} {P N : gm_V} (hs : s ≤ 5) (hk : k < 16) (hn : nx < 16) (hP : xh_at px py pz pw k P) (hN : xh_at px py pz pw nx N) (bP : gm_B 192000 P) (bN : gm_B 192000 N) {D : List gm_V} (hD : xh_H D qx qy qz qw) (hl : D.length + (gm_ot (gm_side s) P N).length ≤ 16)
    (K : ∀ qx' qy' qz' qw', xh_H (D ++ gm_ot (gm_side s) P N) qx' qy' qz' qw' → J (nI (k + 1)) li sz (nI (D ++ gm_ot (gm_side s) P N).length) cu dr co rf rl ow sx sy so bo px py pz pw qx' qy' qz' qw') :
    wX_clip_32 post J (nI s) (nI k) (nI nx) li sz (nI D.length) cu dr co rf rl ow sx sy so bo px py pz pw qx qy qz qw := by
  have b1 := xc_sb (s := s) bP
  have b2 := xc_sb (s := s) bN
  unfold wX_clip_32
  refine xc_inside hs hk hP ?_
  refine xc_inside hs hn hN ?_
  have B1 : (gm_side s P).natAbs < 4611686018427387904 := by omega
  have B2 : (gm_side s N).natAbs < 4611686018427387904 := by omega
  have mx1 : gm_B 281474976710655 (gm_mx 1 P 0 N) := xc_mb bP bN (by decide) (by decide)
  rcases gm_ot_c (gm_side s) P N with ⟨h1, h2, e⟩ | ⟨h1, h2, e⟩ | ⟨h1, h2, e⟩ | ⟨h1, h2, e⟩
  · rw [e] at K hl
    have hl' : D.length + 2 ≤ 16 := hl
    refine br_f (fun w => absurd ((xl_lt0 B1).mp w) (by omega)) ?_
    refine xk_app ra_L1 ra_L0 hk hn (by omega) hP hN mx1 hD (fun qx1 qy1 qz1 qw1 H1 => ?_)
    refine br_f (fun w => absurd ((xl_le0 B1).mp w) (by omega)) ?_
    refine br_f (fun w => absurd ((xl_0le B2).mp w) (by omega)) ?_
    refine xk_app (ra_Lneg _) rfl hk hn (by rw [List.length_append, List.length_singleton]; omega) hP hN (xc_mb bP bN (by omega) (by omega)) H1 (fun qx2 qy2 qz2 qw2 H2 => ?_)
    refine br_t ((xl_0le B1).mpr (by omega)) (nm_r (nI_1 k) ?_)
    rw [List.append_assoc] at H2 ⊢
    exact K _ _ _ _ H2
  · rw [e] at K hl
    have hl' : D.length + 1 ≤ 16 := hl
    refine br_f (fun w => absurd ((xl_lt0 B1).mp w) (by omega)) ?_
    refine xk_app ra_L1 ra_L0 hk hn (by omega) hP hN mx1 hD (fun qx1 qy1 qz1 qw1 H1 => ?_)
    have fin : wX_clip_89 post J (nI s) (nI k) (nI nx) (ra_L (gm_side s P)) (ra_L (gm_side s N)) li sz (nI (D ++ [gm_rd (gm_mx 1 P 0 N)]).length) cu dr co rf rl ow sx sy so bo px py pz pw qx1 qy1 qz1 qw1 :=
      br_t ((xl_0le B1).mpr (by omega)) (nm_r (nI_1 k) (K _ _ _ _ H1))
    by_cases z : gm_side s P ≤ 0
    · exact br_t ((xl_le0 B1).mpr z) fin
    · exact br_f (fun w => z ((xl_le0 B1).mp w)) (br_t ((xl_0le B2).mpr (by omega)) fin)
  · rw [e] at K hl
    have hl' : D.length + 1 ≤ 16 := hl
    refine br_t ((xl_lt0 B1).mpr h1) ?_
    refine br_t ((xl_le0 B1).mpr (by omega)) ?_
    refine br_f (fun w => absurd ((xl_0le B1).mp w) (by omega)) ?_
    refine br_f (fun w => absurd ((xl_le0 B2).mp w) (by omega)) ?_
    refine xk_app rfl (ra_Lneg _) hk hn (by omega) hP hN (xc_mb bP bN (by omega) (by omega)) hD (fun qx1 qy1 qz1 qw1 H1 => ?_)
    exact nm_r (nI_1 k) (K _ _ _ _ H1)
  · rw [e, List.append_nil] at K
    refine br_t ((xl_lt0 B1).mpr h1) ?_
    refine br_t ((xl_le0 B1).mpr (by omega)) ?_
    refine br_f (fun w => absurd ((xl_0le B1).mp w) (by omega)) ?_
    refine br_t ((xl_le0 B2).mpr h2) ?_
    exact nm_r (nI_1 k) (K _ _ _ _ hD)
theorem xc_copy {post : SX → Prop} {Q : List gm_V} (hQ : xh_H Q qx qy qz qw) (hm : Q.length ≤ 16) (K : ∀ px' py' pz' pw', xh_H Q px' py' pz' pw' → post (li, nI Q.length, nI Q.length, cu, dr, co, rf, rl, ow, sx, sy, so, bo, px', py', pz', pw', qx, qy, qz, qw)) :
    ∀ (j k n : Nat) (px py pz pw : Nat → Int64), k + j = Q.length → (∀ i, i < k → px i = qx i ∧ py i = qy i ∧ pz i = qz i ∧ pw i = qw i) → j < n → wX_clip_122 post li sz (nI Q.length) cu n (nI k) dr co rf rl ow sx sy so bo px py pz pw qx qy qz qw := by
  intro j
  induction j with
  | zero =>
    intro k n px py pz pw e hi hn
    obtain ⟨n, rfl⟩ : ∃ n', n = n' + 1 := ⟨n - 1, by omega⟩
    refine pk_le Q.length k (fun _ => ?_) (fun z => absurd z (by omega))
    refine K px py pz pw ?_
    intro i P hP
    have hi' : i < Q.length := by
      rcases Nat.lt_or_ge i Q.length with z | z
      · exact z
      · rw [List.getElem?_eq_none z] at hP; cases hP
    obtain ⟨a1, a2, a3, a4⟩ := hi i (by omega)
    obtain ⟨b1, b2, b3, b4⟩ := hQ i P hP
    exact ⟨a1.trans b1, a2.trans b2, a3.trans b3, a4.trans b4⟩
  | succ j ih =>
    intro k n px py pz pw e hi hn
    obtain ⟨n, rfl⟩ : ∃ n', n = n' + 1 := ⟨n - 1, by omega⟩
    have ck : (nI k).toNatClampNeg = k := nI_clamp (by omega)
    have ik : vp_in (nI k) 16 := vp_in_nI (by omega) (by decide)
    have R := ih (k + 1) n (vp_updL px k (qx k)) (vp_updL py k (qy k)) (vp_updL pz k (qz k)) (vp_updL pw k (qw k)) (by omega) (by
      intro i hi2
      by_cases z : i = k
      · subst z; exact ⟨pk_uLs, pk_uLs, pk_uLs, pk_uLs⟩
      · obtain ⟨a1, a2, a3, a4⟩ := hi i (by omega)
        exact ⟨(pk_uLn z).trans a1, (pk_uLn z).trans a2, (pk_uLn z).trans a3, (pk_uLn z).trans a4⟩) (by omega)
    refine pk_le Q.length k (fun z => absurd z (by omega)) (fun _ => ?_)
    rw [ck]
    exact ⟨ik, ik, nm_e ⟨ik, ik, nm_e ⟨ik, ik, nm_e ⟨ik, ik, nm_e (nm_r (nI_1 k) R)⟩⟩⟩⟩
end
theorem xc_dr {C : List gm_V} {k : Nat} {P : gm_V} (h : C[k]? = some P) : C.drop k = P :: C.drop (k + 1) := by
  obtain ⟨h1, h2⟩ := List.getElem?_eq_some_iff.mp h
  rw [List.drop_eq_getElem_cons h1, h2]
theorem xc_cl {L : List gm_V} {k : Nat} (hk : k < L.length) : ∃ P N, L[k]? = some P ∧ L[if k + 1 < L.length then k + 1 else 0]? = some N ∧ (gm_cl L)[k]? = some P ∧ (gm_cl L)[k + 1]? = some N := by
  have e1 : (gm_cl L)[k]? = L[k]? := List.getElem?_append_left hk
  obtain ⟨P, hP⟩ : ∃ P, L[k]? = some P := ⟨L[k], List.getElem?_eq_getElem hk⟩
  by_cases z : k + 1 < L.length
  · obtain ⟨N, hN⟩ : ∃ N, L[k + 1]? = some N := ⟨L[k + 1], List.getElem?_eq_getElem z⟩
    have e2 : (gm_cl L)[k + 1]? = L[k + 1]? := List.getElem?_append_left z
    refine ⟨P, N, hP, ?_, e1.trans hP, e2.trans hN⟩
    rw [if_pos z]; exact hN
  · have z' : k + 1 = L.length := by omega
    cases L with
    | nil => exact absurd hk (Nat.not_lt_zero _)
    | cons P0 r =>
      have e2 : (gm_cl (P0 :: r))[k + 1]? = some P0 := by
        rw [z']
        show ((P0 :: r) ++ [P0])[(P0 :: r).length]? = some P0
        exact List.getElem?_concat_length
      refine ⟨P, P0, hP, ?_, e1.trans hP, e2⟩
      rw [if_neg z]; rfl
theorem xc_cg {n : gm_V → Int} {C : List gm_V} {k : Nat} {P N : gm_V} (hP : C[k]? = some P) (hN : C[k + 1]? = some N) : gm_cg n (C.drop k) = gm_ot n P N ++ gm_cg n (C.drop (k + 1)) := by
  rw [xc_dr hP, xc_dr hN]; rfl
theorem xc_end {n : gm_V → Int} {L : List gm_V} : gm_cg n ((gm_cl L).drop L.length) = [] := by
  have e : (gm_cl L).drop L.length = L.take 1 := List.drop_left
  rw [e]
  cases L with
  | nil => rfl
  | cons P r => rfl
section
variable {li sz ma cu : Int32} {dr co rf rl ow : Nat → Int32} {sx sy so bo px py pz pw qx qy qz qw : Nat → Int64}
theorem xc_loop {post : SX → Prop} {s : Nat} (hs : s ≤ 5) {L : List gm_V} (hm : L.length ≤ 15) (hp : xh_H L px py pz pw) (hB : ∀ P, P ∈ L → gm_B 192000 P) (hc : (gm_clip (gm_side s) L).length ≤ 15)
    (K : ∀ px' py' pz' pw' qx' qy' qz' qw', xh_H (gm_clip (gm_side s) L) px' py' pz' pw' → post (li, nI (gm_clip (gm_side s) L).length, nI (gm_clip (gm_side s) L).length, cu, dr, co, rf, rl, ow, sx, sy, so, bo, px', py', pz', pw', qx', qy', qz', qw')) :
    ∀ (j k : Nat) (D : List gm_V) (n : Nat) (qx qy qz qw : Nat → Int64), k + j = L.length → D ++ gm_cg (gm_side s) ((gm_cl L).drop k) = gm_clip (gm_side s) L → xh_H D qx qy qz qw → j < n → wX_clip_7 post (nI s) n (nI k) li (nI L.length) (nI D.length) cu dr co rf rl ow sx sy so bo px py pz pw qx qy qz qw := by
  intro j
  induction j with
  | zero =>
    intro k D n qx qy qz qw e hD hq hn
    obtain ⟨n, rfl⟩ : ∃ n', n = n' + 1 := ⟨n - 1, by omega⟩
    have ek : k = L.length := by omega
    rw [ek, xc_end, List.append_nil] at hD
    subst hD
    refine pk_le L.length k (fun _ => ?_) (fun z => absurd z (by omega))
    exact ⟨17, xc_copy hq (by omega) (fun px' py' pz' pw' h => K px' py' pz' pw' qx qy qz qw h) (gm_clip (gm_side s) L).length 0 17 px py pz pw (by omega) (fun i hi => absurd hi (Nat.not_lt_zero _)) (by omega)⟩
  | succ j ih =>
    intro k D n qx qy qz qw e hD hq hn
    obtain ⟨n, rfl⟩ : ∃ n', n = n' + 1 := ⟨n - 1, by omega⟩
    obtain ⟨P, N, hP, hN, cP, cN⟩ := xc_cl (L := L) (k := k) (by omega)
    rw [xc_cg cP cN, ← List.append_assoc] at hD
    have len := congrArg List.length hD
    rw [List.length_append, List.length_append] at len
    have bP := hB P (List.mem_of_getElem? hP)
    have bN := hB N (List.mem_of_getElem? hN)
    have step : ∀ nx, nx < 16 → xh_at px py pz pw nx N → wX_clip_32 post (wX_clip_7 post (nI s) n) (nI s) (nI k) (nI nx) li (nI L.length) (nI D.length) cu dr co rf rl ow sx sy so bo px py pz pw qx qy qz qw := by
      intro nx hnx hat
      exact xc_32 hs (by omega) hnx (hp k P hP) hat bP bN hq (by omega) (fun qx' qy' qz' qw' H => ih (k + 1) (D ++ gm_ot (gm_side s) P N) n qx' qy' qz' qw' (by omega) hD H (by omega))
    refine pk_le L.length k (fun z => absurd z (by omega)) (fun _ => ?_)
    rw [nI_1]
    refine pk_le L.length (k + 1) (fun z => ?_) (fun z => ?_)
    · rw [if_neg (by omega)] at hN
      exact step 0 (by omega) (hp 0 N hN)
    · rw [if_pos z] at hN
      exact step (k + 1) (by omega) (hp (k + 1) N hN)
theorem xc_clip {post : SX → Prop} {s : Nat} (hs : s ≤ 5) {L : List gm_V} (hm : L.length ≤ 15) (hp : xh_H L px py pz pw) (hB : ∀ P, P ∈ L → gm_B 192000 P) (hc : (gm_clip (gm_side s) L).length ≤ 15)
    (K : ∀ px' py' pz' pw' qx' qy' qz' qw', xh_H (gm_clip (gm_side s) L) px' py' pz' pw' → post (li, nI (gm_clip (gm_side s) L).length, nI (gm_clip (gm_side s) L).length, cu, dr, co, rf, rl, ow, sx, sy, so, bo, px', py', pz', pw', qx', qy', qz', qw')) :
    wpX_clip post (li, nI L.length, ma, cu, dr, co, rf, rl, ow, sx, sy, so, bo, px, py, pz, pw, qx, qy, qz, qw) (nI s) :=
  ⟨17, xc_loop hs hm hp hB hc K L.length 0 [] 17 qx qy qz qw (by omega) rfl (xh_nil _ _ _ _) (by omega)⟩
end
end
section
def xf_ok (X : gm_V) : Prop := 0 < X.2.2.2 ∧ 0 ≤ X.2.2.2 + X.1 ∧ 0 ≤ X.2.2.2 - X.1
theorem xf_la {X : gm_V} (h : xf_ok X) : -1 ≤ gm_la X ∧ gm_la X ≤ 15 := by
  obtain ⟨hw, h1, h2⟩ := h
  constructor
  · refine (gm_la_iff hw h1 (-1)).mpr ?_
    unfold gm_gx; omega
  · by_cases z : gm_la X ≤ 15
    · exact z
    · have k := (gm_la_iff hw h1 16).mp (by omega)
      unfold gm_gx at k; omega
theorem xf_fi {X : gm_V} (h : xf_ok X) : 0 ≤ gm_fi X ∧ gm_fi X ≤ 16 := by
  obtain ⟨hw, h1, h2⟩ := h
  constructor
  · by_cases z : 0 ≤ gm_fi X
    · exact z
    · have k := (gm_fi_iff hw h1 (-1)).mp (by omega)
      unfold gm_gx at k; omega
  · refine (gm_fi_iff hw h1 16).mpr ?_
    unfold gm_gx; omega
theorem xf_at (t j : Nat) : (16 : Int32) * nI t + nI j = nI (16 * t + j) := by
  rw [show (16 : Int32) = nI 16 from rfl, pk_mul, nI_add]
section
variable {li sz ma cu : Int32} {dr co rf rl ow : Nat → Int32} {sx sy so bo px py pz pw qx qy qz qw : Nat → Int64}
theorem xf_84 {post : SX → Prop} {q : Nat} (hq : q < 160) {b y : Int} (hb : rl q = ra_I b) (kb : b.natAbs ≤ 100) (ky : y.natAbs ≤ 100)
    (K : ∀ rl', rl' q = ra_I (if b < y then y else b) → (∀ i, i ≠ q → rl' i = rl i) → post (li, sz, ma, cu, dr, co, rf, rl', ow, sx, sy, so, bo, px, py, pz, pw, qx, qy, qz, qw)) : wX_meet_84 post (ra_I y) (nI q) li sz ma cu dr co rf rl ow sx sy so bo px py pz pw qx qy qz qw := by
  have cq : (nI q).toNatClampNeg = q := nI_clamp (by omega)
  have iq : vp_in (nI q) 160 := vp_in_nI hq (by decide)
  have k : ra_I y ≤ ra_I b ↔ y ≤ b := ra_Ile (by omega) (by omega)
  unfold wX_meet_84
  rw [cq, hb, k]
  refine ⟨iq, fun z => ?_, fun z => ⟨iq, nm_e ?_⟩⟩
  · refine K rl ?_ (fun _ _ => rfl)
    rw [if_neg (by omega)]; exact hb
  · refine K _ ?_ (fun i hi => pk_un hi)
    rw [if_pos (by omega)]; exact pk_us
theorem xf_meet {post : SX → Prop} {t j : Nat} (ht : t < 10) (hj : j < 16) {X : gm_V} (hX : xf_ok X) (bX : gm_B 281474976710655 X) {a b : Int} (ha : rf (16 * t + j) = ra_I a) (hb : rl (16 * t + j) = ra_I b) (ka : a.natAbs ≤ 100) (kb : b.natAbs ≤ 100)
    (K : ∀ rf' rl', rf' (16 * t + j) = ra_I (if gm_fi X < a then gm_fi X else a) → rl' (16 * t + j) = ra_I (if b < gm_la X then gm_la X else b) → (∀ i, i ≠ 16 * t + j → rf' i = rf i ∧ rl' i = rl i) → post (li, sz, ma, cu, dr, co, rf', rl', ow, sx, sy, so, bo, px, py, pz, pw, qx, qy, qz, qw)) :
    wpX_meet post (li, sz, ma, cu, dr, co, rf, rl, ow, sx, sy, so, bo, px, py, pz, pw, qx, qy, qz, qw) (nI t) (nI j) (ra_L X.1) (ra_L X.2.2.2) := by
  have ela := xf_la hX
  have efi := xf_fi hX
  obtain ⟨hw, h1, h2⟩ := hX
  obtain ⟨b1, _, _, b4⟩ := bX
  have kla : (gm_la X).natAbs ≤ 100 := by omega
  have kfi : (gm_fi X).natAbs ≤ 100 := by omega
  have iq : vp_in (nI (16 * t + j)) 160 := vp_in_nI (by omega) (by decide)
  have cq : (nI (16 * t + j)).toNatClampNeg = 16 * t + j := nI_clamp (by omega)
  have e7 : (16 : Int64) * ra_L X.1 + 17 * ra_L X.2.2.2 = ra_L (16 * X.1 + 17 * X.2.2.2) := by rw [ra_L16, ra_L17, ra_Lmul, ra_Lmul, ra_Ladd]
  have e9 : (2 : Int64) * ra_L X.2.2.2 = ra_L (2 * X.2.2.2) := by rw [ra_L2, ra_Lmul]
  have nz : ¬ ra_L (2 * X.2.2.2) = 0 := fun z => absurd ((xl_eq0 (by omega)).mp z) (by omega)
  have e11 : (ra_L (16 * X.1 + 17 * X.2.2.2) / ra_L (2 * X.2.2.2)).toInt32 - 1 = ra_I (gm_la X) := by
    rw [ra_Ldiv (by omega) (by omega), ra_LI, ra_I1, ra_Isub]; rfl
  have e12 : ((ra_L (16 * X.1 + 17 * X.2.2.2) + ra_L (2 * X.2.2.2) - 1) / ra_L (2 * X.2.2.2)).toInt32 - 1 = ra_I (gm_fi X) := by
    rw [ra_L1, ra_Ladd, ra_Lsub, ra_Ldiv (by omega) (by omega), ra_LI, ra_I1, ra_Isub]; rfl
  refine br_t ((xl_0lt (by omega)).mpr hw) ?_
  refine nm_r e7 (nm_r e9 ⟨nz, nm_r e11 ⟨nz, nm_r e12 (nm_r (xf_at t j) ⟨iq, ?_⟩)⟩⟩)
  have k : rf (16 * t + j) ≤ ra_I (gm_fi X) ↔ a ≤ gm_fi X := by rw [ha]; exact ra_Ile (by omega) (by omega)
  rw [cq]
  by_cases z : a ≤ gm_fi X
  · refine br_t (k.mpr z) ?_
    refine xf_84 (by omega) hb kb kla (fun rl' g1 g2 => ?_)
    refine K rf rl' ?_ g1 (fun i hi => ⟨rfl, g2 i hi⟩)
    rw [if_neg (by omega)]; exact ha
  · refine br_f (fun w => z (k.mp w)) ⟨iq, nm_e ?_⟩
    refine xf_84 (by omega) hb kb kla (fun rl' g1 g2 => ?_)
    refine K _ rl' ?_ g1 (fun i hi => ⟨pk_un hi, g2 i hi⟩)
    rw [if_pos (by omega)]; exact pk_us
theorem xf_39 {post : SX → Prop} {J : Int32 → Int32 → Int32 → Int32 → Int32 → (Nat → Int32) → (Nat → Int32) → (Nat → Int32) → (Nat → Int32) → (Nat → Int32) → (Nat → Int64) → (Nat → Int64) → (Nat → Int64) → (Nat → Int64) → (Nat → Int64) → (Nat → Int64) → (Nat → Int64) → (Nat → Int64) → (Nat → Int64) → (Nat → Int64) → (Nat → Int64) → (Nat → Int64) → Prop}
    {t j k nx : Nat} {P N : gm_V} {l : Int} (ht : t < 10) (hj : j < 16) (hl : l.natAbs ≤ 15) (hk : k < 16) (hn : nx < 16) (hP : xh_at px py pz pw k P) (hN : xh_at px py pz pw nx N) (bP : gm_B 192000 P) (bN : gm_B 192000 N) (oP : xf_ok P) (oN : xf_ok N)
    {a b : Int} (ha : rf (16 * t + j) = ra_I a) (hb : rl (16 * t + j) = ra_I b) (ka : a.natAbs ≤ 100) (kb : b.natAbs ≤ 100)
    (K : ∀ rf' rl', rf' (16 * t + j) = ra_I (gm_ff a (gm_mo (gm_h l) P N)) → rl' (16 * t + j) = ra_I (gm_fl b (gm_mo (gm_h l) P N)) → (∀ i, i ≠ 16 * t + j → rf' i = rf i ∧ rl' i = rl i) → J (nI (k + 1)) li sz ma cu dr co rf' rl' ow sx sy so bo px py pz pw qx qy qz qw) :
    wX_fillRow_39 post J (nI t) (nI j) (ra_L l) (nI k) (nI nx) li sz ma cu dr co rf rl ow sx sy so bo px py pz pw qx qy qz qw := by
  obtain ⟨p1, p2, p3, p4⟩ := hP
  obtain ⟨n1, n2, n3, n4⟩ := hN
  have ck : (nI k).toNatClampNeg = k := nI_clamp (by omega)
  have cn : (nI nx).toNatClampNeg = nx := nI_clamp (by omega)
  have ik : vp_in (nI k) 16 := vp_in_nI hk (by decide)
  have ix : vp_in (nI nx) 16 := vp_in_nI hn (by decide)
  have hbd : ∀ Q : gm_V, gm_B 192000 Q → (gm_h l Q).natAbs ≤ 12000000 := by
    intro Q ⟨q1, q2, q3, q4⟩
    have m := gm_mulb hl q4
    unfold gm_h; omega
  have B1 := hbd P bP
  have B2 := hbd N bN
  have e1 : (16 : Int64) * py k - ra_L l * pw k = ra_L (gm_h l P) := by rw [p2, p4, ra_L16, ra_Lmul, ra_Lmul, ra_Lsub]; rfl
  have e2 : (16 : Int64) * py nx - ra_L l * pw nx = ra_L (gm_h l N) := by rw [n2, n4, ra_L16, ra_Lmul, ra_Lmul, ra_Lsub]; rfl
  unfold wX_fillRow_39
  rw [ck, cn]
  refine ⟨ik, ik, nm_r e1 ⟨ix, ix, nm_r e2 ?_⟩⟩
  have skip : gm_mo (gm_h l) P N = [] → ∀ x, x = nI k + 1 → J x li sz ma cu dr co rf rl ow sx sy so bo px py pz pw qx qy qz qw := by
    intro e0
    rw [e0] at K
    exact nm_r (nI_1 k) (K rf rl ha hb (fun i _ => ⟨rfl, rfl⟩))
  by_cases z0 : gm_h l P = 0
  · refine br_t ((xl_eq0 (by omega)).mpr z0) ⟨ik, ik, ?_⟩
    have e0 : gm_mo (gm_h l) P N = [P] := if_pos z0
    rw [e0] at K
    rw [p1, p4]
    refine xf_meet ht hj oP ?_ ha hb ka kb (fun rf' rl' g1 g2 g3 => nm_r (nI_1 k) (K rf' rl' g1 g2 g3))
    obtain ⟨q1, q2, q3, q4⟩ := bP
    exact ⟨by omega, by omega, by omega, by omega⟩
  · refine br_f (fun w => z0 ((xl_eq0 (by omega)).mp w)) ?_
    have meet : (gm_h l P < 0 ∧ 0 < gm_h l N) ∨ (0 < gm_h l P ∧ gm_h l N < 0) → wX_fillRow_145 post J (nI t) (nI j) (ra_L l) (nI k) (nI nx) (ra_L (gm_h l P)) (ra_L (gm_h l N)) li sz ma cu dr co rf rl ow sx sy so bo px py pz pw qx qy qz qw := by
      intro hz
      have e0 : gm_mo (gm_h l) P N = [gm_mx (gm_ab (gm_h l N)) P (gm_ab (gm_h l P)) N] := by
        unfold gm_mo; rw [if_neg z0, if_pos hz]
      rw [e0] at K
      have ab1 : (gm_ab (gm_h l P)).natAbs ≤ 12000000 := by unfold gm_ab; split <;> omega
      have ab2 : (gm_ab (gm_h l N)).natAbs ≤ 12000000 := by unfold gm_ab; split <;> omega
      have p1' := gm_ab_pos z0
      have p2' := gm_ab_pos (x := gm_h l N) (by omega)
      have m177 : wX_fillRow_177 post J (nI t) (nI j) (ra_L l) (nI k) (nI nx) (ra_L (gm_ab (gm_h l P))) (ra_L (gm_ab (gm_h l N))) li sz ma cu dr co rf rl ow sx sy so bo px py pz pw qx qy qz qw := by
        unfold wX_fillRow_177
        rw [ck, cn, p1, n1, p4, n4, ra_Lmul, ra_Lmul, ra_Ladd, ra_Lmul, ra_Lmul, ra_Ladd]
        refine ⟨ik, ix, ik, ix, ?_⟩
        have ex : P.1 * gm_ab (gm_h l N) + N.1 * gm_ab (gm_h l P) = (gm_mx (gm_ab (gm_h l N)) P (gm_ab (gm_h l P)) N).1 := by
          show _ = gm_ab (gm_h l N) * P.1 + gm_ab (gm_h l P) * N.1
          rw [Int.mul_comm P.1, Int.mul_comm N.1]
        have ew : P.2.2.2 * gm_ab (gm_h l N) + N.2.2.2 * gm_ab (gm_h l P) = (gm_mx (gm_ab (gm_h l N)) P (gm_ab (gm_h l P)) N).2.2.2 := by
          show _ = gm_ab (gm_h l N) * P.2.2.2 + gm_ab (gm_h l P) * N.2.2.2
          rw [Int.mul_comm P.2.2.2, Int.mul_comm N.2.2.2]
        rw [ex, ew]
        refine xf_meet ht hj ?_ (xc_mb bP bN ab2 ab1) ha hb ka kb (fun rf' rl' g1 g2 g3 => nm_r (nI_1 k) (K rf' rl' g1 g2 g3))
        obtain ⟨o1, o2, o3⟩ := oP
        obtain ⟨o4, o5, o6⟩ := oN
        have s1 := gm_lin_side 0 (gm_ab (gm_h l N)) P (gm_ab (gm_h l P)) N
        have s2 := gm_lin_side 1 (gm_ab (gm_h l N)) P (gm_ab (gm_h l P)) N
        refine ⟨gm_pp p2' p1' o1 o4, ?_, ?_⟩
        · have s1' : (gm_mx (gm_ab (gm_h l N)) P (gm_ab (gm_h l P)) N).2.2.2 + (gm_mx (gm_ab (gm_h l N)) P (gm_ab (gm_h l P)) N).1 = gm_ab (gm_h l N) * (P.2.2.2 + P.1) + gm_ab (gm_h l P) * (N.2.2.2 + N.1) := s1
          rw [s1']; exact gm_nn (by omega) (by omega) o2 o5
        · have s2' : (gm_mx (gm_ab (gm_h l N)) P (gm_ab (gm_h l P)) N).2.2.2 - (gm_mx (gm_ab (gm_h l N)) P (gm_ab (gm_h l P)) N).1 = gm_ab (gm_h l N) * (P.2.2.2 - P.1) + gm_ab (gm_h l P) * (N.2.2.2 - N.1) := s2
          rw [s2']; exact gm_nn (by omega) (by omega) o3 o6
      have m160 : wX_fillRow_160 post J (nI t) (nI j) (ra_L l) (nI k) (nI nx) (ra_L (gm_h l N)) (ra_L (gm_ab (gm_h l P))) li sz ma cu dr co rf rl ow sx sy so bo px py pz pw qx qy qz qw := by
        by_cases y : 0 ≤ gm_h l N
        · have ea : gm_ab (gm_h l N) = gm_h l N := if_neg (by omega)
          rw [ea] at m177
          exact br_t ((xl_0le (by omega)).mpr y) m177
        · have ea : gm_ab (gm_h l N) = -gm_h l N := if_pos (by omega)
          rw [ea, ← ra_Lneg] at m177
          exact br_f (fun w => y ((xl_0le (by omega)).mp w)) m177
      by_cases y : 0 ≤ gm_h l P
      · have ea : gm_ab (gm_h l P) = gm_h l P := if_neg (by omega)
        rw [ea] at m160
        exact br_t ((xl_0le (by omega)).mpr y) m160
      · have ea : gm_ab (gm_h l P) = -gm_h l P := if_pos (by omega)
        rw [ea, ← ra_Lneg] at m160
        exact br_f (fun w => y ((xl_0le (by omega)).mp w)) m160
    have m131 : ¬ (gm_h l P < 0 ∧ 0 < gm_h l N) → wX_fillRow_131 post J (nI t) (nI j) (ra_L l) (nI k) (nI nx) (ra_L (gm_h l P)) (ra_L (gm_h l N)) li sz ma cu dr co rf rl ow sx sy so bo px py pz pw qx qy qz qw := by
      intro hz
      by_cases y : gm_h l P ≤ 0
      · refine br_t ((xl_le0 (by omega)).mpr y) (skip ?_)
        unfold gm_mo; rw [if_neg z0, if_neg (by omega)]
      · refine br_f (fun w => y ((xl_le0 (by omega)).mp w)) ?_
        by_cases y2 : 0 ≤ gm_h l N
        · refine br_t ((xl_0le (by omega)).mpr y2) (skip ?_)
          unfold gm_mo; rw [if_neg z0, if_neg (by omega)]
        · exact br_f (fun w => y2 ((xl_0le (by omega)).mp w)) (meet (by omega))
    by_cases y : 0 ≤ gm_h l P
    · exact br_t ((xl_0le (by omega)).mpr y) (m131 (by omega))
    · refine br_f (fun w => y ((xl_0le (by omega)).mp w)) ?_
      by_cases y2 : 0 < gm_h l N
      · exact br_t ((xl_0lt (by omega)).mpr y2) (meet (by omega))
      · exact br_f (fun w => y2 ((xl_0lt (by omega)).mp w)) (m131 (by omega))
end
theorem xf_ff_app : ∀ (M M' : List gm_V) (a : Int), gm_ff a (M ++ M') = gm_ff (gm_ff a M) M' := by
  intro M
  induction M with
  | nil => intro M' a; rfl
  | cons X M ih => intro M' a; exact ih M' _
theorem xf_fl_app : ∀ (M M' : List gm_V) (a : Int), gm_fl a (M ++ M') = gm_fl (gm_fl a M) M' := by
  intro M
  induction M with
  | nil => intro M' a; rfl
  | cons X M ih => intro M' a; exact ih M' _
theorem xf_mg {h : gm_V → Int} {C : List gm_V} {k : Nat} {P N : gm_V} (hP : C[k]? = some P) (hN : C[k + 1]? = some N) : gm_mg h (C.drop k) = gm_mo h P N ++ gm_mg h (C.drop (k + 1)) := by
  rw [xc_dr hP, xc_dr hN]; rfl
theorem xf_end {h : gm_V → Int} {L : List gm_V} : gm_mg h ((gm_cl L).drop L.length) = [] := by
  have e : (gm_cl L).drop L.length = L.take 1 := List.drop_left
  rw [e]
  cases L with
  | nil => rfl
  | cons P r => rfl
theorem xf_ffb {h : gm_V → Int} {P N : gm_V} (hok : ∀ X, X ∈ gm_mo h P N → xf_ok X) {a : Int} (ha : 0 ≤ a ∧ a ≤ 16) : 0 ≤ gm_ff a (gm_mo h P N) ∧ gm_ff a (gm_mo h P N) ≤ 16 := by
  unfold gm_mo at hok ⊢
  split at hok
  · rename_i z
    rw [if_pos z]
    have k := xf_fi (hok P List.mem_cons_self)
    show 0 ≤ (if gm_fi P < a then gm_fi P else a) ∧ (if gm_fi P < a then gm_fi P else a) ≤ 16
    split <;> omega
  · rename_i z
    rw [if_neg z]
    split at hok
    · rename_i y
      rw [if_pos y]
      have k := xf_fi (hok _ List.mem_cons_self)
      generalize gm_mx (gm_ab (h N)) P (gm_ab (h P)) N = X at k
      show 0 ≤ (if gm_fi X < a then gm_fi X else a) ∧ (if gm_fi X < a then gm_fi X else a) ≤ 16
      split <;> omega
    · rename_i y
      rw [if_neg y]; exact ha
theorem xf_flb {h : gm_V → Int} {P N : gm_V} (hok : ∀ X, X ∈ gm_mo h P N → xf_ok X) {a : Int} (ha : -1 ≤ a ∧ a ≤ 15) : -1 ≤ gm_fl a (gm_mo h P N) ∧ gm_fl a (gm_mo h P N) ≤ 15 := by
  unfold gm_mo at hok ⊢
  split at hok
  · rename_i z
    rw [if_pos z]
    have k := xf_la (hok P List.mem_cons_self)
    show -1 ≤ (if a < gm_la P then gm_la P else a) ∧ (if a < gm_la P then gm_la P else a) ≤ 15
    split <;> omega
  · rename_i z
    rw [if_neg z]
    split at hok
    · rename_i y
      rw [if_pos y]
      have k := xf_la (hok _ List.mem_cons_self)
      generalize gm_mx (gm_ab (h N)) P (gm_ab (h P)) N = X at k
      show -1 ≤ (if a < gm_la X then gm_la X else a) ∧ (if a < gm_la X then gm_la X else a) ≤ 15
      split <;> omega
    · rename_i y
      rw [if_neg y]; exact ha
theorem xf_mok {h : gm_V → Int} {P N : gm_V} (oP : xf_ok P) (oN : xf_ok N) : ∀ X, X ∈ gm_mo h P N → xf_ok X := by
  intro X hX
  rcases gm_mo_c hX with ⟨_, e⟩ | ⟨a, b, ha, hb, _, e⟩
  · rw [e]; exact oP
  · rw [e]
    obtain ⟨o1, o2, o3⟩ := oP
    obtain ⟨o4, o5, o6⟩ := oN
    have s1 : (gm_mx a P b N).2.2.2 + (gm_mx a P b N).1 = a * (P.2.2.2 + P.1) + b * (N.2.2.2 + N.1) := gm_lin_side 0 a P b N
    have s2 : (gm_mx a P b N).2.2.2 - (gm_mx a P b N).1 = a * (P.2.2.2 - P.1) + b * (N.2.2.2 - N.1) := gm_lin_side 1 a P b N
    refine ⟨gm_pp ha hb o1 o4, ?_, ?_⟩
    · rw [s1]; exact gm_nn (by omega) (by omega) o2 o5
    · rw [s2]; exact gm_nn (by omega) (by omega) o3 o6
section
variable {li sz ma cu : Int32} {dr co rf rl ow : Nat → Int32} {sx sy so bo px py pz pw qx qy qz qw : Nat → Int64}
theorem xf_loop {post : SX → Prop} {t j : Nat} {l : Int} (ht : t < 10) (hj : j < 16) (hl : l.natAbs ≤ 15) {L : List gm_V} (hm : L.length ≤ 15) (hp : xh_H L px py pz pw) (hB : ∀ P, P ∈ L → gm_B 192000 P) (hO : ∀ P, P ∈ L → xf_ok P) {fa fb : Int} {rf0 rl0 : Nat → Int32}
    (K : ∀ rf' rl', rf' (16 * t + j) = ra_I fa → rl' (16 * t + j) = ra_I fb → (∀ i, i ≠ 16 * t + j → rf' i = rf0 i ∧ rl' i = rl0 i) → post (li, nI L.length, ma, cu, dr, co, rf', rl', ow, sx, sy, so, bo, px, py, pz, pw, qx, qy, qz, qw)) :
    ∀ (i k n : Nat) (a b : Int) (rf rl : Nat → Int32), k + i = L.length → gm_ff a (gm_mg (gm_h l) ((gm_cl L).drop k)) = fa → gm_fl b (gm_mg (gm_h l) ((gm_cl L).drop k)) = fb → rf (16 * t + j) = ra_I a → rl (16 * t + j) = ra_I b → 0 ≤ a ∧ a ≤ 16 → -1 ≤ b ∧ b ≤ 15 →
      (∀ i, i ≠ 16 * t + j → rf i = rf0 i ∧ rl i = rl0 i) → i < n → wX_fillRow_11 post (nI t) (nI j) (ra_L l) n (nI k) li (nI L.length) ma cu dr co rf rl ow sx sy so bo px py pz pw qx qy qz qw := by
  intro i
  induction i with
  | zero =>
    intro k n a b rf rl e ea eb ha hb ka kb ho hn
    obtain ⟨n, rfl⟩ : ∃ n', n = n' + 1 := ⟨n - 1, by omega⟩
    have ek : k = L.length := by omega
    rw [ek, xf_end] at ea eb
    have ea' : a = fa := ea
    have eb' : b = fb := eb
    subst ea' eb'
    exact pk_le L.length k (fun _ => K rf rl ha hb ho) (fun z => absurd z (by omega))
  | succ i ih =>
    intro k n a b rf rl e ea eb ha hb ka kb ho hn
    obtain ⟨n, rfl⟩ : ∃ n', n = n' + 1 := ⟨n - 1, by omega⟩
    obtain ⟨P, N, hP, hN, cP, cN⟩ := xc_cl (L := L) (k := k) (by omega)
    rw [xf_mg cP cN, xf_ff_app] at ea
    rw [xf_mg cP cN, xf_fl_app] at eb
    have bP := hB P (List.mem_of_getElem? hP)
    have bN := hB N (List.mem_of_getElem? hN)
    have oP := hO P (List.mem_of_getElem? hP)
    have oN := hO N (List.mem_of_getElem? hN)
    have mok := xf_mok (h := gm_h l) oP oN
    have step : ∀ nx, nx < 16 → xh_at px py pz pw nx N → wX_fillRow_39 post (wX_fillRow_11 post (nI t) (nI j) (ra_L l) n) (nI t) (nI j) (ra_L l) (nI k) (nI nx) li (nI L.length) ma cu dr co rf rl ow sx sy so bo px py pz pw qx qy qz qw := by
      intro nx hnx hat
      refine xf_39 ht hj hl (by omega) hnx (hp k P hP) hat bP bN oP oN ha hb (by omega) (by omega) (fun rf' rl' g1 g2 g3 => ?_)
      exact ih (k + 1) n _ _ rf' rl' (by omega) ea eb g1 g2 (xf_ffb mok ka) (xf_flb mok kb) (fun q hq => ⟨(g3 q hq).1.trans (ho q hq).1, (g3 q hq).2.trans (ho q hq).2⟩) (by omega)
    refine pk_le L.length k (fun z => absurd z (by omega)) (fun _ => ?_)
    rw [nI_1]
    refine pk_le L.length (k + 1) (fun z => ?_) (fun z => ?_)
    · rw [if_neg (by omega)] at hN
      exact step 0 (by omega) (hp 0 N hN)
    · rw [if_pos z] at hN
      exact step (k + 1) (by omega) (hp (k + 1) N hN)
theorem xf_fill {post : SX → Prop} {t j : Nat} (ht : t < 10) (hj : j < 16) {L : List gm_V} (hm : L.length ≤ 15) (hp : xh_H L px py pz pw) (hB : ∀ P, P ∈ L → gm_B 192000 P) (hO : ∀ P, P ∈ L → xf_ok P)
    (ha : rf (16 * t + j) = ra_I 16) (hb : rl (16 * t + j) = ra_I (-1))
    (K : ∀ rf' rl', rf' (16 * t + j) = ra_I (gm_ff 16 (gm_mg (gm_h (2 * (j : Int) - 15)) (gm_cl L))) → rl' (16 * t + j) = ra_I (gm_fl (-1) (gm_mg (gm_h (2 * (j : Int) - 15)) (gm_cl L))) → (∀ i, i ≠ 16 * t + j → rf' i = rf i ∧ rl' i = rl i) → post (li, nI L.length, ma, cu, dr, co, rf', rl', ow, sx, sy, so, bo, px, py, pz, pw, qx, qy, qz, qw)) :
    wpX_fillRow post (li, nI L.length, ma, cu, dr, co, rf, rl, ow, sx, sy, so, bo, px, py, pz, pw, qx, qy, qz, qw) (nI t) (nI j) :=
  nm_r (ra_xyL j (by omega)) ⟨17, xf_loop ht hj (by omega) hm hp hB hO K L.length 0 17 16 (-1) rf rl (by omega) rfl rfl ha hb (by omega) (by omega) (fun i _ => ⟨rfl, rfl⟩) (by omega)⟩
end
end
section
def xp_m (c : Nat → Int) (t a b f g : Nat) : Int := c (12 * t + 4 * a + f) * c (12 * t + 4 * b + g) - c (12 * t + 4 * b + f) * c (12 * t + 4 * a + g)
theorem xp_ix (t a f : Nat) : ((nI (12 * t) + 4 * nI a) + nI f : Int32) = nI (12 * t + 4 * a + f) := by
  rw [show (4 : Int32) = nI 4 from rfl, pk_mul, nI_add, nI_add]
theorem xp_12 (t : Nat) : (12 : Int32) * nI t = nI (12 * t) := by rw [show (12 : Int32) = nI 12 from rfl, pk_mul]
def xp_T (c : Nat → Int) (t : Nat) (sx sy so bo : Nat → Int64) : Prop := (∀ i j : Nat, sx t * ra_L (2 * (i : Int) - 15) + sy t * ra_L (2 * (j : Int) - 15) + so t = ra_L (pv_tp c t i j)) ∧ bo t = ra_L (pv_bt c t)
theorem xp_idV (c : Nat → Int) (t : Nat) : 0 + c (12 * t + 4 * 0 + 3) * xp_m c t 1 2 0 1 + c (12 * t + 4 * 1 + 3) * xp_m c t 2 0 0 1 + c (12 * t + 4 * 2 + 3) * xp_m c t 0 1 0 1 = pv_V c t := by
  unfold pv_V pv_A pv_B pv_C gm_dt xp_m
  simp only [Nat.mul_zero, Nat.mul_one, Nat.add_zero, Nat.add_assoc, Nat.reduceMul, Nat.reduceAdd]
  generalize c (12 * t) = a0
  generalize c (12 * t + 1) = a1
  generalize c (12 * t + 3) = a3
  generalize c (12 * t + 4) = b0
  generalize c (12 * t + 5) = b1
  generalize c (12 * t + 7) = b3
  generalize c (12 * t + 8) = c0
  generalize c (12 * t + 9) = c1
  generalize c (12 * t + 11) = c3
  grind
theorem xp_idT (c : Nat → Int) (t i j : Nat) (q : Int) (hq : q = pv_q c t) : q * (0 + c (12 * t + 4 * 0 + 2) * xp_m c t 1 2 1 3 + c (12 * t + 4 * 1 + 2) * xp_m c t 2 0 1 3 + c (12 * t + 4 * 2 + 2) * xp_m c t 0 1 1 3) * (2 * (i : Int) - 15)
    + q * (0 + c (12 * t + 4 * 0 + 2) * -xp_m c t 1 2 0 3 + c (12 * t + 4 * 1 + 2) * -xp_m c t 2 0 0 3 + c (12 * t + 4 * 2 + 2) * -xp_m c t 0 1 0 3) * (2 * (j : Int) - 15)
    + q * (0 + c (12 * t + 4 * 0 + 2) * xp_m c t 1 2 0 1 + c (12 * t + 4 * 1 + 2) * xp_m c t 2 0 0 1 + c (12 * t + 4 * 2 + 2) * xp_m c t 0 1 0 1) * 16 = pv_tp c t i j := by
  unfold pv_tp pv_e0 pv_e1 pv_e2
  rw [← hq]
  unfold pv_A pv_B pv_C gm_Dp gm_dt xp_m
  simp only [Nat.mul_zero, Nat.mul_one, Nat.add_zero, Nat.add_assoc, Nat.reduceMul, Nat.reduceAdd]
  generalize 2 * (i : Int) - 15 = x
  generalize 2 * (j : Int) - 15 = y
  generalize c (12 * t) = a0
  generalize c (12 * t + 1) = a1
  generalize c (12 * t + 2) = a2
  generalize c (12 * t + 3) = a3
  generalize c (12 * t + 4) = b0
  generalize c (12 * t + 5) = b1
  generalize c (12 * t + 6) = b2
  generalize c (12 * t + 7) = b3
  generalize c (12 * t + 8) = c0
  generalize c (12 * t + 9) = c1
  generalize c (12 * t + 10) = c2
  generalize c (12 * t + 11) = c3
  clear hq
  grind
section
variable {li sz ma cu : Int32} {dr co rf rl ow : Nat → Int32} {sx sy so bo px py pz pw qx qy qz qw : Nat → Int64}
variable {c : Nat → Int} {d : Nat}
theorem xp_minor {post : Int64 → Prop} (hN : pv_N c d co) (hd : d ≤ 10) {t : Nat} (ht : t < d) (a b f g : Nat) (ha : a < 3) (hb : b < 3) (hf : f < 4) (hg : g < 4) (h : post (ra_L (xp_m c t a b f g))) :
    wpX_minor post (li, sz, ma, cu, dr, co, rf, rl, ow, sx, sy, so, bo, px, py, pz, pw, qx, qy, qz, qw) (nI t) (nI a) (nI b) (nI f) (nI g) := by
  have q : ∀ r s, r < 3 → s < 4 → (co (12 * t + 4 * r + s)).toInt64 = ra_L (c (12 * t + 4 * r + s)) := by
    intro r s hr hs
    obtain ⟨k1, k2⟩ := hN (12 * t + 4 * r + s) (by omega)
    rw [k2, ra_IL (by omega)]
  have ii : ∀ r s, r < 3 → s < 4 → vp_in (nI (12 * t + 4 * r + s)) 120 := fun r s hr hs => vp_in_nI (by omega) (by decide)
  have cc : ∀ r s, r < 3 → s < 4 → (nI (12 * t + 4 * r + s)).toNatClampNeg = 12 * t + 4 * r + s := fun r s hr hs => nI_clamp (by omega)
  refine nm_r (xp_12 t) ?_
  rw [xp_ix, xp_ix, xp_ix, xp_ix, cc a f ha hf, cc b g hb hg, cc b f hb hf, cc a g ha hg, q a f ha hf, q b g hb hg, q b f hb hf, q a g ha hg, ra_Lmul, ra_Lmul]
  refine ⟨ii a f ha hf, ii b g hb hg, nm_e ⟨ii b f hb hf, ii a g ha hg, nm_e ?_⟩⟩
  rw [ra_Lsub]; exact h
theorem xp_50 {post : SX → Prop} {J : Int64 → Int64 → Int64 → Int64 → Int32 → Prop} (hN : pv_N c d co) (hd : d ≤ 10) {t : Nat} (ht : t < d) (k a b : Nat) (hk : k < 3) (ha : a < 3) (hb : b < 3) {x2 x4 x6 x8 : Int}
    (K : J (ra_L (x2 + c (12 * t + 4 * k + 2) * xp_m c t a b 1 3)) (ra_L (x4 + c (12 * t + 4 * k + 2) * -xp_m c t a b 0 3)) (ra_L (x6 + c (12 * t + 4 * k + 2) * xp_m c t a b 0 1)) (ra_L (x8 + c (12 * t + 4 * k + 3) * xp_m c t a b 0 1)) (nI (k + 1))) :
    wX_findDepth_50 post J (nI t) (ra_L x2) (ra_L x4) (ra_L x6) (ra_L x8) (nI k) (nI a) (nI b) li sz ma cu dr co rf rl ow sx sy so bo px py pz pw qx qy qz qw := by
  have q : ∀ r s, r < 3 → s < 4 → (co (12 * t + 4 * r + s)).toInt64 = ra_L (c (12 * t + 4 * r + s)) := by
    intro r s hr hs
    obtain ⟨k1, k2⟩ := hN (12 * t + 4 * r + s) (by omega)
    rw [k2, ra_IL (by omega)]
  have e2 : ((12 : Int32) * nI t + 4 * nI k) + 2 = nI (12 * t + 4 * k + 2) := by rw [xp_12]; exact xp_ix t k 2
  have e3 : ((12 : Int32) * nI t + 4 * nI k) + 3 = nI (12 * t + 4 * k + 3) := by rw [xp_12]; exact xp_ix t k 3
  unfold wX_findDepth_50
  rw [e2, e3, nI_clamp (by omega), nI_clamp (by omega), q k 2 hk (by omega), q k 3 hk (by omega)]
  refine ⟨vp_in_nI (by omega) (by decide), nm_e ?_⟩
  refine xp_minor hN hd ht a b 1 3 ha hb (by omega) (by omega) ?_
  refine xp_minor hN hd ht a b 0 3 ha hb (by omega) (by omega) ?_
  refine nm_r (ra_Lneg _) ?_
  refine xp_minor hN hd ht a b 0 1 ha hb (by omega) (by omega) ?_
  refine nm_r (by rw [ra_Lmul, ra_Ladd]) (nm_r (by rw [ra_Lmul, ra_Ladd]) (nm_r (by rw [ra_Lmul, ra_Ladd]) ⟨vp_in_nI (by omega) (by decide), nm_r (by rw [ra_Lmul, ra_Ladd]) (nm_r (nI_1 k) K)⟩))
theorem xp_184 {post : SX → Prop} {t : Nat} (ht : t < 10) {x2 x4 x6 x8 z : Int} (K : post (li, sz, ma, cu, dr, co, rf, rl, ow, vp_updL sx t (ra_L (z * x2)), vp_updL sy t (ra_L (z * x4)), vp_updL so t (ra_L (z * x6 * 16)), vp_updL bo t (ra_L (z * x8 * 16)), px, py, pz, pw, qx, qy, qz, qw)) :
    wX_findDepth_184 post (nI t) (ra_L x2) (ra_L x4) (ra_L x6) (ra_L x8) (ra_L z) li sz ma cu dr co rf rl ow sx sy so bo px py pz pw qx qy qz qw := by
  have ct : (nI t).toNatClampNeg = t := nI_clamp (by omega)
  have it : vp_in (nI t) 10 := vp_in_nI ht (by decide)
  unfold wX_findDepth_184
  rw [ct, ra_Lmul, ra_Lmul, ra_Lmul, ra_Lmul, ra_L16, ra_Lmul, ra_Lmul]
  exact ⟨it, nm_e ⟨it, nm_e ⟨it, nm_e ⟨it, nm_e K⟩⟩⟩⟩
theorem xp_findDepth {post : SX → Prop} (hN : pv_N c d co) (hd : d ≤ 10) {t : Nat} (ht : t < d)
    (K : ∀ sx' sy' so' bo', xp_T c t sx' sy' so' bo' → (∀ u, u ≠ t → sx' u = sx u ∧ sy' u = sy u ∧ so' u = so u ∧ bo' u = bo u) → post (li, sz, ma, cu, dr, co, rf, rl, ow, sx', sy', so', bo', px, py, pz, pw, qx, qy, qz, qw)) : wpX_findDepth post (li, sz, ma, cu, dr, co, rf, rl, ow, sx, sy, so, bo, px, py, pz, pw, qx, qy, qz, qw) (nI t) := by
  have fin : ∀ q : Int, q = pv_q c t → post (li, sz, ma, cu, dr, co, rf, rl, ow, vp_updL sx t (ra_L (q * (0 + c (12 * t + 4 * 0 + 2) * xp_m c t 1 2 1 3 + c (12 * t + 4 * 1 + 2) * xp_m c t 2 0 1 3 + c (12 * t + 4 * 2 + 2) * xp_m c t 0 1 1 3))), vp_updL sy t (ra_L (q * (0 + c (12 * t + 4 * 0 + 2) * -xp_m c t 1 2 0 3 + c (12 * t + 4 * 1 + 2) * -xp_m c t 2 0 0 3 + c (12 * t + 4 * 2 + 2) * -xp_m c t 0 1 0 3))), vp_updL so t (ra_L (q * (0 + c (12 * t + 4 * 0 + 2) * xp_m c t 1 2 0 1 + c (12 * t + 4 * 1 + 2) * xp_m c t 2 0 0 1 + c (12 * t + 4 * 2 + 2) * xp_m c t 0 1 0 1) * 16)), vp_updL bo t (ra_L (q * pv_V c t * 16)), px, py, pz, pw, qx, qy, qz, qw) := by
    intro q hq
    refine K _ _ _ _ ⟨?_, ?_⟩ (fun u hu => ⟨pk_uLn hu, pk_uLn hu, pk_uLn hu, pk_uLn hu⟩)
    · intro i j
      rw [pk_uLs, pk_uLs, pk_uLs, ra_Lmul, ra_Lmul, ra_Ladd, ra_Ladd]
      exact congrArg ra_L (xp_idT c t i j q hq)
    · rw [pk_uLs, hq]
      exact congrArg ra_L (Int.mul_comm _ _)
  refine ⟨4, ?_⟩
  rw [show (0 : Int64) = ra_L 0 from ra_L0]
  refine pk_le 3 0 (fun z => absurd z (by omega)) (fun _ => ?_)
  refine pk_eq 0 2 (fun z => absurd z (by omega)) (fun _ => ?_)
  refine pk_eq 1 2 (fun z => absurd z (by omega)) (fun _ => ?_)
  refine xp_50 hN hd ht 0 1 2 (by omega) (by omega) (by omega) ?_
  refine pk_le 3 1 (fun z => absurd z (by omega)) (fun _ => ?_)
  refine pk_eq 1 2 (fun z => absurd z (by omega)) (fun _ => ?_)
  refine pk_eq 2 2 (fun _ => ?_) (fun z => absurd rfl z)
  refine xp_50 hN hd ht 1 2 0 (by omega) (by omega) (by omega) ?_
  refine pk_le 3 2 (fun z => absurd z (by omega)) (fun _ => ?_)
  refine pk_eq 2 2 (fun _ => ?_) (fun z => absurd rfl z)
  refine pk_eq 0 2 (fun z => absurd z (by omega)) (fun _ => ?_)
  refine xp_50 hN hd ht 2 0 1 (by omega) (by omega) (by omega) ?_
  refine pk_le 3 3 (fun _ => ?_) (fun z => absurd z (by omega))
  rw [xp_idV]
  have bV := pv_Vb hN ht
  by_cases y : 0 ≤ pv_V c t
  · refine br_t ((xl_0le (by omega)).mpr y) ?_
    rw [ra_L1]
    exact xp_184 (by omega) (fin 1 (by unfold pv_q; rw [if_neg (by omega)]))
  · refine br_f (fun w => y ((xl_0le (by omega)).mp w)) ?_
    rw [ra_Lm1]
    exact xp_184 (by omega) (fin (-1) (by unfold pv_q; rw [if_pos (by omega)]))
theorem xp_clear {post : SX → Prop} {t : Nat} (ht : t < 10) {rf0 rl0 : Nat → Int32} (K : ∀ rf' rl', (∀ j, j < 16 → rf' (16 * t + j) = ra_I 16 ∧ rl' (16 * t + j) = ra_I (-1)) → (∀ q, (q < 16 * t ∨ 16 * t + 16 ≤ q) → rf' q = rf0 q ∧ rl' q = rl0 q) → post (li, sz, ma, cu, dr, co, rf', rl', ow, sx, sy, so, bo, px, py, pz, pw, qx, qy, qz, qw)) :
    ∀ (m k n : Nat) (rf rl : Nat → Int32), k + m = 16 → (∀ j, j < k → rf (16 * t + j) = ra_I 16 ∧ rl (16 * t + j) = ra_I (-1)) → (∀ q, (q < 16 * t ∨ 16 * t + 16 ≤ q) → rf q = rf0 q ∧ rl q = rl0 q) → m < n → wX_clear_2 post (nI t) li sz ma cu n (nI k) dr co rf rl ow sx sy so bo px py pz pw qx qy qz qw := by
  intro m
  induction m with
  | zero =>
    intro k n rf rl e h1 h2 hn
    obtain ⟨n, rfl⟩ : ∃ n', n = n' + 1 := ⟨n - 1, by omega⟩
    have ek : k = 16 := by omega
    subst ek
    exact pk_le 16 16 (fun _ => K rf rl h1 h2) (fun z => absurd z (by omega))
  | succ m ih =>
    intro k n rf rl e h1 h2 hn
    obtain ⟨n, rfl⟩ : ∃ n', n = n' + 1 := ⟨n - 1, by omega⟩
    have iq : vp_in (nI (16 * t + k)) 160 := vp_in_nI (by omega) (by decide)
    have R := ih (k + 1) n (upd rf (16 * t + k) 16) (upd rl (16 * t + k) (-1)) (by omega) (by
      intro j hj
      by_cases z : j = k
      · subst z; exact ⟨pk_us.trans ra_I16, pk_us.trans ra_Im1⟩
      · rw [pk_un (by omega), pk_un (by omega)]; exact h1 j (by omega)) (by
      intro q hq
      rw [pk_un (by omega), pk_un (by omega)]; exact h2 q hq) (by omega)
    refine pk_le 16 k (fun z => absurd z (by omega)) (fun _ => ?_)
    rw [xf_at, nI_clamp (by omega)]
    exact ⟨iq, nm_e ⟨iq, nm_e (nm_r (nI_1 k) R)⟩⟩
theorem xp_ld {post : SX → Prop} (hN : pv_N c d co) (hd : d ≤ 10) {t : Nat} (ht : t < d) (k n : Nat) (hk : k < 3) (R : wX_loadCorners_2 post (nI t) li sz ma cu n (nI (k + 1)) dr co rf rl ow sx sy so bo (vp_updL px k (ra_L (c (12 * t + 4 * k)))) (vp_updL py k (ra_L (c (12 * t + 4 * k + 1)))) (vp_updL pz k (ra_L (c (12 * t + 4 * k + 2)))) (vp_updL pw k (ra_L (c (12 * t + 4 * k + 3)))) qx qy qz qw) :
    wX_loadCorners_2 post (nI t) li sz ma cu (n + 1) (nI k) dr co rf rl ow sx sy so bo px py pz pw qx qy qz qw := by
  have q : ∀ s, s < 4 → (co (12 * t + 4 * k + s)).toInt64 = ra_L (c (12 * t + 4 * k + s)) := by
    intro s hs
    obtain ⟨k1, k2⟩ := hN (12 * t + 4 * k + s) (by omega)
    rw [k2, ra_IL (by omega)]
  have e0 : (12 : Int32) * nI t + 4 * nI k = nI (12 * t + 4 * k) := by
    rw [xp_12, show (4 : Int32) = nI 4 from rfl, pk_mul, nI_add]
  have e1 : nI (12 * t + 4 * k) + 1 = nI (12 * t + 4 * k + 1) := nI_add _ 1
  have e2 : nI (12 * t + 4 * k) + 2 = nI (12 * t + 4 * k + 2) := nI_add _ 2
  have e3 : nI (12 * t + 4 * k) + 3 = nI (12 * t + 4 * k + 3) := nI_add _ 3
  have ik : vp_in (nI k) 16 := vp_in_nI (by omega) (by decide)
  have ii : ∀ s, s < 4 → vp_in (nI (12 * t + 4 * k + s)) 120 := fun s hs => vp_in_nI (by omega) (by decide)
  refine pk_le 3 k (fun z => absurd z (by omega)) (fun _ => ?_)
  rw [e0, e1, e2, e3, nI_clamp (n := k) (by omega), nI_clamp (n := 12 * t + 4 * k) (by omega), nI_clamp (n := 12 * t + 4 * k + 1) (by omega), nI_clamp (n := 12 * t + 4 * k + 2) (by omega), nI_clamp (n := 12 * t + 4 * k + 3) (by omega)]
  rw [q 1 (by omega), q 2 (by omega), q 3 (by omega), show (co (12 * t + 4 * k)).toInt64 = ra_L (c (12 * t + 4 * k)) from q 0 (by omega)]
  exact ⟨ii 0 (by omega), ik, nm_e ⟨ii 1 (by omega), ik, nm_e ⟨ii 2 (by omega), ik, nm_e ⟨ii 3 (by omega), ik, nm_e (nm_r (nI_1 k) R)⟩⟩⟩⟩
theorem xp_load {post : SX → Prop} (hN : pv_N c d co) (hd : d ≤ 10) {t : Nat} (ht : t < d) (K : ∀ px' py' pz' pw', xh_H [pv_A c t, pv_B c t, pv_C c t] px' py' pz' pw' → post (li, nI 3, ma, cu, dr, co, rf, rl, ow, sx, sy, so, bo, px', py', pz', pw', qx, qy, qz, qw)) : wpX_loadCorners post (li, sz, ma, cu, dr, co, rf, rl, ow, sx, sy, so, bo, px, py, pz, pw, qx, qy, qz, qw) (nI t) := by
  refine ⟨4, ?_⟩
  refine xp_ld hN hd ht 0 3 (by omega) ?_
  refine xp_ld hN hd ht 1 2 (by omega) ?_
  refine xp_ld hN hd ht 2 1 (by omega) ?_
  refine pk_le 3 3 (fun _ => ?_) (fun z => absurd z (by omega))
  refine K _ _ _ _ ?_
  intro k P hP
  match k, hP with
  | 0, hP => cases hP; exact ⟨rfl, rfl, rfl, rfl⟩
  | 1, hP => cases hP; exact ⟨rfl, rfl, rfl, rfl⟩
  | 2, hP => cases hP; exact ⟨rfl, rfl, rfl, rfl⟩
  | k + 3, hP => cases hP
end
end
section
def xo_c : Option Nat → Int32
  | none => -2
  | some b => nI b
section
variable {li sz ma cu : Int32} {dr co rf rl ow : Nat → Int32} {sx sy so bo px py pz pw qx qy qz qw : Nat → Int64}
variable {c : Nat → Int} {d : Nat}
theorem xs_top {post : Int64 → Prop} {t i j : Nat} (ht : t < 10) (hi : i < 1000) (hj : j < 1000) (hT : xp_T c t sx sy so bo) (h : post (ra_L (pv_tp c t i j))) : wpX_top post (li, sz, ma, cu, dr, co, rf, rl, ow, sx, sy, so, bo, px, py, pz, pw, qx, qy, qz, qw) (nI t) (nI i) (nI j) := by
  have ct : (nI t).toNatClampNeg = t := nI_clamp (by omega)
  have it : vp_in (nI t) 10 := vp_in_nI ht (by decide)
  unfold wpX_top
  simp only
  rw [ct, ra_xyL i hi, ra_xyL j hj, hT.1 i j]
  exact ⟨it, it, it, h⟩
theorem xs_step {post : SX → Prop} (hN : pv_N c d co) (hd : d ≤ 10) {t i j n : Nat} (ht : t < d) (hi : i < 16) (hj : j < 16) (hT : ∀ u, u ≤ t → xp_T c u sx sy so bo) {b : Int} (hb : rl (16 * t + j) = ra_I b) (kb : b.natAbs ≤ 100) (hib : (i : Int) ≤ b)
    (ho : ow (16 * j + i) = xo_c (pv_ow c i j t)) (K : ∀ ow', ow' (16 * j + i) = xo_c (pv_up t (fun b => pv_lt c t b i j) (pv_ow c i j t)) → (∀ q, q ≠ 16 * j + i → ow' q = ow q) → wX_showRow_12 post (nI t) (nI j) li sz ma cu n (nI (i + 1)) dr co rf rl ow' sx sy so bo px py pz pw qx qy qz qw) :
    wX_showRow_12 post (nI t) (nI j) li sz ma cu (n + 1) (nI i) dr co rf rl ow sx sy so bo px py pz pw qx qy qz qw := by
  have iq : vp_in (nI (16 * t + j)) 160 := vp_in_nI (by omega) (by decide)
  have io : vp_in (nI (16 * j + i)) 256 := vp_in_nI (by omega) (by decide)
  have k : ra_I b < nI i ↔ b < i := by rw [ra_n]; exact ra_Ilt (by omega) (by omega)
  have go : ∀ ow', ow' (16 * j + i) = xo_c (pv_up t (fun b => pv_lt c t b i j) (pv_ow c i j t)) → (∀ q, q ≠ 16 * j + i → ow' q = ow q) → ∀ x, x = nI i + 1 → wX_showRow_12 post (nI t) (nI j) li sz ma cu n x dr co rf rl ow' sx sy so bo px py pz pw qx qy qz qw := by
    intro ow' g1 g2
    exact nm_r (nI_1 i) (K ow' g1 g2)
  show vp_in (16 * nI t + nI j) 160 ∧ _
  rw [xf_at, xf_at, nI_clamp (n := 16 * t + j) (by omega), nI_clamp (n := 16 * j + i) (by omega), hb]
  refine ⟨iq, br_f (fun w => absurd (k.mp w) (by omega)) ⟨io, nm_r ho ?_⟩⟩
  cases hw : pv_ow c i j t with
  | none =>
    rw [hw] at go
    exact br_t rfl ⟨io, nm_e (go _ pk_us (fun q hq => pk_un hq))⟩
  | some v =>
    rw [hw] at go
    have hv := pv_ow_lt c i j t v hw
    have nz : ¬ xo_c (some v) = -2 := by
      show ¬ nI v = -2
      rw [ra_n, ra_Im2, ra_Ieq (by omega) (by decide)]; omega
    have iv : vp_in (nI v) 10 := vp_in_nI (by omega) (by decide)
    have it : vp_in (nI t) 10 := vp_in_nI (by omega) (by decide)
    have t1 := pv_tpb hN ht hi hj
    have t2 := pv_tpb hN (show v < d by omega) hi hj
    have b1 := pv_btb hN ht
    have b2 := pv_btb hN (show v < d by omega)
    refine br_f nz ?_
    refine xs_top (by omega) (by omega) (by omega) (hT t (Nat.le_refl _)) ?_
    refine ⟨iv, nm_r (e' := ra_L (pv_tp c t i j * pv_bt c v)) (by
      show ra_L (pv_tp c t i j) * bo (nI v).toNatClampNeg = _
      rw [nI_clamp (by omega), (hT v (by omega)).2, ra_Lmul]) ?_⟩
    refine xs_top (t := v) (by omega) (by omega) (by omega) (hT v (by omega)) ?_
    refine ⟨it, nm_r (e' := ra_L (pv_tp c v i j * pv_bt c t)) (by
      rw [nI_clamp (by omega), (hT t (Nat.le_refl _)).2, ra_Lmul]) ?_⟩
    have kl : ra_L (pv_tp c v i j * pv_bt c t) ≤ ra_L (pv_tp c t i j * pv_bt c v) ↔ pv_tp c v i j * pv_bt c t ≤ pv_tp c t i j * pv_bt c v := ra_Lle (yv_prod t2 b1) (yv_prod t1 b2)
    by_cases z : pv_tp c v i j * pv_bt c t ≤ pv_tp c t i j * pv_bt c v
    · have e : pv_up t (fun b => pv_lt c t b i j) (some v) = some v := if_neg (fun y => absurd (pv_lt_iff.mp y) (by omega))
      rw [e] at go
      exact br_t (kl.mpr z) (go ow (by rw [ho, hw]) (fun _ _ => rfl))
    · have e : pv_up t (fun b => pv_lt c t b i j) (some v) = some t := if_pos (pv_lt_iff.mpr (by omega))
      rw [e] at go
      exact br_f (fun w => z (kl.mp w)) ⟨io, nm_e (go _ pk_us (fun q hq => pk_un hq))⟩
theorem xs_loop {post : SX → Prop} (hN : pv_N c d co) (hd : d ≤ 10) {t j i0 R : Nat} (ht : t < d) (hj : j < 16) (hR : R ≤ 16) (hT : ∀ u, u ≤ t → xp_T c u sx sy so bo) (hb : rl (16 * t + j) = ra_I ((R : Int) - 1)) {ow0 : Nat → Int32}
    (K : ∀ ow', (∀ i, i0 ≤ i → i < R → ow' (16 * j + i) = xo_c (pv_up t (fun b => pv_lt c t b i j) (pv_ow c i j t))) → (∀ q, ¬ (16 * j + i0 ≤ q ∧ q < 16 * j + R) → ow' q = ow0 q) → post (li, sz, ma, cu, dr, co, rf, rl, ow', sx, sy, so, bo, px, py, pz, pw, qx, qy, qz, qw)) :
    ∀ (m i n : Nat) (ow : Nat → Int32), i + m = R → i0 ≤ i → (∀ a, i0 ≤ a → a < i → ow (16 * j + a) = xo_c (pv_up t (fun b => pv_lt c t b a j) (pv_ow c a j t))) → (∀ a, i ≤ a → a < R → ow (16 * j + a) = xo_c (pv_ow c a j t)) →
      (∀ q, ¬ (16 * j + i0 ≤ q ∧ q < 16 * j + R) → ow q = ow0 q) → m < n → wX_showRow_12 post (nI t) (nI j) li sz ma cu n (nI i) dr co rf rl ow sx sy so bo px py pz pw qx qy qz qw := by
  intro m
  induction m with
  | zero =>
    intro i n ow e hi h1 h2 h3 hn
    obtain ⟨n, rfl⟩ : ∃ n', n = n' + 1 := ⟨n - 1, by omega⟩
    have iq : vp_in (nI (16 * t + j)) 160 := vp_in_nI (by omega) (by decide)
    have k : ra_I ((R : Int) - 1) < nI i ↔ (R : Int) - 1 < i := by rw [ra_n]; exact ra_Ilt (by omega) (by omega)
    show vp_in (16 * nI t + nI j) 160 ∧ _
    rw [xf_at, nI_clamp (n := 16 * t + j) (by omega), hb]
    exact ⟨iq, br_t (k.mpr (by omega)) (K ow (fun a ha1 ha2 => h1 a ha1 (by omega)) h3)⟩
  | succ m ih =>
    intro i n ow e hi h1 h2 h3 hn
    obtain ⟨n, rfl⟩ : ∃ n', n = n' + 1 := ⟨n - 1, by omega⟩
    refine xs_step hN hd ht (by omega) hj hT hb (by omega) (by omega) (h2 i (Nat.le_refl _) (by omega)) (fun ow' g1 g2 => ?_)
    refine ih (i + 1) n ow' (by omega) (by omega) ?_ ?_ ?_ (by omega)
    · intro a ha1 ha2
      by_cases z : a = i
      · subst z; exact g1
      · rw [g2 _ (by omega)]; exact h1 a ha1 (by omega)
    · intro a ha1 ha2
      rw [g2 _ (by omega)]; exact h2 a (by omega) ha2
    · intro q hq
      rw [g2 _ (by omega)]; exact h3 q hq
theorem xs_show {post : SX → Prop} (hN : pv_N c d co) (hd : d ≤ 10) {t j : Nat} (ht : t < d) (hj : j < 16) (hT : ∀ u, u ≤ t → xp_T c u sx sy so bo) {a b : Int} (hR : pv_RowOK c t j a b) (ha : rf (16 * t + j) = ra_I a) (hb : rl (16 * t + j) = ra_I b)
    (ho : ∀ i, i < 16 → ow (16 * j + i) = xo_c (pv_ow c i j t))
    (K : ∀ ow', (∀ i, i < 16 → ow' (16 * j + i) = xo_c (pv_ow c i j (t + 1))) → (∀ q, ¬ (16 * j ≤ q ∧ q < 16 * j + 16) → ow' q = ow q) → post (li, sz, ma, cu, dr, co, rf, rl, ow', sx, sy, so, bo, px, py, pz, pw, qx, qy, qz, qw)) : wpX_showRow post (li, sz, ma, cu, dr, co, rf, rl, ow, sx, sy, so, bo, px, py, pz, pw, qx, qy, qz, qw) (nI t) (nI j) := by
  obtain ⟨r1, r2, r3, r4, r5⟩ := hR
  have iq : vp_in (nI (16 * t + j)) 160 := vp_in_nI (by omega) (by decide)
  show vp_in (16 * nI t + nI j) 160 ∧ _
  rw [xf_at, nI_clamp (n := 16 * t + j) (by omega), ha]
  obtain ⟨a, rfl⟩ : ∃ a' : Nat, a = a' := ⟨a.toNat, by omega⟩
  refine ⟨iq, nm_r (ra_n a).symm ?_⟩
  have cn : ∀ i, pv_cov c t i j ≠ true → pv_ow c i j (t + 1) = pv_ow c i j t := fun i h => if_neg h
  have cy : ∀ i, pv_cov c t i j = true → pv_ow c i j (t + 1) = pv_up t (fun b => pv_lt c t b i j) (pv_ow c i j t) := fun i h => if_pos h
  by_cases z : (a : Int) ≤ b
  · obtain ⟨R, hRe⟩ : ∃ R : Nat, b = (R : Int) - 1 := ⟨(b + 1).toNat, by omega⟩
    subst hRe
    refine ⟨18, xs_loop hN hd ht hj (i0 := a) (R := R) (by omega) hT hb (fun ow' g1 g2 => ?_) (R - a) a 18 ow (by omega) (Nat.le_refl _) (fun x hx1 hx2 => absurd hx2 (by omega)) (fun x hx1 hx2 => ho x (by omega)) (fun _ _ => rfl) (by omega)⟩
    refine K ow' ?_ (fun q hq => g2 q (by omega))
    intro i hi
    by_cases y : pv_cov c t i j = true
    · have k := (r5 i hi).mpr y
      rw [cy i y]; exact g1 i (by omega) (by omega)
    · have k : ¬ ((a : Int) ≤ i ∧ (i : Int) ≤ R - 1) := fun h => y ((r5 i hi).mp h)
      rw [cn i y, g2 _ (by omega)]; exact ho i hi
  · have k : rl (16 * t + j) < nI a := by rw [hb, ra_n, ra_Ilt (by omega) (by omega)]; omega
    refine ⟨1, ?_⟩
    show vp_in (16 * nI t + nI j) 160 ∧ _
    rw [xf_at, nI_clamp (n := 16 * t + j) (by omega)]
    refine ⟨iq, br_t k (K ow ?_ (fun _ _ => rfl))⟩
    intro i hi
    have y : pv_cov c t i j ≠ true := fun h => absurd ((r5 i hi).mpr h) (by omega)
    rw [cn i y]; exact ho i hi
end
end
section
def xr_Row (c : Nat → Int) (t : Nat) (rf rl : Nat → Int32) (j : Nat) : Prop := ∃ a b : Int, rf (16 * t + j) = ra_I a ∧ rl (16 * t + j) = ra_I b ∧ pv_RowOK c t j a b
def xr_Fr (c : Nat → Int) (t : Nat) (rf rl ow : Nat → Int32) (sx sy so bo : Nat → Int64) : Prop :=
  (∀ u, u < t → ∀ j, j < 16 → xr_Row c u rf rl j) ∧ (∀ j, j < 16 → ∀ i, i < 16 → ow (16 * j + i) = xo_c (pv_ow c i j t)) ∧ (∀ u, u < t → xp_T c u sx sy so bo)
section
variable {li sz ma cu : Int32} {dr co rf rl ow : Nat → Int32} {sx sy so bo px py pz pw qx qy qz qw : Nat → Int64}
variable {c : Nat → Int} {d : Nat}
theorem xr_93 {post : SX → Prop} {J : Int32 → Int32 → Int32 → Int32 → Int32 → (Nat → Int32) → (Nat → Int32) → (Nat → Int32) → (Nat → Int32) → (Nat → Int32) → (Nat → Int64) → (Nat → Int64) → (Nat → Int64) → (Nat → Int64) → (Nat → Int64) → (Nat → Int64) → (Nat → Int64) → (Nat → Int64) → (Nat → Int64) → (Nat → Int64) → (Nat → Int64) → (Nat → Int64) → Prop}
    (hN : pv_N c d co) (hd : d ≤ 10) {t : Nat} (ht : t < d) (hV : pv_V c t ≠ 0) (hT : ∀ u, u ≤ t → xp_T c u sx sy so bo) {L : List gm_V} (hL : L = gm_poly (pv_A c t) (pv_B c t) (pv_C c t) 6) (hm : L.length ≤ 15) (hp : xh_H L px py pz pw) (hB : ∀ P, P ∈ L → gm_B 192000 P) (hO : ∀ P, P ∈ L → xf_ok P)
    (K : ∀ rf' rl' ow', xr_Fr c (t + 1) rf' rl' ow' sx sy so bo → J (nI (t + 1)) li (nI L.length) ma cu dr co rf' rl' ow' sx sy so bo px py pz pw qx qy qz qw) :
    ∀ (m j n : Nat) (rf rl ow : Nat → Int32), j + m = 16 → (∀ u, u < t → ∀ j, j < 16 → xr_Row c u rf rl j) → (∀ k, k < j → xr_Row c t rf rl k) → (∀ k, j ≤ k → k < 16 → rf (16 * t + k) = ra_I 16 ∧ rl (16 * t + k) = ra_I (-1)) →
      (∀ k, k < j → ∀ i, i < 16 → ow (16 * k + i) = xo_c (pv_ow c i k (t + 1))) → (∀ k, j ≤ k → k < 16 → ∀ i, i < 16 → ow (16 * k + i) = xo_c (pv_ow c i k t)) → m < n → wX_refresh_93 post J (nI t) n (nI j) li (nI L.length) ma cu dr co rf rl ow sx sy so bo px py pz pw qx qy qz qw := by
  intro m
  induction m with
  | zero =>
    intro j n rf rl ow e q5 q1 q2 q3 q4 hn
    obtain ⟨n, rfl⟩ : ∃ n', n = n' + 1 := ⟨n - 1, by omega⟩
    have ej : j = 16 := by omega
    subst ej
    refine pk_le 16 16 (fun _ => ?_) (fun z => absurd z (by omega))
    refine nm_r (nI_1 t) (K rf rl ow ⟨?_, fun j hj i hi => q3 j hj i hi, fun u hu => hT u (by omega)⟩)
    intro u hu j hj
    by_cases z : u = t
    · subst z; exact q1 j hj
    · exact q5 u (by omega) j hj
  | succ m ih =>
    intro j n rf rl ow e q5 q1 q2 q3 q4 hn
    obtain ⟨n, rfl⟩ : ∃ n', n = n' + 1 := ⟨n - 1, by omega⟩
    refine pk_le 16 j (fun z => absurd z (by omega)) (fun _ => ?_)
    have h2 := q2 j (Nat.le_refl _) (by omega)
    refine xf_fill (by omega) (by omega) hm hp hB hO h2.1 h2.2 (fun rf' rl' g1 g2 g3 => ?_)
    have hR := pv_row1 hN ht (j := j) (by omega) hV
    rw [hL] at g1 g2
    refine xs_show hN hd ht (by omega) hT hR g1 g2 (fun i hi => q4 j (Nat.le_refl _) (by omega) i hi) (fun ow' o1 o2 => ?_)
    refine nm_r (nI_1 j) (ih (j + 1) n rf' rl' ow' (by omega) ?_ ?_ ?_ ?_ ?_ (by omega))
    · intro u hu k hk
      obtain ⟨a, b, x1, x2, x3⟩ := q5 u hu k hk
      have y := g3 (16 * u + k) (by omega)
      exact ⟨a, b, y.1.trans x1, y.2.trans x2, x3⟩
    · intro k hk
      by_cases z : k = j
      · subst z; exact ⟨_, _, g1, g2, hR⟩
      · obtain ⟨a, b, x1, x2, x3⟩ := q1 k (by omega)
        have y := g3 (16 * t + k) (by omega)
        exact ⟨a, b, y.1.trans x1, y.2.trans x2, x3⟩
    · intro k hk1 hk2
      have y := g3 (16 * t + k) (by omega)
      have x := q2 k (by omega) hk2
      exact ⟨y.1.trans x.1, y.2.trans x.2⟩
    · intro k hk i hi
      by_cases z : k = j
      · subst z; exact o1 i hi
      · rw [o2 _ (by omega)]; exact q3 k (by omega) i hi
    · intro k hk1 hk2 i hi
      rw [o2 _ (by omega)]; exact q4 k (by omega) hk2 i hi
theorem xr_74 {post : SX → Prop} {J : Int32 → Int32 → Int32 → Int32 → Int32 → (Nat → Int32) → (Nat → Int32) → (Nat → Int32) → (Nat → Int32) → (Nat → Int32) → (Nat → Int64) → (Nat → Int64) → (Nat → Int64) → (Nat → Int64) → (Nat → Int64) → (Nat → Int64) → (Nat → Int64) → (Nat → Int64) → (Nat → Int64) → (Nat → Int64) → (Nat → Int64) → (Nat → Int64) → Prop}
    {A B C : gm_V} {x : Int32} {q : Int} (hq : 0 < q * gm_dt A B C) (bA : gm_B 20 A) (bB : gm_B 20 B) (bC : gm_B 20 C)
    (K : ∀ ma' px' py' pz' pw' qx' qy' qz' qw', xh_H (gm_poly A B C 6) px' py' pz' pw' → ∃ n, wX_refresh_93 post J x n (nI 0) li (nI (gm_poly A B C 6).length) ma' cu dr co rf rl ow sx sy so bo px' py' pz' pw' qx' qy' qz' qw') :
    ∀ (m s n : Nat) (ma : Int32) (px py pz pw qx qy qz qw : Nat → Int64), s + m = 6 → xh_H (gm_poly A B C s) px py pz pw → m < n → wX_refresh_74 post J x n (nI s) li (nI (gm_poly A B C s).length) ma cu dr co rf rl ow sx sy so bo px py pz pw qx qy qz qw := by
  intro m
  induction m with
  | zero =>
    intro s n ma px py pz pw qx qy qz qw e hp hn
    obtain ⟨n, rfl⟩ : ∃ n', n = n' + 1 := ⟨n - 1, by omega⟩
    have es : s = 6 := by omega
    subst es
    exact pk_le 6 6 (fun _ => K ma px py pz pw qx qy qz qw hp) (fun z => absurd z (by omega))
  | succ m ih =>
    intro s n ma px py pz pw qx qy qz qw e hp hn
    obtain ⟨n, rfl⟩ : ∃ n', n = n' + 1 := ⟨n - 1, by omega⟩
    refine pk_le 6 s (fun z => absurd z (by omega)) (fun _ => ?_)
    obtain ⟨i1, i2, _, _⟩ := gm_poly_ok hq bA bB bC s
    obtain ⟨_, j2, _, _⟩ := gm_poly_ok hq bA bB bC (s + 1)
    have j2' : (gm_clip (gm_side s) (gm_poly A B C s)).length ≤ 3 + 2 * (s + 1) := j2
    refine xc_clip (by omega) (by omega) hp (fun P hP => (i1.1 P hP).2.2.2.2.2) (by omega) (fun px' py' pz' pw' qx' qy' qz' qw' H => ?_)
    exact nm_r (nI_1 s) (ih (s + 1) n _ px' py' pz' pw' qx' qy' qz' qw' (by omega) H (by omega))
theorem xr_38 {post : SX → Prop} (hN : pv_N c d co) (hd : d ≤ 10)
    (K : ∀ sz' ma' rf' rl' ow' sx' sy' so' bo' px' py' pz' pw' qx' qy' qz' qw', xr_Fr c d rf' rl' ow' sx' sy' so' bo' → post (nI d, sz', ma', 1, dr, co, rf', rl', ow', sx', sy', so', bo', px', py', pz', pw', qx', qy', qz', qw')) :
    ∀ (m t n : Nat) (sz ma : Int32) (rf rl ow : Nat → Int32) (sx sy so bo px py pz pw qx qy qz qw : Nat → Int64), t + m = d → xr_Fr c t rf rl ow sx sy so bo → m < n → wX_refresh_38 post n (nI t) (nI d) sz ma 1 dr co rf rl ow sx sy so bo px py pz pw qx qy qz qw := by
  intro m
  induction m with
  | zero =>
    intro t n sz ma rf rl ow sx sy so bo px py pz pw qx qy qz qw e hF hn
    obtain ⟨n, rfl⟩ : ∃ n', n = n' + 1 := ⟨n - 1, by omega⟩
    have et : t = d := by omega
    subst et
    exact pk_le t t (fun _ => K _ _ _ _ _ _ _ _ _ _ _ _ _ _ _ _ _ hF) (fun z => absurd z (by omega))
  | succ m ih =>
    intro t n sz ma rf rl ow sx sy so bo px py pz pw qx qy qz qw e hF hn
    obtain ⟨n, rfl⟩ : ∃ n', n = n' + 1 := ⟨n - 1, by omega⟩
    have ht : t < d := by omega
    obtain ⟨f1, f2, f3⟩ := hF
    refine pk_le d t (fun z => absurd z (by omega)) (fun _ => ?_)
    refine xp_findDepth hN hd ht (fun sx' sy' so' bo' g1 g2 => ?_)
    have hT : ∀ u, u ≤ t → xp_T c u sx' sy' so' bo' := by
      intro u hu
      by_cases z : u = t
      · subst z; exact g1
      · obtain ⟨a1, a2⟩ := f3 u (by omega)
        obtain ⟨b1, b2, b3, b4⟩ := g2 u z
        refine ⟨fun i j => ?_, b4.trans a2⟩
        rw [b1, b2, b3]; exact a1 i j
    refine ⟨17, xp_clear (rf0 := rf) (rl0 := rl) (by omega) (fun rf' rl' c1 c2 => ?_) 16 0 17 rf rl (by omega) (fun j hj => absurd hj (by omega)) (fun q _ => ⟨rfl, rfl⟩) (by omega)⟩
    have it : vp_in (nI t) 10 := vp_in_nI (by omega) (by decide)
    have f1' : ∀ u, u < t → ∀ j, j < 16 → xr_Row c u rf' rl' j := by
      intro u hu j hj
      obtain ⟨a, b, x1, x2, x3⟩ := f1 u hu j hj
      have y := c2 (16 * u + j) (by omega)
      exact ⟨a, b, y.1.trans x1, y.2.trans x2, x3⟩
    have bb := pv_btb hN ht
    have kb : bo' t = 0 ↔ pv_V c t = 0 := by
      rw [g1.2, xl_eq0 (by omega), pv_bt0]
    show vp_in (nI t) 10 ∧ _
    rw [nI_clamp (n := t) (by omega)]
    refine ⟨it, ?_⟩
    by_cases hV : pv_V c t = 0
    · refine br_t (kb.mpr hV) (nm_r (nI_1 t) ?_)
      refine ih (t + 1) n _ _ _ _ _ _ _ _ _ _ _ _ _ _ _ _ _ (by omega) ⟨?_, ?_, fun u hu => hT u (by omega)⟩ (by omega)
      · intro u hu j hj
        by_cases z : u = t
        · subst z; exact ⟨16, -1, (c1 j hj).1, (c1 j hj).2, pv_row0 j hV⟩
        · exact f1' u (by omega) j hj
      · intro j hj i hi
        have y : pv_cov c t i j ≠ true := fun h => absurd hV ((pv_cov_iff c t i j).mp h).1
        have e2 : pv_ow c i j (t + 1) = pv_ow c i j t := if_neg y
        rw [e2]; exact f2 j hj i hi
    · refine br_f (fun w => hV (kb.mp w)) ?_
      refine xp_load hN hd ht (fun px1 py1 pz1 pw1 H => ?_)
      have hq := pv_qpos hV
      have bA := pv_bA hN ht
      have bB := pv_bB hN ht
      have bC := pv_bC hN ht
      obtain ⟨i1, i2, _, _⟩ := gm_poly_ok hq bA bB bC 6
      have p6 := gm_p6 hq bA bB bC
      refine ⟨7, xr_74 hq bA bB bC (fun ma' px' py' pz' pw' qx' qy' qz' qw' H6 => ?_) 6 0 7 _ px1 py1 pz1 pw1 _ _ _ _ (by omega) H (by omega)⟩
      refine ⟨17, xr_93 hN hd ht hV hT rfl (by omega) H6 (fun P hP => (i1.1 P hP).2.2.2.2.2) (fun P hP => ⟨(p6 P hP).1, (p6 P hP).2.1, (p6 P hP).2.2.1⟩) (fun rf2 rl2 ow2 hF2 => ?_) 16 0 17 rf' rl' ow (by omega) f1' (fun k hk => absurd hk (by omega)) (fun k _ hk => c1 k hk) (fun k hk => absurd hk (by omega)) (fun k _ hk i hi => f2 k hk i hi) (by omega)⟩
      exact ih (t + 1) n _ _ _ _ _ _ _ _ _ _ _ _ _ _ _ _ _ (by omega) hF2 (by omega)
theorem xr_15 {post : SX → Prop} (K : ∀ ow', (∀ q, q < 256 → ow' q = -2) → ∃ n, wX_refresh_38 post n (nI 0) li sz ma cu dr co rf rl ow' sx sy so bo px py pz pw qx qy qz qw) :
    ∀ (m k n : Nat) (ow : Nat → Int32), k + m = 256 → (∀ q, q < k → ow q = -2) → m < n → wX_refresh_15 post li sz ma cu n (nI k) dr co rf rl ow sx sy so bo px py pz pw qx qy qz qw := by
  intro m
  induction m with
  | zero =>
    intro k n ow e h hn
    obtain ⟨n, rfl⟩ : ∃ n', n = n' + 1 := ⟨n - 1, by omega⟩
    have ek : k = 256 := by omega
    subst ek
    exact pk_le 256 256 (fun _ => K ow h) (fun z => absurd z (by omega))
  | succ m ih =>
    intro k n ow e h hn
    obtain ⟨n, rfl⟩ : ∃ n', n = n' + 1 := ⟨n - 1, by omega⟩
    have ik : vp_in (nI k) 256 := vp_in_nI (by omega) (by decide)
    refine pk_le 256 k (fun z => absurd z (by omega)) (fun _ => ?_)
    rw [nI_clamp (n := k) (by omega)]
    refine ⟨ik, nm_e (nm_r (nI_1 k) (ih (k + 1) n _ (by omega) ?_ (by omega)))⟩
    intro q hq
    by_cases z : q = k
    · subst z; exact pk_us
    · rw [pk_un z]; exact h q (by omega)
theorem xr_refresh {post : SX → Prop} (hN : pv_N c d co) (hd : d ≤ 10) (hc : cu ≠ 0 → xr_Fr c d rf rl ow sx sy so bo)
    (K : ∀ sz' ma' cu' rf' rl' ow' sx' sy' so' bo' px' py' pz' pw' qx' qy' qz' qw', cu' ≠ 0 → xr_Fr c d rf' rl' ow' sx' sy' so' bo' → post (nI d, sz', ma', cu', dr, co, rf', rl', ow', sx', sy', so', bo', px', py', pz', pw', qx', qy', qz', qw')) : wpX_refresh post (nI d, sz, ma, cu, dr, co, rf, rl, ow, sx, sy, so, bo, px, py, pz, pw, qx, qy, qz, qw) := by
  by_cases z : cu = 0
  · refine br_t z ⟨257, xr_15 (fun ow' h => ?_) 256 0 257 ow (by omega) (fun q hq => absurd hq (by omega)) (by omega)⟩
    refine ⟨d + 1, xr_38 hN hd (fun sz' ma' rf' rl' ow' sx' sy' so' bo' px' py' pz' pw' qx' qy' qz' qw' hF => K _ _ _ _ _ _ _ _ _ _ _ _ _ _ _ _ _ _ (by decide) hF) d 0 (d + 1) _ _ _ _ _ _ _ _ _ _ _ _ _ _ _ _ _ (by omega) ⟨fun u hu => absurd hu (by omega), fun j hj i hi => h _ (by omega), fun u hu => absurd hu (by omega)⟩ (by omega)⟩
  · exact br_f z (K _ _ _ _ _ _ _ _ _ _ _ _ _ _ _ _ _ _ z (hc z))
end
end
section
def zr_R (li cu : Int32) (dr co rf rl ow : Nat → Int32) (sx sy so bo : Nat → Int64) (fd : Int32) (dr2 num : Nat → Int32) : Prop :=
  ∃ (d : Nat) (c : Nat → Int), d ≤ 10 ∧ li = nI d ∧ fd = nI d ∧ dr2 = dr ∧ (∀ k, k < 12 → ∃ x : Int, x.natAbs ≤ 20 ∧ dr k = ra_I x) ∧ pv_N c d co ∧ pv_N c d num ∧ (cu ≠ 0 → xr_Fr c d rf rl ow sx sy so bo)
def i_Rel (_ : Nat) (u : SX) (v : SY) : Prop := match u, v with
  | (li, sz, ma, cu, dr, co, rf, rl, ow, sx, sy, so, bo, px, py, pz, pw, qx, qy, qz, qw), (fd, dr2, num) => zr_R li cu dr co rf rl ow sx sy so bo fd dr2 num
theorem i_up {k : Nat} {u : SX} {v : SY} (h : i_Rel k u v) : i_Rel (k + 4) u v := h
theorem zr_el {k : Nat} {P : SX → SY → Prop} (h : ∀ (d : Nat) (c : Nat → Int) (sz ma cu : Int32) (dr co rf rl ow : Nat → Int32) (sx sy so bo px py pz pw qx qy qz qw : Nat → Int64) (num : Nat → Int32), d ≤ 10 → (∀ k, k < 12 → ∃ x : Int, x.natAbs ≤ 20 ∧ dr k = ra_I x) → pv_N c d co → pv_N c d num → (cu ≠ 0 → xr_Fr c d rf rl ow sx sy so bo) →
    P (nI d, sz, ma, cu, dr, co, rf, rl, ow, sx, sy, so, bo, px, py, pz, pw, qx, qy, qz, qw) (nI d, dr, num)) {u : SX} {v : SY} (I : i_Rel k u v) : P u v := by
  obtain ⟨li, sz, ma, cu, dr, co, rf, rl, ow, sx, sy, so, bo, px, py, pz, pw, qx, qy, qz, qw⟩ := u
  obtain ⟨fd, dr2, num⟩ := v
  have I' : zr_R li cu dr co rf rl ow sx sy so bo fd dr2 num := I
  obtain ⟨d, c, hd, e1, e2, e3, h1, h2, h3, h4⟩ := I'
  subst e1 e2 e3
  exact h d c sz ma cu _ co rf rl ow sx sy so bo px py pz pw qx qy qz qw num hd h1 h2 h3 h4
theorem zr_in {d : Nat} {c : Nat → Int} {cu : Int32} {dr co rf rl ow : Nat → Int32} {sx sy so bo : Nat → Int64} {num : Nat → Int32} (hd : d ≤ 10) (h1 : ∀ k, k < 12 → ∃ x : Int, x.natAbs ≤ 20 ∧ dr k = ra_I x) (h2 : pv_N c d co) (h3 : pv_N c d num) (h4 : cu ≠ 0 → xr_Fr c d rf rl ow sx sy so bo) :
    zr_R (nI d) cu dr co rf rl ow sx sy so bo (nI d) dr num :=
  ⟨d, c, hd, rfl, rfl, rfl, h1, h2, h3, h4⟩
theorem i_vc0 : wpX_init (fun u => wpY_init (fun v => i_Rel 0 u v)) :=
  zr_in (d := 0) (c := fun _ => 0) (by decide) (fun k _ => ⟨0, by decide, ra_0⟩) (fun k hk => absurd hk (by omega)) (fun k hk => absurd hk (by omega)) (fun h => absurd rfl h)
theorem zi_cases (p : Int32) : (p < -20 ∨ (¬ p < -20 ∧ 20 < p)) ∨ (¬ p < -20 ∧ ¬ 20 < p ∧ ∃ x : Int, x.natAbs ≤ 20 ∧ p = ra_I x) := by
  by_cases h1 : p < -20
  · exact Or.inl (Or.inl h1)
  · by_cases h2 : 20 < p
    · exact Or.inl (Or.inr ⟨h1, h2⟩)
    · refine Or.inr ⟨h1, h2, p.toInt, ?_, (Int32.ofInt_toInt p).symm⟩
      rw [Int32.lt_iff_toInt_lt] at h1 h2
      have a : (-20 : Int32).toInt = -20 := by decide
      have b : (20 : Int32).toInt = 20 := by decide
      omega
theorem zi_xo {post : Int32 → Prop} {p : Int32} (h : p < -20 ∨ (¬ p < -20 ∧ 20 < p)) (k : post 0) : wpX_inRange post p := by
  rcases h with h | ⟨h1, h2⟩
  · exact br_t h k
  · exact br_f h1 (br_t h2 k)
theorem zi_xi {post : Int32 → Prop} {p : Int32} (h1 : ¬ p < -20) (h2 : ¬ 20 < p) (k : post 1) : wpX_inRange post p := br_f h1 (br_f h2 k)
theorem zi_yo {post : Int32 → Prop} {v : SY} {p : Int32} (h : p < -20 ∨ (¬ p < -20 ∧ 20 < p)) (k : post 1) : wpY_wide post v p := by
  obtain ⟨a, b, c⟩ := v
  rcases h with h | ⟨h1, h2⟩
  · exact br_t h k
  · exact br_f h1 (br_f (Int32.not_le.mpr h2) k)
theorem zi_yi {post : Int32 → Prop} {v : SY} {p : Int32} (h1 : ¬ p < -20) (h2 : ¬ 20 < p) (k : post 0) : wpY_wide post v p := by
  obtain ⟨a, b, c⟩ := v
  exact br_f h1 (br_t (Int32.not_lt.mp h2) k)
theorem zi_bc {post : Int32 → Prop} {v : SY} {p : Int32} (h0 : ¬ p < 0) (h : p ≤ 2) (k : post 0) : wpY_badCorner post v p := by
  obtain ⟨a, b, c⟩ := v
  exact br_f h0 (br_t h k)
theorem zi_bn {post : Int32 → Prop} {v : SY} {p : Int32} (h : p < 0 ∨ (¬ p < 0 ∧ ¬ p ≤ 2)) (k : post 1) : wpY_badCorner post v p := by
  obtain ⟨a, b, c⟩ := v
  rcases h with h | ⟨h1, h2⟩
  · exact br_t h k
  · exact br_f h1 (br_f h2 k)
theorem zi_4 (k f : Nat) : (4 : Int32) * nI k + nI f = nI (4 * k + f) := by
  rw [show (4 : Int32) = nI 4 from rfl, pk_mul, nI_add]
theorem zi_40 (k : Nat) : (4 : Int32) * nI k = nI (4 * k) := by
  rw [show (4 : Int32) = nI 4 from rfl, pk_mul]
theorem zi_dr {dr : Nat → Int32} (h : ∀ k, k < 12 → ∃ x : Int, x.natAbs ≤ 20 ∧ dr k = ra_I x) {q : Nat} {p : Int32} (hp : ∃ x : Int, x.natAbs ≤ 20 ∧ p = ra_I x) : ∀ k, k < 12 → ∃ x : Int, x.natAbs ≤ 20 ∧ upd dr q p k = ra_I x := by
  intro k hk
  by_cases z : k = q
  · subst z
    obtain ⟨x, h1, h2⟩ := hp
    exact ⟨x, h1, pk_us.trans h2⟩
  · obtain ⟨x, h1, h2⟩ := h k hk
    exact ⟨x, h1, (pk_un z).trans h2⟩
theorem zy_place1 {post : Int32 → SY → Prop} {fd : Int32} {dr num : Nat → Int32} {p x y : Int32} (h : p < 0 ∨ (¬ p < 0 ∧ ¬ p ≤ 2)) (k : post (-1) (fd, dr, num)) : wpY_place post (fd, dr, num) p x y := by
  unfold wpY_place
  exact zi_bn h (br_f (by decide) k)
theorem zy_place2 {post : Int32 → SY → Prop} {fd : Int32} {dr num : Nat → Int32} {p x y : Int32} (h0 : ¬ p < 0) (h2 : p ≤ 2) (h : x < -20 ∨ (¬ x < -20 ∧ 20 < x)) (k : post (-2) (fd, dr, num)) : wpY_place post (fd, dr, num) p x y := by
  unfold wpY_place
  exact zi_bc h0 h2 (br_t rfl (zi_yo h (br_f (by decide) k)))
theorem zy_place3 {post : Int32 → SY → Prop} {fd : Int32} {dr num : Nat → Int32} {p x y : Int32} (h0 : ¬ p < 0) (h2 : p ≤ 2) (r1 : ¬ x < -20) (r2 : ¬ 20 < x) (h : y < -20 ∨ (¬ y < -20 ∧ 20 < y)) (k : post (-2) (fd, dr, num)) : wpY_place post (fd, dr, num) p x y := by
  unfold wpY_place
  exact zi_bc h0 h2 (br_t rfl (zi_yi r1 r2 (br_t rfl (zi_yo h (br_f (by decide) k)))))
theorem zy_place4 {post : Int32 → SY → Prop} {fd : Int32} {dr num : Nat → Int32} {x y : Int32} {p : Nat} (h0 : ¬ nI p < 0) (h2 : nI p ≤ 2) (r1 : ¬ x < -20) (r2 : ¬ 20 < x) (s1 : ¬ y < -20) (s2 : ¬ 20 < y) (i0 : vp_in (4 * nI p) 12) (i1 : vp_in (4 * nI p + 1) 12)
    (k : post 0 (fd, upd (upd dr (4 * nI p).toNatClampNeg x) (4 * nI p + 1).toNatClampNeg y, num)) : wpY_place post (fd, dr, num) (nI p) x y := by
  unfold wpY_place
  exact zi_bc h0 h2 (br_t rfl (zi_yi r1 r2 (br_t rfl (zi_yi s1 s2 (br_t rfl ⟨i0, nm_e ⟨i1, nm_e k⟩⟩)))))
theorem i_vc_place {k : Nat} {u : SX} {v : SY} (I : i_Rel k u v) (hk : k + 4 ≤ 2048) (v1 : Int32) (v2 : Int32) (v3 : Int32) : wpX_place (fun r u' => wpY_place (fun r' v' => r' = r ∧ i_Rel (k + 4) u' v') v v1 v2 v3) u v1 v2 v3 := by
  refine zr_el (P := fun u v => wpX_place (fun r u' => wpY_place (fun r' v' => r' = r ∧ i_Rel (k + 4) u' v') v v1 v2 v3) u v1 v2 v3) ?_ I
  intro d c sz ma cu dr co rf rl ow sx sy so bo px py pz pw qx qy qz qw num hd h1 h2 h3 h4
  have J : i_Rel (k + 4) (nI d, sz, ma, cu, dr, co, rf, rl, ow, sx, sy, so, bo, px, py, pz, pw, qx, qy, qz, qw) (nI d, dr, num) := zr_in hd h1 h2 h3 h4
  by_cases a1 : v1 < 0
  · exact br_t a1 (zy_place1 (Or.inl a1) ⟨rfl, J⟩)
  · by_cases a2 : v1 ≤ 2
    · refine br_f a1 (br_t a2 ?_)
      rcases zi_cases v2 with o | ⟨r1, r2, hx⟩
      · exact zi_xo o (br_t rfl (zy_place2 a1 a2 o ⟨rfl, J⟩))
      · refine zi_xi r1 r2 (br_f (by decide) ?_)
        rcases zi_cases v3 with o | ⟨s1, s2, hy⟩
        · exact zi_xo o (br_t rfl (zy_place3 a1 a2 r1 r2 o ⟨rfl, J⟩))
        · refine zi_xi s1 s2 (br_f (by decide) ?_)
          obtain ⟨p, hp, rfl⟩ := nI_of2 (n := 2) (by decide) a1 a2
          have i0 : vp_in (4 * nI p) 12 := by rw [zi_40]; exact vp_in_nI (by omega) (by decide)
          have i1 : vp_in (4 * nI p + 1) 12 := by rw [show (1 : Int32) = nI 1 from rfl, zi_4]; exact vp_in_nI (by omega) (by decide)
          exact ⟨i0, nm_e ⟨i1, nm_e (zy_place4 a1 a2 r1 r2 s1 s2 i0 i1 ⟨rfl, zr_in hd (zi_dr (zi_dr h1 hx) hy) h2 h3 h4⟩)⟩⟩
    · exact br_f a1 (br_f a2 (zy_place1 (Or.inr ⟨a1, a2⟩) ⟨rfl, J⟩))
theorem zy_depth1 {post : Int32 → SY → Prop} {fd : Int32} {dr num : Nat → Int32} {p x y : Int32} (h : p < 0 ∨ (¬ p < 0 ∧ ¬ p ≤ 2)) (k : post (-1) (fd, dr, num)) : wpY_depth post (fd, dr, num) p x y := by
  unfold wpY_depth
  exact zi_bn h (br_f (by decide) k)
theorem zy_depth2 {post : Int32 → SY → Prop} {fd : Int32} {dr num : Nat → Int32} {p x y : Int32} (h0 : ¬ p < 0) (h2 : p ≤ 2) (h : x < -20 ∨ (¬ x < -20 ∧ 20 < x)) (k : post (-2) (fd, dr, num)) : wpY_depth post (fd, dr, num) p x y := by
  unfold wpY_depth
  exact zi_bc h0 h2 (br_t rfl (zi_yo h (br_f (by decide) k)))
theorem zy_depth3 {post : Int32 → SY → Prop} {fd : Int32} {dr num : Nat → Int32} {p x y : Int32} (h0 : ¬ p < 0) (h2 : p ≤ 2) (r1 : ¬ x < -20) (r2 : ¬ 20 < x) (h : y < -20 ∨ (¬ y < -20 ∧ 20 < y)) (k : post (-2) (fd, dr, num)) : wpY_depth post (fd, dr, num) p x y := by
  unfold wpY_depth
  exact zi_bc h0 h2 (br_t rfl (zi_yi r1 r2 (br_t rfl (zi_yo h (br_f (by decide) k)))))
theorem zy_depth4 {post : Int32 → SY → Prop} {fd : Int32} {dr num : Nat → Int32} {x y : Int32} {p : Nat} (h0 : ¬ nI p < 0) (h2 : nI p ≤ 2) (r1 : ¬ x < -20) (r2 : ¬ 20 < x) (s1 : ¬ y < -20) (s2 : ¬ 20 < y) (i0 : vp_in (4 * nI p + 2) 12) (i1 : vp_in (4 * nI p + 3) 12)
    (k : post 0 (fd, upd (upd dr (4 * nI p + 2).toNatClampNeg x) (4 * nI p + 3).toNatClampNeg y, num)) : wpY_depth post (fd, dr, num) (nI p) x y := by
  unfold wpY_depth
  exact zi_bc h0 h2 (br_t rfl (zi_yi r1 r2 (br_t rfl (zi_yi s1 s2 (br_t rfl ⟨i0, nm_e ⟨i1, nm_e k⟩⟩)))))
theorem i_vc_depth {k : Nat} {u : SX} {v : SY} (I : i_Rel k u v) (hk : k + 4 ≤ 2048) (v1 : Int32) (v2 : Int32) (v3 : Int32) : wpX_depth (fun r u' => wpY_depth (fun r' v' => r' = r ∧ i_Rel (k + 4) u' v') v v1 v2 v3) u v1 v2 v3 := by
  refine zr_el (P := fun u v => wpX_depth (fun r u' => wpY_depth (fun r' v' => r' = r ∧ i_Rel (k + 4) u' v') v v1 v2 v3) u v1 v2 v3) ?_ I
  intro d c sz ma cu dr co rf rl ow sx sy so bo px py pz pw qx qy qz qw num hd h1 h2 h3 h4
  have J : i_Rel (k + 4) (nI d, sz, ma, cu, dr, co, rf, rl, ow, sx, sy, so, bo, px, py, pz, pw, qx, qy, qz, qw) (nI d, dr, num) := zr_in hd h1 h2 h3 h4
  by_cases a1 : v1 < 0
  · exact br_t a1 (zy_depth1 (Or.inl a1) ⟨rfl, J⟩)
  · by_cases a2 : v1 ≤ 2
    · refine br_f a1 (br_t a2 ?_)
      rcases zi_cases v2 with o | ⟨r1, r2, hx⟩
      · exact zi_xo o (br_t rfl (zy_depth2 a1 a2 o ⟨rfl, J⟩))
      · refine zi_xi r1 r2 (br_f (by decide) ?_)
        rcases zi_cases v3 with o | ⟨s1, s2, hy⟩
        · exact zi_xo o (br_t rfl (zy_depth3 a1 a2 r1 r2 o ⟨rfl, J⟩))
        · refine zi_xi s1 s2 (br_f (by decide) ?_)
          obtain ⟨p, hp, rfl⟩ := nI_of2 (n := 2) (by decide) a1 a2
          have i0 : vp_in (4 * nI p + 2) 12 := by rw [show (2 : Int32) = nI 2 from rfl, zi_4]; exact vp_in_nI (by omega) (by decide)
          have i1 : vp_in (4 * nI p + 3) 12 := by rw [show (3 : Int32) = nI 3 from rfl, zi_4]; exact vp_in_nI (by omega) (by decide)
          exact ⟨i0, nm_e ⟨i1, nm_e (zy_depth4 a1 a2 r1 r2 s1 s2 i0 i1 ⟨rfl, zr_in hd (zi_dr (zi_dr h1 hx) hy) h2 h3 h4⟩)⟩⟩
    · exact br_f a1 (br_f a2 (zy_depth1 (Or.inr ⟨a1, a2⟩) ⟨rfl, J⟩))
theorem i_vc_volume {k : Nat} {u : SX} {v : SY} (I : i_Rel k u v) (hk : k + 4 ≤ 2048) : wpX_volume (fun r => wpY_volume (fun r' => r' = r ∧ i_Rel (k + 4) u v) v) u := by
  refine zr_el (P := fun u v => wpX_volume (fun r => wpY_volume (fun r' => r' = r ∧ i_Rel (k + 4) u v) v) u) ?_ I
  intro d c sz ma cu dr co rf rl ow sx sy so bo px py pz pw qx qy qz qw num hd h1 h2 h3 h4
  exact nm_e (nm_e (nm_e (nm_e (nm_e (nm_e ⟨rfl, zr_in hd h1 h2 h3 h4⟩)))))
theorem i_vc_drawn {k : Nat} {u : SX} {v : SY} (I : i_Rel k u v) (hk : k + 4 ≤ 2048) : wpX_drawn (fun r => wpY_drawn (fun r' => r' = r ∧ i_Rel (k + 4) u v) v) u := by
  refine zr_el (P := fun u v => wpX_drawn (fun r => wpY_drawn (fun r' => r' = r ∧ i_Rel (k + 4) u v) v) u) ?_ I
  intro d c sz ma cu dr co rf rl ow sx sy so bo px py pz pw qx qy qz qw num hd h1 h2 h3 h4
  exact ⟨rfl, zr_in hd h1 h2 h3 h4⟩
end
section
def zd_v (dr : Nat → Int32) : Int32 := ((dr 0 * (dr 5 * dr 11 - dr 9 * dr 7)) - (dr 1 * (dr 4 * dr 11 - dr 8 * dr 7))) + (dr 3 * (dr 4 * dr 9 - dr 8 * dr 5))
theorem zd_ix (d k : Nat) : (12 : Int32) * nI d + nI k = nI (12 * d + k) := by rw [xp_12, nI_add]
theorem zd_yv {post : Int32 → Prop} {fd : Int32} {dr num : Nat → Int32} (h : post (zd_v dr)) : wpY_volume post (fd, dr, num) := nm_e (nm_e (nm_e h))
theorem zd_yl {post : Int32 → SY → Prop} {fd : Int32} {dr num0 : Nat → Int32} {d : Nat} (hd : d < 10) (K : ∀ num', (∀ q, q < 12 * d → num' q = num0 q) → (∀ i, i < 12 → num' (12 * d + i) = dr i) → post (nI d) (nI (d + 1), dr, num')) :
    ∀ (m k n : Nat) (num : Nat → Int32), k + m = 12 → (∀ q, q < 12 * d → num q = num0 q) → (∀ i, i < k → num (12 * d + i) = dr i) → m < n → wY_draw_57 post (nI d) fd n (nI k) dr num := by
  intro m
  induction m with
  | zero =>
    intro k n num e h1 h2 hn
    obtain ⟨n, rfl⟩ : ∃ n', n = n' + 1 := ⟨n - 1, by omega⟩
    have ek : k = 12 := by omega
    subst ek
    exact pk_le 12 12 (fun _ => nm_r (nI_1 d) (K num h1 h2)) (fun z => absurd z (by omega))
  | succ m ih =>
    intro k n num e h1 h2 hn
    obtain ⟨n, rfl⟩ : ∃ n', n = n' + 1 := ⟨n - 1, by omega⟩
    refine pk_le 12 k (fun z => absurd z (by omega)) (fun _ => ?_)
    rw [zd_ix, nI_clamp (n := k) (by omega), nI_clamp (n := 12 * d + k) (by omega)]
    refine ⟨vp_in_nI (by omega) (by decide), vp_in_nI (by omega) (by decide), nm_e (nm_r (nI_1 k) (ih (k + 1) n _ (by omega) ?_ ?_ (by omega)))⟩
    · intro q hq
      rw [pk_un (by omega)]; exact h1 q hq
    · intro i hi
      by_cases z : i = k
      · subst z; exact pk_us
      · rw [pk_un (by omega)]; exact h2 i (by omega)
theorem zd_cN {c : Nat → Int} {d : Nat} {dr a a' : Nat → Int32} (h1 : ∀ k, k < 12 → ∃ x : Int, x.natAbs ≤ 20 ∧ dr k = ra_I x) (hN : pv_N c d a) (g1 : ∀ q, q < 12 * d → a' q = a q) (g2 : ∀ i, i < 12 → a' (12 * d + i) = dr i) :
    pv_N (fun k => if k < 12 * d then c k else (dr (k - 12 * d)).toInt) (d + 1) a' := by
  intro k hk
  by_cases z : k < 12 * d
  · show (if k < 12 * d then c k else (dr (k - 12 * d)).toInt).natAbs ≤ 20 ∧ a' k = ra_I (if k < 12 * d then c k else (dr (k - 12 * d)).toInt)
    rw [if_pos z, g1 k z]; exact hN k z
  · show (if k < 12 * d then c k else (dr (k - 12 * d)).toInt).natAbs ≤ 20 ∧ a' k = ra_I (if k < 12 * d then c k else (dr (k - 12 * d)).toInt)
    rw [if_neg z]
    have e := g2 (k - 12 * d) (by omega)
    rw [show 12 * d + (k - 12 * d) = k by omega] at e
    obtain ⟨x, x1, x2⟩ := h1 (k - 12 * d) (by omega)
    rw [e, x2, ra_It (by omega)]
    exact ⟨x1, rfl⟩
section
variable {li sz ma cu : Int32} {dr co rf rl ow : Nat → Int32} {sx sy so bo px py pz pw qx qy qz qw : Nat → Int64}
theorem zd_xv {post : Int32 → Prop} (h : post (zd_v dr)) : wpX_volume post (li, sz, ma, cu, dr, co, rf, rl, ow, sx, sy, so, bo, px, py, pz, pw, qx, qy, qz, qw) := nm_e (nm_e (nm_e h))
theorem zd_xl {post : Int32 → SX → Prop} {d : Nat} (hd : d < 10) {co0 : Nat → Int32} (K : ∀ co', (∀ q, q < 12 * d → co' q = co0 q) → (∀ i, i < 12 → co' (12 * d + i) = dr i) → post (nI d) (nI (d + 1), sz, ma, 0, dr, co', rf, rl, ow, sx, sy, so, bo, px, py, pz, pw, qx, qy, qz, qw)) :
    ∀ (m k n : Nat) (co : Nat → Int32), k + m = 12 → (∀ q, q < 12 * d → co q = co0 q) → (∀ i, i < k → co (12 * d + i) = dr i) → m < n → wX_draw_51 post (nI d) sz ma cu n (nI k) dr co rf rl ow sx sy so bo px py pz pw qx qy qz qw := by
  intro m
  induction m with
  | zero =>
    intro k n co e h1 h2 hn
    obtain ⟨n, rfl⟩ : ∃ n', n = n' + 1 := ⟨n - 1, by omega⟩
    have ek : k = 12 := by omega
    subst ek
    refine pk_le 12 12 (fun _ => nm_r (nI_1 d) ?_) (fun z => absurd z (by omega))
    rw [nI_pred]
    exact K co h1 h2
  | succ m ih =>
    intro k n co e h1 h2 hn
    obtain ⟨n, rfl⟩ : ∃ n', n = n' + 1 := ⟨n - 1, by omega⟩
    refine pk_le 12 k (fun z => absurd z (by omega)) (fun _ => ?_)
    rw [zd_ix, nI_clamp (n := k) (by omega), nI_clamp (n := 12 * d + k) (by omega)]
    refine ⟨vp_in_nI (by omega) (by decide), vp_in_nI (by omega) (by decide), nm_e (nm_r (nI_1 k) (ih (k + 1) n _ (by omega) ?_ ?_ (by omega)))⟩
    · intro q hq
      rw [pk_un (by omega)]; exact h1 q hq
    · intro i hi
      by_cases z : i = k
      · subst z; exact pk_us
      · rw [pk_un (by omega)]; exact h2 i (by omega)
theorem zd_x37 {post : Int32 → SX → Prop} {p v : Int32} (h2 : p = 2 → v < 0) (K : ∃ n, wX_draw_51 post li sz ma cu n (nI 0) dr co rf rl ow sx sy so bo px py pz pw qx qy qz qw) : wX_draw_37 post p v li sz ma cu dr co rf rl ow sx sy so bo px py pz pw qx qy qz qw := by
  by_cases e : p = 2
  · exact br_t e (br_t (h2 e) K)
  · exact br_f e K
end
theorem zd_y40 {post : Int32 → SY → Prop} {fd : Int32} {dr num : Nat → Int32} {p x : Int32} (h2 : p = 2 → zd_v dr < 0) (K : ∃ n, wY_draw_57 post x fd n (nI 0) dr num) : wY_draw_40 post p x fd dr num := by
  by_cases e : p = 2
  · exact br_t e (zd_yv (br_t (h2 e) K))
  · exact br_f e K
theorem i_vc_draw {k : Nat} {u : SX} {v : SY} (I : i_Rel k u v) (hk : k + 4 ≤ 2048) (v1 : Int32) : wpX_draw (fun r u' => wpY_draw (fun r' v' => r' = r ∧ i_Rel (k + 4) u' v') v v1) u v1 := by
  refine zr_el (P := fun u v => wpX_draw (fun r u' => wpY_draw (fun r' v' => r' = r ∧ i_Rel (k + 4) u' v') v v1) u v1) ?_ I
  intro d c sz ma cu dr co rf rl ow sx sy so bo px py pz pw qx qy qz qw num hd h1 h2 h3 h4
  have J : i_Rel (k + 4) (nI d, sz, ma, cu, dr, co, rf, rl, ow, sx, sy, so, bo, px, py, pz, pw, qx, qy, qz, qw) (nI d, dr, num) := zr_in hd h1 h2 h3 h4
  by_cases a1 : v1 < 0
  · exact br_t a1 (br_t a1 ⟨rfl, J⟩)
  · by_cases a2 : v1 ≤ 2
    · refine br_f a1 (br_t a2 ?_)
      refine pk_eq d 10 (fun z => ?_) (fun z => ?_)
      · exact br_f a1 (br_t a2 (pk_lt d 10 (fun y => absurd y (by omega)) (fun _ => ⟨rfl, J⟩)))
      · refine zd_xv ?_
        have Y0 : ∀ A B : Prop, A → (nI d < 10 → A) ∧ (¬ nI d < 10 → B) := fun A B a => pk_lt d 10 (fun _ => a) (fun y => absurd y (by omega))
        by_cases b1 : v1 = 1 ∧ zd_v dr ≤ 0
        · refine br_t b1.1 (br_t b1.2 ?_)
          exact br_f a1 (br_t a2 (Y0 _ _ (br_t b1.1 (zd_yv (br_f (Int32.not_lt.mpr b1.2) ⟨rfl, J⟩)))))
        · have go : ∀ {A B : Prop}, A → ((v1 = 1 → ((zd_v dr ≤ 0 → B) ∧ (¬ zd_v dr ≤ 0 → A))) ∧ (¬ v1 = 1 → A)) := by
            intro A B a
            by_cases e : v1 = 1
            · exact br_t e (br_f (fun w => b1 ⟨e, w⟩) a)
            · exact br_f e a
          have goY : ∀ {post : Int32 → SY → Prop}, wY_draw_40 post v1 (nI d) (nI d) dr num → wpY_draw post (nI d, dr, num) v1 := by
            intro post a
            refine br_f a1 (br_t a2 (Y0 _ _ ?_))
            by_cases e : v1 = 1
            · exact br_t e (zd_yv (br_t (Int32.not_le.mp (fun w => b1 ⟨e, w⟩)) a))
            · exact br_f e a
          refine go ?_
          by_cases b2 : v1 = 2 ∧ ¬ zd_v dr < 0
          · refine br_t b2.1 (br_f b2.2 ?_)
            exact goY (br_t b2.1 (zd_yv (br_f b2.2 ⟨rfl, J⟩)))
          · have h2' : v1 = 2 → zd_v dr < 0 := by
              intro e
              by_cases w : zd_v dr < 0
              · exact w
              · exact absurd ⟨e, w⟩ b2
            refine zd_x37 h2' ⟨13, zd_xl (co0 := co) (by omega) (fun co' g1 g2 => ?_) 12 0 13 co (by omega) (fun _ _ => rfl) (fun i hi => absurd hi (by omega)) (by omega)⟩
            refine goY (zd_y40 h2' ⟨13, zd_yl (num0 := num) (by omega) (fun num' g3 g4 => ?_) 12 0 13 num (by omega) (fun _ _ => rfl) (fun i hi => absurd hi (by omega)) (by omega)⟩)
            exact ⟨rfl, zr_in (by omega) h1 (zd_cN h1 h2 g1 g2) (zd_cN h1 h3 g3 g4) (fun h => absurd rfl h)⟩
    · exact br_f a1 (br_f a2 (br_f a1 (br_f a2 ⟨rfl, J⟩)))
theorem zm_cases (p : Int32) {d : Nat} (hd : d ≤ 10) : (p < 0 ∨ (¬ p < 0 ∧ nI d ≤ p)) ∨ ∃ t, t < d ∧ p = nI t ∧ ¬ nI t < 0 ∧ ¬ nI d ≤ nI t ∧ nI t < 10 := by
  by_cases h1 : p < 0
  · exact Or.inl (Or.inl h1)
  · by_cases h2 : nI d ≤ p
    · exact Or.inl (Or.inr ⟨h1, h2⟩)
    · obtain ⟨t, ht, rfl⟩ := nI_of h1
      have k := nI_leI (a := d) (b := t) (by omega) ht
      rw [k] at h2
      refine Or.inr ⟨t, by omega, rfl, h1, ?_, ?_⟩
      · rw [k]; exact h2
      · exact nI_lt (b := 10) (by omega) (by decide)
theorem zm_xn {post : Int32 → Prop} {u : SX} {li p : Int32} (hu : u.1 = li) (h : p < 0 ∨ (¬ p < 0 ∧ li ≤ p)) (k : post 0) : wpX_isDrawn post u p := by
  obtain ⟨li', sz, ma, cu, dr, co, rf, rl, ow, sx, sy, so, bo, px, py, pz, pw, qx, qy, qz, qw⟩ := u
  have e : li' = li := hu
  subst e
  rcases h with h | ⟨h1, h2⟩
  · exact br_t h k
  · exact br_f h1 (br_t h2 k)
theorem zm_xy {post : Int32 → Prop} {u : SX} {li p : Int32} (hu : u.1 = li) (h1 : ¬ p < 0) (h2 : ¬ li ≤ p) (k : post 1) : wpX_isDrawn post u p := by
  obtain ⟨li', sz, ma, cu, dr, co, rf, rl, ow, sx, sy, so, bo, px, py, pz, pw, qx, qy, qz, qw⟩ := u
  have e : li' = li := hu
  subst e
  exact br_f h1 (br_f h2 k)
theorem zm_yn {post : Int32 → Prop} {fd p : Int32} {dr num : Nat → Int32} (h : p < 0 ∨ (¬ p < 0 ∧ fd ≤ p)) (k : post 1) : wpY_missing post (fd, dr, num) p := by
  rcases h with h | ⟨h1, h2⟩
  · exact br_t h k
  · exact br_f h1 (br_t h2 k)
theorem zm_yy {post : Int32 → Prop} {fd p : Int32} {dr num : Nat → Int32} (h1 : ¬ p < 0) (h2 : ¬ fd ≤ p) (h3 : p < 10) (k : post 0) : wpY_missing post (fd, dr, num) p := br_f h1 (br_f h2 (br_t h3 k))
theorem zm_i12 (k : Nat) : nI k + 12 = nI (k + 12) := nI_add k 12
theorem zm_yl {post : Int32 → SY → Prop} {dr num0 : Nat → Int32} {d t : Nat} (hd : d ≤ 10) (ht : t < d) (K : ∀ num', (∀ q, q < 12 * t → num' q = num0 q) → (∀ q, 12 * t ≤ q → q < 108 → num' q = num0 (q + 12)) → post (nI (d - 1)) (nI (d - 1), dr, num')) :
    ∀ (m k n : Nat) (num : Nat → Int32), k + m = 108 → 12 * t ≤ k → (∀ q, (q < 12 * t ∨ k ≤ q) → num q = num0 q) → (∀ q, 12 * t ≤ q → q < k → num q = num0 (q + 12)) → m < n → wY_remove_15 post (nI d) n (nI k) dr num := by
  intro m
  induction m with
  | zero =>
    intro k n num e hk h1 h2 hn
    obtain ⟨n, rfl⟩ : ∃ n', n = n' + 1 := ⟨n - 1, by omega⟩
    have ek : k = 108 := by omega
    subst ek
    refine pk_le 108 108 (fun _ => nm_r (e' := nI (d - 1)) ?_ (K num (fun q hq => h1 q (Or.inl hq)) (fun q hq1 hq2 => h2 q hq1 hq2))) (fun z => absurd z (by omega))
    exact pk_sub (b := 1) (by omega)
  | succ m ih =>
    intro k n num e hk h1 h2 hn
    obtain ⟨n, rfl⟩ : ∃ n', n = n' + 1 := ⟨n - 1, by omega⟩
    refine pk_le 108 k (fun z => absurd z (by omega)) (fun _ => ?_)
    rw [zm_i12, nI_clamp (n := k) (by omega), nI_clamp (n := k + 12) (by omega)]
    refine ⟨vp_in_nI (by omega) (by decide), vp_in_nI (by omega) (by decide), nm_e (nm_r (nI_1 k) (ih (k + 1) n _ (by omega) (by omega) ?_ ?_ (by omega)))⟩
    · intro q hq
      rw [pk_un (by omega)]; exact h1 q (by omega)
    · intro q hq1 hq2
      by_cases z : q = k
      · subst z; rw [pk_us]; exact h1 _ (by omega)
      · rw [pk_un z]; exact h2 q hq1 (by omega)
section
variable {li sz ma cu : Int32} {dr co rf rl ow : Nat → Int32} {sx sy so bo px py pz pw qx qy qz qw : Nat → Int64}
theorem zm_xl {post : Int32 → SX → Prop} {co0 : Nat → Int32} {d t : Nat} (hd : d ≤ 10) (ht : t < d) (K : ∀ co', (∀ q, q < 12 * t → co' q = co0 q) → (∀ q, 12 * t ≤ q → q < 12 * d - 12 → co' q = co0 (q + 12)) → post (nI (d - 1)) (nI (d - 1), sz, ma, 0, dr, co', rf, rl, ow, sx, sy, so, bo, px, py, pz, pw, qx, qy, qz, qw)) :
    ∀ (m k n : Nat) (co : Nat → Int32), k + m = 12 * d - 12 → 12 * t ≤ k → (∀ q, (q < 12 * t ∨ k ≤ q) → co q = co0 q) → (∀ q, 12 * t ≤ q → q < k → co q = co0 (q + 12)) → m < n → wX_remove_15 post (nI d) sz ma cu n (nI k) dr co rf rl ow sx sy so bo px py pz pw qx qy qz qw := by
  have e12 : (12 : Int32) * nI d - 12 = nI (12 * d - 12) := by rw [xp_12]; exact pk_sub (b := 12) (by omega)
  intro m
  induction m with
  | zero =>
    intro k n co e hk h1 h2 hn
    obtain ⟨n, rfl⟩ : ∃ n', n = n' + 1 := ⟨n - 1, by omega⟩
    have ek : k = 12 * d - 12 := by omega
    subst ek
    refine pk_le (12 * d - 12) (12 * d - 12) (fun _ => nm_r (e' := nI (d - 1)) ?_ (K co (fun q hq => h1 q (Or.inl hq)) (fun q hq1 hq2 => h2 q hq1 hq2))) (fun z => absurd z (by omega)) e12
    exact pk_sub (b := 1) (by omega)
  | succ m ih =>
    intro k n co e hk h1 h2 hn
    obtain ⟨n, rfl⟩ : ∃ n', n = n' + 1 := ⟨n - 1, by omega⟩
    refine pk_le (12 * d - 12) k (fun z => absurd z (by omega)) (fun _ => ?_) e12
    rw [zm_i12, nI_clamp (n := k) (by omega), nI_clamp (n := k + 12) (by omega)]
    refine ⟨vp_in_nI (by omega) (by decide), vp_in_nI (by omega) (by decide), nm_e (nm_r (nI_1 k) (ih (k + 1) n _ (by omega) (by omega) ?_ ?_ (by omega)))⟩
    · intro q hq
      rw [pk_un (by omega)]; exact h1 q (by omega)
    · intro q hq1 hq2
      by_cases z : q = k
      · subst z; rw [pk_us]; exact h1 _ (by omega)
      · rw [pk_un z]; exact h2 q hq1 (by omega)
theorem zm_xr {post : Int32 → SX → Prop} {d t : Nat} (hd : d ≤ 10) (ht : t < d) (h0 : ¬ nI t < 0) (h1 : ¬ nI d ≤ nI t) (K : ∀ co', (∀ q, q < 12 * t → co' q = co q) → (∀ q, 12 * t ≤ q → q < 12 * d - 12 → co' q = co (q + 12)) → post (nI (d - 1)) (nI (d - 1), sz, ma, 0, dr, co', rf, rl, ow, sx, sy, so, bo, px, py, pz, pw, qx, qy, qz, qw)) : wpX_remove post (nI d, sz, ma, cu, dr, co, rf, rl, ow, sx, sy, so, bo, px, py, pz, pw, qx, qy, qz, qw) (nI t) := by
  unfold wpX_remove
  refine zm_xy rfl h0 h1 (br_f (by decide) (nm_r (xp_12 t) ⟨121, ?_⟩))
  exact zm_xl hd ht K (12 * d - 12 - 12 * t) (12 * t) 121 co (by omega) (by omega) (fun _ _ => rfl) (fun q hq1 hq2 => absurd hq2 (by omega)) (by omega)
theorem zm_xrn {post : Int32 → SX → Prop} {p : Int32} (h : p < 0 ∨ (¬ p < 0 ∧ li ≤ p)) (K : post (-1) (li, sz, ma, cu, dr, co, rf, rl, ow, sx, sy, so, bo, px, py, pz, pw, qx, qy, qz, qw)) : wpX_remove post (li, sz, ma, cu, dr, co, rf, rl, ow, sx, sy, so, bo, px, py, pz, pw, qx, qy, qz, qw) p := by
  unfold wpX_remove
  exact zm_xn rfl h (br_t rfl K)
end
theorem zm_yr {post : Int32 → SY → Prop} {dr num : Nat → Int32} {d t : Nat} (hd : d ≤ 10) (ht : t < d) (h0 : ¬ nI t < 0) (h1 : ¬ nI d ≤ nI t) (h2 : nI t < 10) (K : ∀ num', (∀ q, q < 12 * t → num' q = num q) → (∀ q, 12 * t ≤ q → q < 108 → num' q = num (q + 12)) → post (nI (d - 1)) (nI (d - 1), dr, num')) : wpY_remove post (nI d, dr, num) (nI t) := by
  unfold wpY_remove
  refine zm_yy h0 h1 h2 (br_t rfl (nm_r (xp_12 t) ⟨121, ?_⟩))
  exact zm_yl hd ht K (108 - 12 * t) (12 * t) 121 num (by omega) (by omega) (fun _ _ => rfl) (fun q hq1 hq2 => absurd hq2 (by omega)) (by omega)
theorem zm_yrn {post : Int32 → SY → Prop} {fd p : Int32} {dr num : Nat → Int32} (h : p < 0 ∨ (¬ p < 0 ∧ fd ≤ p)) (K : post (-1) (fd, dr, num)) : wpY_remove post (fd, dr, num) p := by
  unfold wpY_remove
  exact zm_yn h (br_f (by decide) K)
theorem zm_cN {c : Nat → Int} {d t : Nat} {a a' : Nat → Int32} (ht : t < d) (hN : pv_N c d a) (g1 : ∀ q, q < 12 * t → a' q = a q) (g2 : ∀ q, 12 * t ≤ q → q < 12 * d - 12 → a' q = a (q + 12)) :
    pv_N (fun k => if k < 12 * t then c k else c (k + 12)) (d - 1) a' := by
  intro k hk
  show (if k < 12 * t then c k else c (k + 12)).natAbs ≤ 20 ∧ a' k = ra_I (if k < 12 * t then c k else c (k + 12))
  by_cases z : k < 12 * t
  · rw [if_pos z, g1 k z]; exact hN k (by omega)
  · rw [if_neg z, g2 k (by omega) (by omega)]; exact hN (k + 12) (by omega)
theorem i_vc_remove {k : Nat} {u : SX} {v : SY} (I : i_Rel k u v) (hk : k + 4 ≤ 2048) (v1 : Int32) : wpX_remove (fun r u' => wpY_remove (fun r' v' => r' = r ∧ i_Rel (k + 4) u' v') v v1) u v1 := by
  refine zr_el (P := fun u v => wpX_remove (fun r u' => wpY_remove (fun r' v' => r' = r ∧ i_Rel (k + 4) u' v') v v1) u v1) ?_ I
  intro d c sz ma cu dr co rf rl ow sx sy so bo px py pz pw qx qy qz qw num hd h1 h2 h3 h4
  have J : i_Rel (k + 4) (nI d, sz, ma, cu, dr, co, rf, rl, ow, sx, sy, so, bo, px, py, pz, pw, qx, qy, qz, qw) (nI d, dr, num) := zr_in hd h1 h2 h3 h4
  rcases zm_cases v1 hd with h | ⟨t, ht, rfl, t1, t2, t3⟩
  · exact zm_xrn h (zm_yrn h ⟨rfl, J⟩)
  · refine zm_xr hd ht t1 t2 (fun co' g1 g2 => ?_)
    refine zm_yr hd ht t1 t2 t3 (fun num' g3 g4 => ?_)
    exact ⟨rfl, zr_in (by omega) h1 (zm_cN ht h2 g1 g2) (zm_cN ht h3 g3 (fun q hq1 hq2 => g4 q hq1 (by omega))) (fun h => absurd rfl h)⟩
end
section
theorem zc_cases (p : Int32) : (p < 0 ∨ (¬ p < 0 ∧ 15 < p)) ∨ ∃ i, i < 16 ∧ p = nI i ∧ ¬ nI i < 0 ∧ ¬ 15 < nI i := by
  by_cases h1 : p < 0
  · exact Or.inl (Or.inl h1)
  · by_cases h2 : 15 < p
    · exact Or.inl (Or.inr ⟨h1, h2⟩)
    · obtain ⟨i, hi, rfl⟩ := nI_of2 (n := 15) (by decide) h1 (Int32.not_lt.mp h2)
      exact Or.inr ⟨i, by omega, rfl, h1, h2⟩
theorem zc_xn {post : Int32 → Prop} {p : Int32} (h : p < 0 ∨ (¬ p < 0 ∧ 15 < p)) (k : post 0) : wpX_isCell post p := by
  rcases h with h | ⟨h1, h2⟩
  · exact br_t h k
  · exact br_f h1 (br_t h2 k)
theorem zc_xy {post : Int32 → Prop} {p : Int32} (h1 : ¬ p < 0) (h2 : ¬ 15 < p) (k : post 1) : wpX_isCell post p := br_f h1 (br_f h2 k)
theorem zc_yn {post : Int32 → Prop} {fd p : Int32} {dr num : Nat → Int32} (h : p < 0 ∨ (¬ p < 0 ∧ 15 < p)) (k : post 1) : wpY_badPlace post (fd, dr, num) p := by
  rcases h with h | ⟨h1, h2⟩
  · exact br_t h k
  · exact br_f h1 (br_f (Int32.not_le.mpr h2) k)
theorem zc_yy {post : Int32 → Prop} {fd p : Int32} {dr num : Nat → Int32} (h1 : ¬ p < 0) (h2 : ¬ 15 < p) (k : post 0) : wpY_badPlace post (fd, dr, num) p := br_f h1 (br_t (Int32.not_lt.mp h2) k)
section
variable {li sz ma cu : Int32} {dr co rf rl ow : Nat → Int32} {sx sy so bo px py pz pw qx qy qz qw : Nat → Int64}
variable {c : Nat → Int} {d : Nat}
theorem zo_x1 {post : Int32 → SX → Prop} {p q : Int32} (h : p < 0 ∨ (¬ p < 0 ∧ 15 < p)) (K : post (-1) (li, sz, ma, cu, dr, co, rf, rl, ow, sx, sy, so, bo, px, py, pz, pw, qx, qy, qz, qw)) : wpX_owner post (li, sz, ma, cu, dr, co, rf, rl, ow, sx, sy, so, bo, px, py, pz, pw, qx, qy, qz, qw) p q := by
  unfold wpX_owner
  exact zc_xn h (br_t rfl K)
theorem zo_x2 {post : Int32 → SX → Prop} {p q : Int32} (h1 : ¬ p < 0) (h2 : ¬ 15 < p) (h : q < 0 ∨ (¬ q < 0 ∧ 15 < q)) (K : post (-1) (li, sz, ma, cu, dr, co, rf, rl, ow, sx, sy, so, bo, px, py, pz, pw, qx, qy, qz, qw)) : wpX_owner post (li, sz, ma, cu, dr, co, rf, rl, ow, sx, sy, so, bo, px, py, pz, pw, qx, qy, qz, qw) p q := by
  unfold wpX_owner
  exact zc_xy h1 h2 (br_f (by decide) (zc_xn h (br_t rfl K)))
theorem zo_x3 {post : Int32 → SX → Prop} {i j : Nat} (hi : i < 16) (hj : j < 16) (i1 : ¬ nI i < 0) (i2 : ¬ 15 < nI i) (j1 : ¬ nI j < 0) (j2 : ¬ 15 < nI j) (hN : pv_N c d co) (hd : d ≤ 10) (hc : cu ≠ 0 → xr_Fr c d rf rl ow sx sy so bo)
    (K : ∀ sz' ma' cu' rf' rl' ow' sx' sy' so' bo' px' py' pz' pw' qx' qy' qz' qw', (cu' ≠ 0 → xr_Fr c d rf' rl' ow' sx' sy' so' bo') → post (xo_c (pv_ow c i j d)) (nI d, sz', ma', cu', dr, co, rf', rl', ow', sx', sy', so', bo', px', py', pz', pw', qx', qy', qz', qw')) : wpX_owner post (nI d, sz, ma, cu, dr, co, rf, rl, ow, sx, sy, so, bo, px, py, pz, pw, qx, qy, qz, qw) (nI i) (nI j) := by
  unfold wpX_owner
  refine zc_xy i1 i2 (br_f (by decide) (zc_xy j1 j2 (br_f (by decide) ?_)))
  refine xr_refresh hN hd hc (fun sz' ma' cu' rf' rl' ow' sx' sy' so' bo' px' py' pz' pw' qx' qy' qz' qw' hcu hF => ?_)
  show vp_in (16 * nI j + nI i) 256 ∧ post (ow' (16 * nI j + nI i).toNatClampNeg) _
  rw [xf_at, nI_clamp (n := 16 * j + i) (by omega), hF.2.1 j hj i hi]
  exact ⟨vp_in_nI (by omega) (by decide), K _ _ _ _ _ _ _ _ _ _ _ _ _ _ _ _ _ _ (fun _ => hF)⟩
theorem zw_within {post : Int32 → Prop} {t i j : Nat} (ht : t < 10) (hi : i < 16) (hj : j < 16) (hR : xr_Row c t rf rl j) (h : post (if pv_cov c t i j = true then 1 else 0)) : wpX_within post (li, sz, ma, cu, dr, co, rf, rl, ow, sx, sy, so, bo, px, py, pz, pw, qx, qy, qz, qw) (nI t) (nI i) (nI j) := by
  obtain ⟨a, b, ha, hb, r1, r2, r3, r4, r5⟩ := hR
  have iq : vp_in (nI (16 * t + j)) 160 := vp_in_nI (by omega) (by decide)
  have k1 : nI i < ra_I a ↔ (i : Int) < a := by rw [ra_n]; exact ra_Ilt (by omega) (by omega)
  have k2 : ra_I b < nI i ↔ b < (i : Int) := by rw [ra_n]; exact ra_Ilt (by omega) (by omega)
  have r := r5 i hi
  show vp_in (16 * nI t + nI j) 160 ∧ _
  rw [xf_at, nI_clamp (n := 16 * t + j) (by omega), ha, hb, k1, k2]
  refine ⟨iq, fun z => ?_, fun z => ⟨iq, fun y => ?_, fun y => ?_⟩⟩
  · rw [if_neg (fun w => absurd (r.mpr w) (by omega))] at h; exact h
  · rw [if_neg (fun w => absurd (r.mpr w) (by omega))] at h; exact h
  · rw [if_pos (r.mp (by omega))] at h; exact h
theorem zv_x1 {post : Int32 → SX → Prop} {p q r : Int32} (h : p < 0 ∨ (¬ p < 0 ∧ li ≤ p)) (K : post (-1) (li, sz, ma, cu, dr, co, rf, rl, ow, sx, sy, so, bo, px, py, pz, pw, qx, qy, qz, qw)) : wpX_covers post (li, sz, ma, cu, dr, co, rf, rl, ow, sx, sy, so, bo, px, py, pz, pw, qx, qy, qz, qw) p q r := by
  unfold wpX_covers
  exact zm_xn rfl h (br_t rfl K)
theorem zv_x2 {post : Int32 → SX → Prop} {p q r : Int32} (h1 : ¬ p < 0) (h2 : ¬ li ≤ p) (h : q < 0 ∨ (¬ q < 0 ∧ 15 < q)) (K : post (-2) (li, sz, ma, cu, dr, co, rf, rl, ow, sx, sy, so, bo, px, py, pz, pw, qx, qy, qz, qw)) : wpX_covers post (li, sz, ma, cu, dr, co, rf, rl, ow, sx, sy, so, bo, px, py, pz, pw, qx, qy, qz, qw) p q r := by
  unfold wpX_covers
  exact zm_xy rfl h1 h2 (br_f (by decide) (zc_xn h (br_t rfl K)))
theorem zv_x3 {post : Int32 → SX → Prop} {p q r : Int32} (h1 : ¬ p < 0) (h2 : ¬ li ≤ p) (h3 : ¬ q < 0) (h4 : ¬ 15 < q) (h : r < 0 ∨ (¬ r < 0 ∧ 15 < r)) (K : post (-2) (li, sz, ma, cu, dr, co, rf, rl, ow, sx, sy, so, bo, px, py, pz, pw, qx, qy, qz, qw)) : wpX_covers post (li, sz, ma, cu, dr, co, rf, rl, ow, sx, sy, so, bo, px, py, pz, pw, qx, qy, qz, qw) p q r := by
  unfold wpX_covers
  exact zm_xy rfl h1 h2 (br_f (by decide) (zc_xy h3 h4 (br_f (by decide) (zc_xn h (br_t rfl K)))))
theorem zv_x4 {post : Int32 → SX → Prop} {t i j : Nat} (ht : t < d) (t1 : ¬ nI t < 0) (t2 : ¬ nI d ≤ nI t) (hi : i < 16) (hj : j < 16) (i1 : ¬ nI i < 0) (i2 : ¬ 15 < nI i) (j1 : ¬ nI j < 0) (j2 : ¬ 15 < nI j) (hN : pv_N c d co) (hd : d ≤ 10) (hc : cu ≠ 0 → xr_Fr c d rf rl ow sx sy so bo)
    (K : ∀ sz' ma' cu' rf' rl' ow' sx' sy' so' bo' px' py' pz' pw' qx' qy' qz' qw', (cu' ≠ 0 → xr_Fr c d rf' rl' ow' sx' sy' so' bo') → post (if pv_cov c t i j = true then 1 else 0) (nI d, sz', ma', cu', dr, co, rf', rl', ow', sx', sy', so', bo', px', py', pz', pw', qx', qy', qz', qw')) : wpX_covers post (nI d, sz, ma, cu, dr, co, rf, rl, ow, sx, sy, so, bo, px, py, pz, pw, qx, qy, qz, qw) (nI t) (nI i) (nI j) := by
  unfold wpX_covers
  refine zm_xy rfl t1 t2 (br_f (by decide) (zc_xy i1 i2 (br_f (by decide) (zc_xy j1 j2 (br_f (by decide) ?_)))))
  refine xr_refresh hN hd hc (fun sz' ma' cu' rf' rl' ow' sx' sy' so' bo' px' py' pz' pw' qx' qy' qz' qw' hcu hF => ?_)
  refine zw_within (by omega) hi hj (hF.1 t ht j hj) ?_
  have K' := K sz' ma' cu' rf' rl' ow' sx' sy' so' bo' px' py' pz' pw' qx' qy' qz' qw' (fun _ => hF)
  by_cases z : pv_cov c t i j = true
  · rw [if_pos z] at K' ⊢; exact br_f (by decide) K'
  · rw [if_neg z] at K' ⊢; exact br_t rfl K'
end
theorem zo_y1 {post : Int32 → Prop} {fd p q : Int32} {dr num : Nat → Int32} (h : p < 0 ∨ (¬ p < 0 ∧ 15 < p)) (K : post (-1)) : wpY_owner post (fd, dr, num) p q := by
  unfold wpY_owner
  exact zc_yn h (br_f (by decide) K)
theorem zo_y2 {post : Int32 → Prop} {fd p q : Int32} {dr num : Nat → Int32} (h1 : ¬ p < 0) (h2 : ¬ 15 < p) (h : q < 0 ∨ (¬ q < 0 ∧ 15 < q)) (K : post (-1)) : wpY_owner post (fd, dr, num) p q := by
  unfold wpY_owner
  exact zc_yy h1 h2 (br_t rfl (zc_yn h (br_f (by decide) K)))
theorem zo_y3 {post : Int32 → Prop} {c : Nat → Int} {d : Nat} {dr num : Nat → Int32} {i j : Nat} (hi : i < 16) (hj : j < 16) (i1 : ¬ nI i < 0) (i2 : ¬ 15 < nI i) (j1 : ¬ nI j < 0) (j2 : ¬ 15 < nI j) (hN : pv_N c d num) (hd : d ≤ 10) (K : post (xo_c (pv_ow c i j d))) : wpY_owner post (nI d, dr, num) (nI i) (nI j) := by
  unfold wpY_owner
  refine zc_yy i1 i2 (br_t rfl (zc_yy j1 j2 (br_t rfl ?_)))
  refine yv_ownerOf hN hd hi hj ?_
  cases ho : pv_ow c i j d with
  | none =>
    rw [ho] at K
    exact br_f (by decide) K
  | some b =>
    rw [ho] at K
    have hb := pv_ow_lt c i j d b ho
    exact pk_le 0 b (fun _ => K) (fun z => absurd z (by omega))
theorem i_vc_owner {k : Nat} {u : SX} {v : SY} (I : i_Rel k u v) (hk : k + 4 ≤ 2048) (v1 : Int32) (v2 : Int32) : wpX_owner (fun r u' => wpY_owner (fun r' => r' = r ∧ i_Rel (k + 4) u' v) v v1 v2) u v1 v2 := by
  refine zr_el (P := fun u v => wpX_owner (fun r u' => wpY_owner (fun r' => r' = r ∧ i_Rel (k + 4) u' v) v v1 v2) u v1 v2) ?_ I
  intro d c sz ma cu dr co rf rl ow sx sy so bo px py pz pw qx qy qz qw num hd h1 h2 h3 h4
  have J : i_Rel (k + 4) (nI d, sz, ma, cu, dr, co, rf, rl, ow, sx, sy, so, bo, px, py, pz, pw, qx, qy, qz, qw) (nI d, dr, num) := zr_in hd h1 h2 h3 h4
  rcases zc_cases v1 with h | ⟨i, hi, rfl, i1, i2⟩
  · exact zo_x1 h (zo_y1 h ⟨rfl, J⟩)
  · rcases zc_cases v2 with h | ⟨j, hj, rfl, j1, j2⟩
    · exact zo_x2 i1 i2 h (zo_y2 i1 i2 h ⟨rfl, J⟩)
    · refine zo_x3 hi hj i1 i2 j1 j2 h2 hd h4 (fun sz' ma' cu' rf' rl' ow' sx' sy' so' bo' px' py' pz' pw' qx' qy' qz' qw' hF => ?_)
      exact zo_y3 hi hj i1 i2 j1 j2 h3 hd ⟨rfl, zr_in hd h1 h2 h3 hF⟩
theorem zv_y1 {post : Int32 → Prop} {fd p q r : Int32} {dr num : Nat → Int32} (h : p < 0 ∨ (¬ p < 0 ∧ fd ≤ p)) (K : post (-1)) : wpY_covers post (fd, dr, num) p q r := by
  unfold wpY_covers
  exact zm_yn h (br_f (by decide) K)
theorem zv_y2 {post : Int32 → Prop} {fd p q r : Int32} {dr num : Nat → Int32} (h1 : ¬ p < 0) (h2 : ¬ fd ≤ p) (h3 : p < 10) (h : q < 0 ∨ (¬ q < 0 ∧ 15 < q)) (K : post (-2)) : wpY_covers post (fd, dr, num) p q r := by
  unfold wpY_covers
  exact zm_yy h1 h2 h3 (br_t rfl (zc_yn h (br_f (by decide) K)))
theorem zv_y3 {post : Int32 → Prop} {fd p q r : Int32} {dr num : Nat → Int32} (h1 : ¬ p < 0) (h2 : ¬ fd ≤ p) (h3 : p < 10) (h4 : ¬ q < 0) (h5 : ¬ 15 < q) (h : r < 0 ∨ (¬ r < 0 ∧ 15 < r)) (K : post (-2)) : wpY_covers post (fd, dr, num) p q r := by
  unfold wpY_covers
  exact zm_yy h1 h2 h3 (br_t rfl (zc_yy h4 h5 (br_t rfl (zc_yn h (br_f (by decide) K)))))
theorem zv_y4 {post : Int32 → Prop} {c : Nat → Int} {d : Nat} {dr num : Nat → Int32} {t i j : Nat} (ht : t < d) (t1 : ¬ nI t < 0) (t2 : ¬ nI d ≤ nI t) (t3 : nI t < 10) (hi : i < 16) (hj : j < 16) (i1 : ¬ nI i < 0) (i2 : ¬ 15 < nI i) (j1 : ¬ nI j < 0) (j2 : ¬ 15 < nI j) (hN : pv_N c d num) (hd : d ≤ 10)
    (K : post (if pv_cov c t i j = true then 1 else 0)) : wpY_covers post (nI d, dr, num) (nI t) (nI i) (nI j) := by
  unfold wpY_covers
  refine zm_yy t1 t2 t3 (br_t rfl (zc_yy i1 i2 (br_t rfl (zc_yy j1 j2 (br_t rfl ?_)))))
  refine yv_covering hN hd ht hi hj ?_
  by_cases z : pv_cov c t i j = true
  · rw [if_pos z] at K ⊢; exact br_f (by decide) K
  · rw [if_neg z] at K ⊢; exact br_t rfl K
theorem i_vc_covers {k : Nat} {u : SX} {v : SY} (I : i_Rel k u v) (hk : k + 4 ≤ 2048) (v1 : Int32) (v2 : Int32) (v3 : Int32) : wpX_covers (fun r u' => wpY_covers (fun r' => r' = r ∧ i_Rel (k + 4) u' v) v v1 v2 v3) u v1 v2 v3 := by
  refine zr_el (P := fun u v => wpX_covers (fun r u' => wpY_covers (fun r' => r' = r ∧ i_Rel (k + 4) u' v) v v1 v2 v3) u v1 v2 v3) ?_ I
  intro d c sz ma cu dr co rf rl ow sx sy so bo px py pz pw qx qy qz qw num hd h1 h2 h3 h4
  have J : i_Rel (k + 4) (nI d, sz, ma, cu, dr, co, rf, rl, ow, sx, sy, so, bo, px, py, pz, pw, qx, qy, qz, qw) (nI d, dr, num) := zr_in hd h1 h2 h3 h4
  rcases zm_cases v1 hd with h | ⟨t, ht, rfl, t1, t2, t3⟩
  · exact zv_x1 h (zv_y1 h ⟨rfl, J⟩)
  · rcases zc_cases v2 with h | ⟨i, hi, rfl, i1, i2⟩
    · exact zv_x2 t1 t2 h (zv_y2 t1 t2 t3 h ⟨rfl, J⟩)
    · rcases zc_cases v3 with h | ⟨j, hj, rfl, j1, j2⟩
      · exact zv_x3 t1 t2 i1 i2 h (zv_y3 t1 t2 t3 i1 i2 h ⟨rfl, J⟩)
      · refine zv_x4 ht t1 t2 hi hj i1 i2 j1 j2 h2 hd h4 (fun sz' ma' cu' rf' rl' ow' sx' sy' so' bo' px' py' pz' pw' qx' qy' qz' qw' hF => ?_)
        exact zv_y4 ht t1 t2 t3 hi hj i1 i2 j1 j2 h3 hd ⟨rfl, zr_in hd h1 h2 h3 hF⟩
end
section
def zn_v (L R : Int) : Int32 := if L = R then 0 else if R ≤ L then 2 else 1
def zn_r (c : Nat → Int) (a b i j : Nat) : Int32 := if pv_cov c a i j = true then (if pv_cov c b i j = true then zn_v (pv_tp c a i j * pv_bt c b) (pv_tp c b i j * pv_bt c a) else -3) else -3
theorem zn_cases (p : Int32) : (p < 0 ∨ (¬ p < 0 ∧ ¬ p ≤ 255)) ∨ ∃ q, q < 256 ∧ p = nI q ∧ ¬ nI q < 0 ∧ nI q ≤ 255 := by
  by_cases h1 : p < 0
  · exact Or.inl (Or.inl h1)
  · by_cases h2 : p ≤ 255
    · obtain ⟨i, hi, rfl⟩ := nI_of2 (n := 255) (by decide) h1 h2
      exact Or.inr ⟨i, by omega, rfl, h1, h2⟩
    · exact Or.inl (Or.inr ⟨h1, h2⟩)
section
variable {li sz ma cu : Int32} {dr co rf rl ow : Nat → Int32} {sx sy so bo px py pz pw qx qy qz qw : Nat → Int64}
variable {c : Nat → Int} {d : Nat}
theorem zn_x1 {post : Int32 → SX → Prop} {p q r : Int32} (h : p < 0 ∨ (¬ p < 0 ∧ li ≤ p)) (K : post (-1) (li, sz, ma, cu, dr, co, rf, rl, ow, sx, sy, so, bo, px, py, pz, pw, qx, qy, qz, qw)) : wpX_nearer post (li, sz, ma, cu, dr, co, rf, rl, ow, sx, sy, so, bo, px, py, pz, pw, qx, qy, qz, qw) p q r := by
  unfold wpX_nearer
  exact zm_xn rfl h (br_t rfl K)
theorem zn_x2 {post : Int32 → SX → Prop} {p q r : Int32} (h1 : ¬ p < 0) (h2 : ¬ li ≤ p) (h : q < 0 ∨ (¬ q < 0 ∧ li ≤ q)) (K : post (-1) (li, sz, ma, cu, dr, co, rf, rl, ow, sx, sy, so, bo, px, py, pz, pw, qx, qy, qz, qw)) : wpX_nearer post (li, sz, ma, cu, dr, co, rf, rl, ow, sx, sy, so, bo, px, py, pz, pw, qx, qy, qz, qw) p q r := by
  unfold wpX_nearer
  exact zm_xy rfl h1 h2 (br_f (by decide) (zm_xn rfl h (br_t rfl K)))
theorem zn_x3 {post : Int32 → SX → Prop} {p q r : Int32} (h1 : ¬ p < 0) (h2 : ¬ li ≤ p) (h3 : ¬ q < 0) (h4 : ¬ li ≤ q) (h : r < 0 ∨ (¬ r < 0 ∧ ¬ r ≤ 255)) (K : post (-2) (li, sz, ma, cu, dr, co, rf, rl, ow, sx, sy, so, bo, px, py, pz, pw, qx, qy, qz, qw)) : wpX_nearer post (li, sz, ma, cu, dr, co, rf, rl, ow, sx, sy, so, bo, px, py, pz, pw, qx, qy, qz, qw) p q r := by
  unfold wpX_nearer
  refine zm_xy rfl h1 h2 (br_f (by decide) (zm_xy rfl h3 h4 (br_f (by decide) ?_)))
  rcases h with h | ⟨h5, h6⟩
  · exact br_t h K
  · exact br_f h5 (br_f h6 K)
theorem zn_x4 {post : Int32 → SX → Prop} {a b q : Nat} (ha : a < d) (hb : b < d) (hq : q < 256) (a1 : ¬ nI a < 0) (a2 : ¬ nI d ≤ nI a) (b1 : ¬ nI b < 0) (b2 : ¬ nI d ≤ nI b) (q1 : ¬ nI q < 0) (q2 : nI q ≤ 255) (hN : pv_N c d co) (hd : d ≤ 10) (hc : cu ≠ 0 → xr_Fr c d rf rl ow sx sy so bo)
    (K : ∀ sz' ma' cu' rf' rl' ow' sx' sy' so' bo' px' py' pz' pw' qx' qy' qz' qw', (cu' ≠ 0 → xr_Fr c d rf' rl' ow' sx' sy' so' bo') → post (zn_r c a b (q % 16) (q / 16)) (nI d, sz', ma', cu', dr, co, rf', rl', ow', sx', sy', so', bo', px', py', pz', pw', qx', qy', qz', qw')) : wpX_nearer post (nI d, sz, ma, cu, dr, co, rf, rl, ow, sx, sy, so, bo, px, py, pz, pw, qx, qy, qz, qw) (nI a) (nI b) (nI q) := by
  unfold wpX_nearer
  refine zm_xy rfl a1 a2 (br_f (by decide) (zm_xy rfl b1 b2 (br_f (by decide) (br_f q1 (br_t q2 ?_)))))
  refine xr_refresh hN hd hc (fun sz' ma' cu' rf' rl' ow' sx' sy' so' bo' px' py' pz' pw' qx' qy' qz' qw' hcu hF => ?_)
  have K' := K sz' ma' cu' rf' rl' ow' sx' sy' so' bo' px' py' pz' pw' qx' qy' qz' qw' (fun _ => hF)
  have hi : q % 16 < 16 := Nat.mod_lt _ (by decide)
  have hj : q / 16 < 16 := by omega
  refine nm_r (e' := nI (q % 16)) (pk_andN (by omega) 4 (by decide)) (nm_r (e' := nI (q / 16)) (pk_shrN (by omega) _ 4 (by decide)) ?_)
  generalize q % 16 = i at hi K' ⊢
  generalize q / 16 = j at hj K' ⊢
  unfold zn_r at K'
  refine zw_within (by omega) hi hj (hF.1 a ha j hj) ?_
  by_cases z1 : pv_cov c a i j = true
  · rw [if_pos z1] at K' ⊢
    refine br_f (by decide) ?_
    refine zw_within (by omega) hi hj (hF.1 b hb j hj) ?_
    by_cases z2 : pv_cov c b i j = true
    · rw [if_pos z2] at K' ⊢
      refine br_f (by decide) ?_
      have t1 := pv_tpb hN ha hi hj
      have t2 := pv_tpb hN hb hi hj
      have g1 := pv_btb hN ha
      have g2 := pv_btb hN hb
      refine xs_top (by omega) (by omega) (by omega) (hF.2.2 a ha) ?_
      refine ⟨vp_in_nI (by omega) (by decide), nm_r (e' := ra_L (pv_tp c a i j * pv_bt c b)) (by
        rw [nI_clamp (by omega), (hF.2.2 b hb).2, ra_Lmul]) ?_⟩
      refine xs_top (by omega) (by omega) (by omega) (hF.2.2 b hb) ?_
      refine ⟨vp_in_nI (by omega) (by decide), nm_r (e' := ra_L (pv_tp c b i j * pv_bt c a)) (by
        rw [nI_clamp (by omega), (hF.2.2 a ha).2, ra_Lmul]) ?_⟩
      have p1 := yv_prod t1 g2
      have p2 := yv_prod t2 g1
      unfold zn_v at K'
      rw [ra_Leq p1 p2, ra_Lle p2 p1]
      refine ⟨fun z3 => ?_, fun z3 => ⟨fun z4 => ?_, fun z4 => ?_⟩⟩
      · rw [if_pos z3] at K'; exact K'
      · rw [if_neg z3, if_pos z4] at K'; exact K'
      · rw [if_neg z3, if_neg z4] at K'; exact K'
    · rw [if_neg z2] at K' ⊢; exact br_t rfl K'
  · rw [if_neg z1] at K' ⊢; exact br_t rfl K'
end
theorem zn_y1 {post : Int32 → Prop} {fd p q r : Int32} {dr num : Nat → Int32} (h : p < 0 ∨ (¬ p < 0 ∧ fd ≤ p)) (K : post (-1)) : wpY_nearer post (fd, dr, num) p q r := by
  unfold wpY_nearer
  exact zm_yn h (br_f (by decide) K)
theorem zn_y2 {post : Int32 → Prop} {fd p q r : Int32} {dr num : Nat → Int32} (h1 : ¬ p < 0) (h2 : ¬ fd ≤ p) (h3 : p < 10) (h : q < 0 ∨ (¬ q < 0 ∧ fd ≤ q)) (K : post (-1)) : wpY_nearer post (fd, dr, num) p q r := by
  unfold wpY_nearer
  exact zm_yy h1 h2 h3 (br_t rfl (zm_yn h (br_f (by decide) K)))
theorem zn_y3 {post : Int32 → Prop} {fd p q r : Int32} {dr num : Nat → Int32} (h1 : ¬ p < 0) (h2 : ¬ fd ≤ p) (h3 : p < 10) (h4 : ¬ q < 0) (h5 : ¬ fd ≤ q) (h6 : q < 10) (h : r < 0 ∨ (¬ r < 0 ∧ ¬ r ≤ 255)) (K : post (-2)) : wpY_nearer post (fd, dr, num) p q r := by
  unfold wpY_nearer
  refine zm_yy h1 h2 h3 (br_t rfl (zm_yy h4 h5 h6 (br_t rfl ?_)))
  rcases h with h | ⟨h7, h8⟩
  · exact br_t h K
  · exact br_f h7 (br_f h8 K)
theorem zn_y4 {post : Int32 → Prop} {c : Nat → Int} {d : Nat} {dr num : Nat → Int32} {a b q : Nat} (ha : a < d) (hb : b < d) (hq : q < 256) (a1 : ¬ nI a < 0) (a2 : ¬ nI d ≤ nI a) (a3 : nI a < 10) (b1 : ¬ nI b < 0) (b2 : ¬ nI d ≤ nI b) (b3 : nI b < 10) (q1 : ¬ nI q < 0) (q2 : nI q ≤ 255) (hN : pv_N c d num) (hd : d ≤ 10)
    (K : post (zn_r c a b (q % 16) (q / 16))) : wpY_nearer post (nI d, dr, num) (nI a) (nI b) (nI q) := by
  unfold wpY_nearer
  refine zm_yy a1 a2 a3 (br_t rfl (zm_yy b1 b2 b3 (br_t rfl (br_f q1 (br_t q2 ⟨by decide, ?_⟩)))))
  have hi : q % 16 < 16 := Nat.mod_lt _ (by decide)
  have hj : q / 16 < 16 := by omega
  refine nm_r (e' := nI (q % 16)) (pk_rem (d := 16) (by omega) (by decide) (by decide)) ⟨by decide, nm_r (e' := nI (q / 16)) (pk_div (d := 16) (by omega) (by decide) (by decide)) ?_⟩
  generalize q % 16 = i at hi K ⊢
  generalize q / 16 = j at hj K ⊢
  unfold zn_r at K
  refine yv_covering hN hd ha hi hj ?_
  by_cases z1 : pv_cov c a i j = true
  · rw [if_pos z1] at K ⊢
    refine br_f (by decide) ?_
    refine yv_covering hN hd hb hi hj ?_
    by_cases z2 : pv_cov c b i j = true
    · rw [if_pos z2] at K ⊢
      refine br_f (by decide) ?_
      unfold zn_v at K
      refine yv_compare hN hd ha hb hi hj (fun z => ?_) (fun z => ?_) (fun z => ?_)
      · rw [if_neg (by omega), if_neg (by omega)] at K
        exact br_f (by decide) K
      · rw [if_neg (by omega), if_pos (by omega)] at K
        exact br_t (by decide) (br_f (by decide) K)
      · rw [if_pos z] at K
        exact br_t (by decide) (br_t (by decide) K)
    · rw [if_neg z2] at K ⊢; exact br_t rfl K
  · rw [if_neg z1] at K ⊢; exact br_t rfl K
theorem i_vc_nearer {k : Nat} {u : SX} {v : SY} (I : i_Rel k u v) (hk : k + 4 ≤ 2048) (v1 : Int32) (v2 : Int32) (v3 : Int32) : wpX_nearer (fun r u' => wpY_nearer (fun r' => r' = r ∧ i_Rel (k + 4) u' v) v v1 v2 v3) u v1 v2 v3 := by
  refine zr_el (P := fun u v => wpX_nearer (fun r u' => wpY_nearer (fun r' => r' = r ∧ i_Rel (k + 4) u' v) v v1 v2 v3) u v1 v2 v3) ?_ I
  intro d c sz ma cu dr co rf rl ow sx sy so bo px py pz pw qx qy qz qw num hd h1 h2 h3 h4
  have J : i_Rel (k + 4) (nI d, sz, ma, cu, dr, co, rf, rl, ow, sx, sy, so, bo, px, py, pz, pw, qx, qy, qz, qw) (nI d, dr, num) := zr_in hd h1 h2 h3 h4
  rcases zm_cases v1 hd with h | ⟨a, ha, rfl, a1, a2, a3⟩
  · exact zn_x1 h (zn_y1 h ⟨rfl, J⟩)
  · rcases zm_cases v2 hd with h | ⟨b, hb, rfl, b1, b2, b3⟩
    · exact zn_x2 a1 a2 h (zn_y2 a1 a2 a3 h ⟨rfl, J⟩)
    · rcases zn_cases v3 with h | ⟨q, hq, rfl, q1, q2⟩
      · exact zn_x3 a1 a2 b1 b2 h (zn_y3 a1 a2 a3 b1 b2 b3 h ⟨rfl, J⟩)
      · refine zn_x4 ha hb hq a1 a2 b1 b2 q1 q2 h2 hd h4 (fun sz' ma' cu' rf' rl' ow' sx' sy' so' bo' px' py' pz' pw' qx' qy' qz' qw' hF => ?_)
        exact zn_y4 ha hb hq a1 a2 a3 b1 b2 b3 q1 q2 h3 hd ⟨rfl, zr_in hd h1 h2 h3 hF⟩
end
section
section
variable {li sz ma cu : Int32} {dr co rf rl ow : Nat → Int32} {sx sy so bo px py pz pw qx qy qz qw : Nat → Int64}
variable {c : Nat → Int} {d : Nat}
theorem zf_firstInx1 {post : Int32 → SX → Prop} {p q : Int32} (h : p < 0 ∨ (¬ p < 0 ∧ li ≤ p)) (K : post (-1) (li, sz, ma, cu, dr, co, rf, rl, ow, sx, sy, so, bo, px, py, pz, pw, qx, qy, qz, qw)) : wpX_firstIn post (li, sz, ma, cu, dr, co, rf, rl, ow, sx, sy, so, bo, px, py, pz, pw, qx, qy, qz, qw) p q := by
  unfold wpX_firstIn
  exact zm_xn rfl h (br_t rfl K)
theorem zf_firstInx2 {post : Int32 → SX → Prop} {p q : Int32} (h1 : ¬ p < 0) (h2 : ¬ li ≤ p) (h : q < 0 ∨ (¬ q < 0 ∧ 15 < q)) (K : post (-2) (li, sz, ma, cu, dr, co, rf, rl, ow, sx, sy, so, bo, px, py, pz, pw, qx, qy, qz, qw)) : wpX_firstIn post (li, sz, ma, cu, dr, co, rf, rl, ow, sx, sy, so, bo, px, py, pz, pw, qx, qy, qz, qw) p q := by
  unfold wpX_firstIn
  exact zm_xy rfl h1 h2 (br_f (by decide) (zc_xn h (br_t rfl K)))
theorem zf_firstInx3 {post : Int32 → SX → Prop} {t j : Nat} (ht : t < d) (t1 : ¬ nI t < 0) (t2 : ¬ nI d ≤ nI t) (hj : j < 16) (j1 : ¬ nI j < 0) (j2 : ¬ 15 < nI j) (hN : pv_N c d co) (hd : d ≤ 10) (hc : cu ≠ 0 → xr_Fr c d rf rl ow sx sy so bo)
    (K : ∀ a b sz' ma' cu' rf' rl' ow' sx' sy' so' bo' px' py' pz' pw' qx' qy' qz' qw', pv_RowOK c t j a b → (cu' ≠ 0 → xr_Fr c d rf' rl' ow' sx' sy' so' bo') → post (if b < a then -3 else ra_I a) (nI d, sz', ma', cu', dr, co, rf', rl', ow', sx', sy', so', bo', px', py', pz', pw', qx', qy', qz', qw')) : wpX_firstIn post (nI d, sz, ma, cu, dr, co, rf, rl, ow, sx, sy, so, bo, px, py, pz, pw, qx, qy, qz, qw) (nI t) (nI j) := by
  unfold wpX_firstIn
  refine zm_xy rfl t1 t2 (br_f (by decide) (zc_xy j1 j2 (br_f (by decide) ?_)))
  refine xr_refresh hN hd hc (fun sz' ma' cu' rf' rl' ow' sx' sy' so' bo' px' py' pz' pw' qx' qy' qz' qw' hcu hF => ?_)
  obtain ⟨a, b, ha, hb, hR⟩ := hF.1 t ht j hj
  have K' := K a b sz' ma' cu' rf' rl' ow' sx' sy' so' bo' px' py' pz' pw' qx' qy' qz' qw' hR (fun _ => hF)
  obtain ⟨r1, r2, r3, r4, r5⟩ := hR
  have iq : vp_in (nI (16 * t + j)) 160 := vp_in_nI (by omega) (by decide)
  have k : ra_I b < ra_I a ↔ b < a := ra_Ilt (by omega) (by omega)
  refine nm_r (xf_at t j) ⟨iq, iq, ?_⟩
  rw [nI_clamp (n := 16 * t + j) (by omega), ha, hb, k]
  refine ⟨fun z => ?_, fun z => ⟨iq, ?_⟩⟩
  · rw [if_pos z] at K'; exact K'
  · rw [if_neg z] at K'; exact K'
end
theorem zf_firstIny1 {post : Int32 → Prop} {fd p q : Int32} {dr num : Nat → Int32} (h : p < 0 ∨ (¬ p < 0 ∧ fd ≤ p)) (K : post (-1)) : wpY_firstIn post (fd, dr, num) p q := by
  unfold wpY_firstIn
  exact zm_yn h (br_f (by decide) K)
theorem zf_firstIny2 {post : Int32 → Prop} {fd p q : Int32} {dr num : Nat → Int32} (h1 : ¬ p < 0) (h2 : ¬ fd ≤ p) (h3 : p < 10) (h : q < 0 ∨ (¬ q < 0 ∧ 15 < q)) (K : post (-2)) : wpY_firstIn post (fd, dr, num) p q := by
  unfold wpY_firstIn
  exact zm_yy h1 h2 h3 (br_t rfl (zc_yn h (br_f (by decide) K)))
theorem zf_fl {post : Int32 → Prop} {c : Nat → Int} {d : Nat} {dr num : Nat → Int32} {t j : Nat} {a b : Int} (hN : pv_N c d num) (hd : d ≤ 10) (ht : t < d) (hj : j < 16) (hR : pv_RowOK c t j a b) (K : post (if b < a then -3 else ra_I a)) :
    ∀ m i n : Nat, i + m = 16 → (a ≤ b → (i : Int) ≤ a) → m < n → wY_firstIn_23 post (nI t) (nI j) (nI d) dr num n (nI i) := by
  obtain ⟨r1, r2, r3, r4, r5⟩ := hR
  intro m
  induction m with
  | zero =>
    intro i n e hi hn
    obtain ⟨n, rfl⟩ : ∃ n', n = n' + 1 := ⟨n - 1, by omega⟩
    have ei : i = 16 := by omega
    subst ei
    refine pk_le 16 16 (fun _ => ?_) (fun z => absurd z (by omega))
    rw [if_pos (by omega)] at K; exact K
  | succ m ih =>
    intro i n e hi hn
    obtain ⟨n, rfl⟩ : ∃ n', n = n' + 1 := ⟨n - 1, by omega⟩
    refine pk_le 16 i (fun z => absurd z (by omega)) (fun _ => ?_)
    refine yv_covering hN hd ht (by omega) hj ?_
    have r := r5 i (by omega)
    by_cases z : pv_cov c t i j = true
    · rw [if_pos z]
      refine br_f (by decide) ?_
      have k := r.mpr z
      rw [if_neg (by omega)] at K
      rw [ra_n, show (i : Int) = a by omega]; exact K
    · rw [if_neg z]
      have k : ¬ (a ≤ (i : Int) ∧ (i : Int) ≤ b) := fun w => z (r.mp w)
      exact br_t rfl (nm_r (nI_1 i) (ih (i + 1) n (by omega) (by omega) (by omega)))
theorem zf_firstIny3 {post : Int32 → Prop} {c : Nat → Int} {d : Nat} {dr num : Nat → Int32} {t j : Nat} {a b : Int} (ht : t < d) (t1 : ¬ nI t < 0) (t2 : ¬ nI d ≤ nI t) (t3 : nI t < 10) (hj : j < 16) (j1 : ¬ nI j < 0) (j2 : ¬ 15 < nI j) (hN : pv_N c d num) (hd : d ≤ 10) (hR : pv_RowOK c t j a b)
    (K : post (if b < a then -3 else ra_I a)) : wpY_firstIn post (nI d, dr, num) (nI t) (nI j) := by
  unfold wpY_firstIn
  refine zm_yy t1 t2 t3 (br_t rfl (zc_yy j1 j2 (br_t rfl ⟨17, ?_⟩)))
  exact zf_fl hN hd ht hj hR K 16 0 17 (by omega) (fun _ => hR.1) (by omega)
theorem i_vc_firstIn {k : Nat} {u : SX} {v : SY} (I : i_Rel k u v) (hk : k + 4 ≤ 2048) (v1 : Int32) (v2 : Int32) : wpX_firstIn (fun r u' => wpY_firstIn (fun r' => r' = r ∧ i_Rel (k + 4) u' v) v v1 v2) u v1 v2 := by
  refine zr_el (P := fun u v => wpX_firstIn (fun r u' => wpY_firstIn (fun r' => r' = r ∧ i_Rel (k + 4) u' v) v v1 v2) u v1 v2) ?_ I
  intro d c sz ma cu dr co rf rl ow sx sy so bo px py pz pw qx qy qz qw num hd h1 h2 h3 h4
  have J : i_Rel (k + 4) (nI d, sz, ma, cu, dr, co, rf, rl, ow, sx, sy, so, bo, px, py, pz, pw, qx, qy, qz, qw) (nI d, dr, num) := zr_in hd h1 h2 h3 h4
  rcases zm_cases v1 hd with h | ⟨t, ht, rfl, t1, t2, t3⟩
  · exact zf_firstInx1 h (zf_firstIny1 h ⟨rfl, J⟩)
  · rcases zc_cases v2 with h | ⟨j, hj, rfl, j1, j2⟩
    · exact zf_firstInx2 t1 t2 h (zf_firstIny2 t1 t2 t3 h ⟨rfl, J⟩)
    · refine zf_firstInx3 ht t1 t2 hj j1 j2 h2 hd h4 (fun a b sz' ma' cu' rf' rl' ow' sx' sy' so' bo' px' py' pz' pw' qx' qy' qz' qw' hR hF => ?_)
      exact zf_firstIny3 ht t1 t2 t3 hj j1 j2 h3 hd hR ⟨rfl, zr_in hd h1 h2 h3 hF⟩
section
variable {li sz ma cu : Int32} {dr co rf rl ow : Nat → Int32} {sx sy so bo px py pz pw qx qy qz qw : Nat → Int64}
variable {c : Nat → Int} {d : Nat}
theorem zf_lastInx1 {post : Int32 → SX → Prop} {p q : Int32} (h : p < 0 ∨ (¬ p < 0 ∧ li ≤ p)) (K : post (-1) (li, sz, ma, cu, dr, co, rf, rl, ow, sx, sy, so, bo, px, py, pz, pw, qx, qy, qz, qw)) : wpX_lastIn post (li, sz, ma, cu, dr, co, rf, rl, ow, sx, sy, so, bo, px, py, pz, pw, qx, qy, qz, qw) p q := by
  unfold wpX_lastIn
  exact zm_xn rfl h (br_t rfl K)
theorem zf_lastInx2 {post : Int32 → SX → Prop} {p q : Int32} (h1 : ¬ p < 0) (h2 : ¬ li ≤ p) (h : q < 0 ∨ (¬ q < 0 ∧ 15 < q)) (K : post (-2) (li, sz, ma, cu, dr, co, rf, rl, ow, sx, sy, so, bo, px, py, pz, pw, qx, qy, qz, qw)) : wpX_lastIn post (li, sz, ma, cu, dr, co, rf, rl, ow, sx, sy, so, bo, px, py, pz, pw, qx, qy, qz, qw) p q := by
  unfold wpX_lastIn
  exact zm_xy rfl h1 h2 (br_f (by decide) (zc_xn h (br_t rfl K)))
theorem zf_lastInx3 {post : Int32 → SX → Prop} {t j : Nat} (ht : t < d) (t1 : ¬ nI t < 0) (t2 : ¬ nI d ≤ nI t) (hj : j < 16) (j1 : ¬ nI j < 0) (j2 : ¬ 15 < nI j) (hN : pv_N c d co) (hd : d ≤ 10) (hc : cu ≠ 0 → xr_Fr c d rf rl ow sx sy so bo)
    (K : ∀ a b sz' ma' cu' rf' rl' ow' sx' sy' so' bo' px' py' pz' pw' qx' qy' qz' qw', pv_RowOK c t j a b → (cu' ≠ 0 → xr_Fr c d rf' rl' ow' sx' sy' so' bo') → post (if b < a then -3 else ra_I b) (nI d, sz', ma', cu', dr, co, rf', rl', ow', sx', sy', so', bo', px', py', pz', pw', qx', qy', qz', qw')) : wpX_lastIn post (nI d, sz, ma, cu, dr, co, rf, rl, ow, sx, sy, so, bo, px, py, pz, pw, qx, qy, qz, qw) (nI t) (nI j) := by
  unfold wpX_lastIn
  refine zm_xy rfl t1 t2 (br_f (by decide) (zc_xy j1 j2 (br_f (by decide) ?_)))
  refine xr_refresh hN hd hc (fun sz' ma' cu' rf' rl' ow' sx' sy' so' bo' px' py' pz' pw' qx' qy' qz' qw' hcu hF => ?_)
  obtain ⟨a, b, ha, hb, hR⟩ := hF.1 t ht j hj
  have K' := K a b sz' ma' cu' rf' rl' ow' sx' sy' so' bo' px' py' pz' pw' qx' qy' qz' qw' hR (fun _ => hF)
  obtain ⟨r1, r2, r3, r4, r5⟩ := hR
  have iq : vp_in (nI (16 * t + j)) 160 := vp_in_nI (by omega) (by decide)
  have k : ra_I b < ra_I a ↔ b < a := ra_Ilt (by omega) (by omega)
  refine nm_r (xf_at t j) ⟨iq, iq, ?_⟩
  rw [nI_clamp (n := 16 * t + j) (by omega), ha, hb, k]
  refine ⟨fun z => ?_, fun z => ⟨iq, ?_⟩⟩
  · rw [if_pos z] at K'; exact K'
  · rw [if_neg z] at K'; exact K'
end
theorem zf_lastIny1 {post : Int32 → Prop} {fd p q : Int32} {dr num : Nat → Int32} (h : p < 0 ∨ (¬ p < 0 ∧ fd ≤ p)) (K : post (-1)) : wpY_lastIn post (fd, dr, num) p q := by
  unfold wpY_lastIn
  exact zm_yn h (br_f (by decide) K)
theorem zf_lastIny2 {post : Int32 → Prop} {fd p q : Int32} {dr num : Nat → Int32} (h1 : ¬ p < 0) (h2 : ¬ fd ≤ p) (h3 : p < 10) (h : q < 0 ∨ (¬ q < 0 ∧ 15 < q)) (K : post (-2)) : wpY_lastIn post (fd, dr, num) p q := by
  unfold wpY_lastIn
  exact zm_yy h1 h2 h3 (br_t rfl (zc_yn h (br_f (by decide) K)))
theorem zf_ll {post : Int32 → Prop} {c : Nat → Int} {d : Nat} {dr num : Nat → Int32} {t j : Nat} {a b : Int} (hN : pv_N c d num) (hd : d ≤ 10) (ht : t < d) (hj : j < 16) (hR : pv_RowOK c t j a b) (K : post (if b < a then -3 else ra_I b)) :
    ∀ i n : Nat, i ≤ 16 → (a ≤ b → b < (i : Int)) → i < n → wY_lastIn_24 post (nI t) (nI j) (nI d) dr num n (ra_I ((i : Int) - 1)) := by
  obtain ⟨r1, r2, r3, r4, r5⟩ := hR
  intro i
  induction i with
  | zero =>
    intro n e hi hn
    obtain ⟨n, rfl⟩ : ∃ n', n = n' + 1 := ⟨n - 1, by omega⟩
    refine br_t (by decide) ?_
    rw [if_pos (by omega)] at K; exact K
  | succ i ih =>
    intro n e hi hn
    obtain ⟨n, rfl⟩ : ∃ n', n = n' + 1 := ⟨n - 1, by omega⟩
    have ei : ra_I (((i + 1 : Nat) : Int) - 1) = nI i := by rw [ra_n]; exact congrArg ra_I (by omega)
    rw [ei]
    refine br_f (nI_pos (by omega)) ?_
    refine yv_covering hN hd ht (by omega) hj ?_
    have r := r5 i (by omega)
    by_cases z : pv_cov c t i j = true
    · rw [if_pos z]
      refine br_f (by decide) ?_
      have k := r.mpr z
      rw [if_neg (by omega)] at K
      rw [ra_n, show (i : Int) = b by omega]; exact K
    · rw [if_neg z]
      have k : ¬ (a ≤ (i : Int) ∧ (i : Int) ≤ b) := fun w => z (r.mp w)
      refine br_t rfl (nm_r (e' := ra_I ((i : Int) - 1)) ?_ (ih n (by omega) (by omega) (by omega)))
      rw [ra_n, ra_Im1, ra_Iadd]; rfl
theorem zf_lastIny3 {post : Int32 → Prop} {c : Nat → Int} {d : Nat} {dr num : Nat → Int32} {t j : Nat} {a b : Int} (ht : t < d) (t1 : ¬ nI t < 0) (t2 : ¬ nI d ≤ nI t) (t3 : nI t < 10) (hj : j < 16) (j1 : ¬ nI j < 0) (j2 : ¬ 15 < nI j) (hN : pv_N c d num) (hd : d ≤ 10) (hR : pv_RowOK c t j a b)
    (K : post (if b < a then -3 else ra_I b)) : wpY_lastIn post (nI d, dr, num) (nI t) (nI j) := by
  unfold wpY_lastIn
  refine zm_yy t1 t2 t3 (br_t rfl (zc_yy j1 j2 (br_t rfl ⟨17, ?_⟩)))
  have L := zf_ll (post := post) (dr := dr) hN hd ht hj hR K 16 17 (by omega) (fun _ => by have := hR.2.2.2.1; omega) (by omega)
  have e : ra_I (((16 : Nat) : Int) - 1) = 15 := by decide
  rw [e] at L
  exact L
theorem i_vc_lastIn {k : Nat} {u : SX} {v : SY} (I : i_Rel k u v) (hk : k + 4 ≤ 2048) (v1 : Int32) (v2 : Int32) : wpX_lastIn (fun r u' => wpY_lastIn (fun r' => r' = r ∧ i_Rel (k + 4) u' v) v v1 v2) u v1 v2 := by
  refine zr_el (P := fun u v => wpX_lastIn (fun r u' => wpY_lastIn (fun r' => r' = r ∧ i_Rel (k + 4) u' v) v v1 v2) u v1 v2) ?_ I
  intro d c sz ma cu dr co rf rl ow sx sy so bo px py pz pw qx qy qz qw num hd h1 h2 h3 h4
  have J : i_Rel (k + 4) (nI d, sz, ma, cu, dr, co, rf, rl, ow, sx, sy, so, bo, px, py, pz, pw, qx, qy, qz, qw) (nI d, dr, num) := zr_in hd h1 h2 h3 h4
  rcases zm_cases v1 hd with h | ⟨t, ht, rfl, t1, t2, t3⟩
  · exact zf_lastInx1 h (zf_lastIny1 h ⟨rfl, J⟩)
  · rcases zc_cases v2 with h | ⟨j, hj, rfl, j1, j2⟩
    · exact zf_lastInx2 t1 t2 h (zf_lastIny2 t1 t2 t3 h ⟨rfl, J⟩)
    · refine zf_lastInx3 ht t1 t2 hj j1 j2 h2 hd h4 (fun a b sz' ma' cu' rf' rl' ow' sx' sy' so' bo' px' py' pz' pw' qx' qy' qz' qw' hR hF => ?_)
      exact zf_lastIny3 ht t1 t2 t3 hj j1 j2 h3 hd hR ⟨rfl, zr_in hd h1 h2 h3 hF⟩
end
section
def zk_n (P : Nat → Bool) : Nat → Nat
  | 0 => 0
  | k + 1 => zk_n P k + (if P k = true then 1 else 0)
theorem zk_t {P : Nat → Bool} {k : Nat} (h : P k = true) : zk_n P (k + 1) = zk_n P k + 1 := by
  show zk_n P k + (if P k = true then 1 else 0) = _
  rw [if_pos h]
theorem zk_f {P : Nat → Bool} {k : Nat} (h : P k ≠ true) : zk_n P (k + 1) = zk_n P k := by
  show zk_n P k + (if P k = true then 1 else 0) = _
  rw [if_neg h]; rfl
theorem zk_le (P : Nat → Bool) : ∀ k, zk_n P k ≤ k := by
  intro k
  induction k with
  | zero => exact Nat.le_refl _
  | succ k ih =>
    by_cases h : P k = true
    · rw [zk_t h]; omega
    · rw [zk_f h]; omega
def zk_o (c : Nat → Int) (d t q : Nat) : Bool := decide (pv_ow c (q % 16) (q / 16) d = some t)
def zk_c (c : Nat → Int) (t q : Nat) : Bool := pv_cov c t (q % 16) (q / 16)
def zk_l (c : Nat → Int) (d q : Nat) : Bool := decide (pv_ow c (q % 16) (q / 16) d ≠ none)
theorem zk_m {i j : Nat} (hi : i < 16) : (16 * j + i) % 16 = i ∧ (16 * j + i) / 16 = j := by omega
theorem zk_oi {c : Nat → Int} {d t i j : Nat} (hi : i < 16) : zk_o c d t (16 * j + i) = true ↔ pv_ow c i j d = some t := by
  unfold zk_o
  rw [(zk_m hi).1, (zk_m hi).2]
  exact decide_eq_true_iff
theorem zk_ci {c : Nat → Int} {t i j : Nat} (hi : i < 16) : zk_c c t (16 * j + i) = pv_cov c t i j := by
  unfold zk_c
  rw [(zk_m hi).1, (zk_m hi).2]
theorem zk_li {c : Nat → Int} {d i j : Nat} (hi : i < 16) : zk_l c d (16 * j + i) = true ↔ pv_ow c i j d ≠ none := by
  unfold zk_l
  rw [(zk_m hi).1, (zk_m hi).2]
  exact decide_eq_true_iff
theorem zk_ye {o : Option Nat} {d t : Nat} (ho : ∀ b, o = some b → b < d) (hd : d ≤ 10) (ht : t < d) : yv_oc o = nI t ↔ o = some t := by
  cases o with
  | none =>
    constructor
    · intro h
      have h' : (-1 : Int32) = nI t := h
      rw [ra_Im1, ra_n, ra_Ieq (by decide) (by omega)] at h'
      omega
    · intro h; cases h
  | some b =>
    have hb := ho b rfl
    show nI b = nI t ↔ _
    rw [nI_eq (by omega) (by omega)]
    constructor
    · intro h; rw [h]
    · intro h; cases h; rfl
theorem zk_xe {o : Option Nat} {d t : Nat} (ho : ∀ b, o = some b → b < d) (hd : d ≤ 10) (ht : t < d) : xo_c o = nI t ↔ o = some t := by
  cases o with
  | none =>
    constructor
    · intro h
      have h' : (-2 : Int32) = nI t := h
      rw [ra_Im2, ra_n, ra_Ieq (by decide) (by omega)] at h'
      omega
    · intro h; cases h
  | some b =>
    have hb := ho b rfl
    show nI b = nI t ↔ _
    rw [nI_eq (by omega) (by omega)]
    constructor
    · intro h; rw [h]
    · intro h; cases h; rfl
theorem zk_xn {o : Option Nat} {d : Nat} (ho : ∀ b, o = some b → b < d) (hd : d ≤ 10) : xo_c o = -2 ↔ o = none := by
  cases o with
  | none => exact ⟨fun _ => rfl, fun _ => rfl⟩
  | some b =>
    have hb := ho b rfl
    show nI b = -2 ↔ _
    rw [ra_n, ra_Im2, ra_Ieq (by omega) (by decide)]
    constructor
    · intro h; omega
    · intro h; cases h
theorem zk_yn {o : Option Nat} {d : Nat} (ho : ∀ b, o = some b → b < d) (hd : d ≤ 10) : yv_oc o < 0 ↔ o = none := by
  cases o with
  | none => exact ⟨fun _ => rfl, fun _ => by decide⟩
  | some b =>
    have hb := ho b rfl
    show nI b < 0 ↔ _
    constructor
    · intro h; exact absurd h (nI_pos (by omega))
    · intro h; cases h
theorem zk_row {c : Nat → Int} {t j : Nat} {A R : Nat} (hR : pv_RowOK c t j (A : Int) ((R : Int) - 1)) : ∀ i, i ≤ 16 → zk_n (zk_c c t) (16 * j + i) = zk_n (zk_c c t) (16 * j) + (min i R - A) := by
  obtain ⟨r1, r2, r3, r4, r5⟩ := hR
  intro i
  induction i with
  | zero => intro _; rw [Nat.zero_min, Nat.zero_sub]; rfl
  | succ i ih =>
    intro hi
    have k := ih (by omega)
    have r := r5 i (by omega)
    show zk_n (zk_c c t) (16 * j + i + 1) = _
    by_cases z : pv_cov c t i j = true
    · rw [zk_t (by rw [zk_ci (by omega)]; exact z), k]
      have := r.mpr z
      omega
    · rw [zk_f (by rw [zk_ci (by omega)]; exact z), k]
      have q : ¬ ((A : Int) ≤ (i : Int) ∧ (i : Int) ≤ (R : Int) - 1) := fun w => z (r.mp w)
      omega
section
variable {li sz ma cu : Int32} {dr co rf rl ow : Nat → Int32} {sx sy so bo px py pz pw qx qy qz qw : Nat → Int64}
variable {c : Nat → Int} {d : Nat}
theorem zk_xol {post : Int32 → SX → Prop} {t : Nat} (hd : d ≤ 10) (ht : t < d) (hO : ∀ j, j < 16 → ∀ i, i < 16 → ow (16 * j + i) = xo_c (pv_ow c i j d)) (K : post (nI (zk_n (zk_o c d t) 256)) (li, sz, ma, cu, dr, co, rf, rl, ow, sx, sy, so, bo, px, py, pz, pw, qx, qy, qz, qw)) :
    ∀ m k n : Nat, k + m = 256 → m < n → wX_owned_18 post (nI t) li sz ma cu dr co rf rl ow sx sy so bo px py pz pw qx qy qz qw n (nI (zk_n (zk_o c d t) k)) (nI k) := by
  intro m
  induction m with
  | zero =>
    intro k n e hn
    obtain ⟨n, rfl⟩ : ∃ n', n = n' + 1 := ⟨n - 1, by omega⟩
    have ek : k = 256 := by omega
    subst ek
    exact pk_le 256 256 (fun _ => K) (fun z => absurd z (by omega))
  | succ m ih =>
    intro k n e hn
    obtain ⟨n, rfl⟩ : ∃ n', n = n' + 1 := ⟨n - 1, by omega⟩
    have R := ih (k + 1) n (by omega) (by omega)
    refine pk_le 256 k (fun z => absurd z (by omega)) (fun _ => ?_)
    rw [nI_clamp (n := k) (by omega)]
    refine ⟨vp_in_nI (by omega) (by decide), ?_⟩
    have eq : ow k = nI t ↔ zk_o c d t k = true := by
      have h := hO (k / 16) (by omega) (k % 16) (by omega)
      rw [show 16 * (k / 16) + k % 16 = k by omega] at h
      rw [h, zk_xe (pv_ow_lt c _ _ d) hd ht]
      unfold zk_o
      exact decide_eq_true_iff.symm
    rw [eq]
    refine ⟨fun z => nm_r (nI_1 _) (nm_r (nI_1 k) ?_), fun z => nm_r (nI_1 k) ?_⟩
    · rw [zk_t z] at R; exact R
    · rw [zk_f z] at R; exact R
theorem zk_xll {post : Int32 → SX → Prop} (hd : d ≤ 10) (hO : ∀ j, j < 16 → ∀ i, i < 16 → ow (16 * j + i) = xo_c (pv_ow c i j d)) (K : post (nI (zk_n (zk_l c d) 256)) (li, sz, ma, cu, dr, co, rf, rl, ow, sx, sy, so, bo, px, py, pz, pw, qx, qy, qz, qw)) :
    ∀ m k n : Nat, k + m = 256 → m < n → wX_lit_8 post li sz ma cu dr co rf rl ow sx sy so bo px py pz pw qx qy qz qw n (nI (zk_n (zk_l c d) k)) (nI k) := by
  intro m
  induction m with
  | zero =>
    intro k n e hn
    obtain ⟨n, rfl⟩ : ∃ n', n = n' + 1 := ⟨n - 1, by omega⟩
    have ek : k = 256 := by omega
    subst ek
    exact pk_le 256 256 (fun _ => K) (fun z => absurd z (by omega))
  | succ m ih =>
    intro k n e hn
    obtain ⟨n, rfl⟩ : ∃ n', n = n' + 1 := ⟨n - 1, by omega⟩
    have R := ih (k + 1) n (by omega) (by omega)
    refine pk_le 256 k (fun z => absurd z (by omega)) (fun _ => ?_)
    rw [nI_clamp (n := k) (by omega)]
    refine ⟨vp_in_nI (by omega) (by decide), ?_⟩
    have eq : ow k = -2 ↔ ¬ zk_l c d k = true := by
      have h := hO (k / 16) (by omega) (k % 16) (by omega)
      rw [show 16 * (k / 16) + k % 16 = k by omega] at h
      rw [h, zk_xn (pv_ow_lt c _ _ d) hd]
      unfold zk_l
      rw [decide_eq_true_iff]
      exact ⟨fun a b => b a, fun a => Classical.not_not.mp a⟩
    rw [eq]
    refine ⟨fun z => nm_r (nI_1 k) ?_, fun z => nm_r (nI_1 _) (nm_r (nI_1 k) ?_)⟩
    · rw [zk_f z] at R; exact R
    · rw [zk_t (Classical.not_not.mp z)] at R; exact R
theorem zk_xcl {post : Int32 → SX → Prop} {t : Nat} (ht : t < 10) (hR : ∀ j, j < 16 → xr_Row c t rf rl j) (K : post (nI (zk_n (zk_c c t) 256)) (li, sz, ma, cu, dr, co, rf, rl, ow, sx, sy, so, bo, px, py, pz, pw, qx, qy, qz, qw)) :
    ∀ m j n : Nat, j + m = 16 → m < n → wX_covered_18 post (nI t) li sz ma cu dr co rf rl ow sx sy so bo px py pz pw qx qy qz qw n (nI (zk_n (zk_c c t) (16 * j))) (nI j) := by
  intro m
  induction m with
  | zero =>
    intro j n e hn
    obtain ⟨n, rfl⟩ : ∃ n', n = n' + 1 := ⟨n - 1, by omega⟩
    have ej : j = 16 := by omega
    subst ej
    exact pk_le 16 16 (fun _ => K) (fun z => absurd z (by omega))
  | succ m ih =>
    intro j n e hn
    obtain ⟨n, rfl⟩ : ∃ n', n = n' + 1 := ⟨n - 1, by omega⟩
    have S := ih (j + 1) n (by omega) (by omega)
    obtain ⟨a, b, ha, hb, hRow⟩ := hR j (by omega)
    obtain ⟨A, rfl⟩ : ∃ A : Nat, a = A := ⟨a.toNat, by have := hRow.1; omega⟩
    obtain ⟨R, rfl⟩ : ∃ R : Nat, b = (R : Int) - 1 := ⟨(b + 1).toNat, by have := hRow.2.2.1; omega⟩
    have row := zk_row hRow 16 (by omega)
    obtain ⟨r1, r2, r3, r4, r5⟩ := hRow
    rw [show 16 * (j + 1) = 16 * j + 16 by omega, row] at S
    have iq : vp_in (nI (16 * t + j)) 160 := vp_in_nI (by omega) (by decide)
    have k : ra_I ((R : Int) - 1) < ra_I (A : Int) ↔ (R : Int) - 1 < A := ra_Ilt (by omega) (by omega)
    refine pk_le 16 j (fun z => absurd z (by omega)) (fun _ => ?_)
    rw [xf_at, nI_clamp (n := 16 * t + j) (by omega), ha, hb, k]
    refine ⟨iq, iq, fun z => nm_r (nI_1 j) ?_, fun z => ⟨iq, iq, nm_r (e' := nI (zk_n (zk_c c t) (16 * j) + (min 16 R - A))) ?_ (nm_r (nI_1 j) S)⟩⟩
    · rw [show min 16 R - A = 0 by omega, Nat.add_zero] at S; exact S
    · rw [ra_n, ra_n, ra_I1, ra_Isub, ra_Iadd, ra_Iadd]
      exact congrArg ra_I (by omega)
theorem zk_xo1 {post : Int32 → SX → Prop} {p : Int32} (h : p < 0 ∨ (¬ p < 0 ∧ li ≤ p)) (K : post (-1) (li, sz, ma, cu, dr, co, rf, rl, ow, sx, sy, so, bo, px, py, pz, pw, qx, qy, qz, qw)) : wpX_owned post (li, sz, ma, cu, dr, co, rf, rl, ow, sx, sy, so, bo, px, py, pz, pw, qx, qy, qz, qw) p := by
  unfold wpX_owned
  exact zm_xn rfl h (br_t rfl K)
theorem zk_xo2 {post : Int32 → SX → Prop} {t : Nat} (ht : t < d) (t1 : ¬ nI t < 0) (t2 : ¬ nI d ≤ nI t) (hN : pv_N c d co) (hd : d ≤ 10) (hc : cu ≠ 0 → xr_Fr c d rf rl ow sx sy so bo)
    (K : ∀ sz' ma' cu' rf' rl' ow' sx' sy' so' bo' px' py' pz' pw' qx' qy' qz' qw', (cu' ≠ 0 → xr_Fr c d rf' rl' ow' sx' sy' so' bo') → post (nI (zk_n (zk_o c d t) 256)) (nI d, sz', ma', cu', dr, co, rf', rl', ow', sx', sy', so', bo', px', py', pz', pw', qx', qy', qz', qw')) : wpX_owned post (nI d, sz, ma, cu, dr, co, rf, rl, ow, sx, sy, so, bo, px, py, pz, pw, qx, qy, qz, qw) (nI t) := by
  unfold wpX_owned
  refine zm_xy rfl t1 t2 (br_f (by decide) ?_)
  refine xr_refresh hN hd hc (fun sz' ma' cu' rf' rl' ow' sx' sy' so' bo' px' py' pz' pw' qx' qy' qz' qw' hcu hF => ?_)
  exact ⟨257, zk_xol hd ht hF.2.1 (K _ _ _ _ _ _ _ _ _ _ _ _ _ _ _ _ _ _ (fun _ => hF)) 256 0 257 (by omega) (by omega)⟩
theorem zk_xc1 {post : Int32 → SX → Prop} {p : Int32} (h : p < 0 ∨ (¬ p < 0 ∧ li ≤ p)) (K : post (-1) (li, sz, ma, cu, dr, co, rf, rl, ow, sx, sy, so, bo, px, py, pz, pw, qx, qy, qz, qw)) : wpX_covered post (li, sz, ma, cu, dr, co, rf, rl, ow, sx, sy, so, bo, px, py, pz, pw, qx, qy, qz, qw) p := by
  unfold wpX_covered
  exact zm_xn rfl h (br_t rfl K)
theorem zk_xc2 {post : Int32 → SX → Prop} {t : Nat} (ht : t < d) (t1 : ¬ nI t < 0) (t2 : ¬ nI d ≤ nI t) (hN : pv_N c d co) (hd : d ≤ 10) (hc : cu ≠ 0 → xr_Fr c d rf rl ow sx sy so bo)
    (K : ∀ sz' ma' cu' rf' rl' ow' sx' sy' so' bo' px' py' pz' pw' qx' qy' qz' qw', (cu' ≠ 0 → xr_Fr c d rf' rl' ow' sx' sy' so' bo') → post (nI (zk_n (zk_c c t) 256)) (nI d, sz', ma', cu', dr, co, rf', rl', ow', sx', sy', so', bo', px', py', pz', pw', qx', qy', qz', qw')) : wpX_covered post (nI d, sz, ma, cu, dr, co, rf, rl, ow, sx, sy, so, bo, px, py, pz, pw, qx, qy, qz, qw) (nI t) := by
  unfold wpX_covered
  refine zm_xy rfl t1 t2 (br_f (by decide) ?_)
  refine xr_refresh hN hd hc (fun sz' ma' cu' rf' rl' ow' sx' sy' so' bo' px' py' pz' pw' qx' qy' qz' qw' hcu hF => ?_)
  exact ⟨17, zk_xcl (by omega) (fun j hj => hF.1 t ht j hj) (K _ _ _ _ _ _ _ _ _ _ _ _ _ _ _ _ _ _ (fun _ => hF)) 16 0 17 (by omega) (by omega)⟩
theorem zk_xl2 {post : Int32 → SX → Prop} (hN : pv_N c d co) (hd : d ≤ 10) (hc : cu ≠ 0 → xr_Fr c d rf rl ow sx sy so bo)
    (K : ∀ sz' ma' cu' rf' rl' ow' sx' sy' so' bo' px' py' pz' pw' qx' qy' qz' qw', (cu' ≠ 0 → xr_Fr c d rf' rl' ow' sx' sy' so' bo') → post (nI (zk_n (zk_l c d) 256)) (nI d, sz', ma', cu', dr, co, rf', rl', ow', sx', sy', so', bo', px', py', pz', pw', qx', qy', qz', qw')) : wpX_lit post (nI d, sz, ma, cu, dr, co, rf, rl, ow, sx, sy, so, bo, px, py, pz, pw, qx, qy, qz, qw) := by
  unfold wpX_lit
  refine xr_refresh hN hd hc (fun sz' ma' cu' rf' rl' ow' sx' sy' so' bo' px' py' pz' pw' qx' qy' qz' qw' hcu hF => ?_)
  exact ⟨257, zk_xll hd hF.2.1 (K _ _ _ _ _ _ _ _ _ _ _ _ _ _ _ _ _ _ (fun _ => hF)) 256 0 257 (by omega) (by omega)⟩
end
theorem zk_yoi {post : Int32 → Prop} {J : Int32 → Int32 → Prop} {c : Nat → Int} {d : Nat} {dr num : Nat → Int32} {t j : Nat} (hN : pv_N c d num) (hd : d ≤ 10) (ht : t < d ∨ True) (ht' : t < d) (hj : j < 16) (K : J (nI (zk_n (zk_o c d t) (16 * (j + 1)))) (nI (j + 1))) :
    ∀ m i n : Nat, i + m = 16 → m < n → wY_owned_23 post J (nI t) (nI j) (nI d) dr num n (nI (zk_n (zk_o c d t) (16 * j + i))) (nI i) := by
  intro m
  induction m with
  | zero =>
    intro i n e hn
    obtain ⟨n, rfl⟩ : ∃ n', n = n' + 1 := ⟨n - 1, by omega⟩
    have ei : i = 16 := by omega
    subst ei
    exact pk_le 16 16 (fun _ => nm_r (nI_1 j) K) (fun z => absurd z (by omega))
  | succ m ih =>
    intro i n e hn
    obtain ⟨n, rfl⟩ : ∃ n', n = n' + 1 := ⟨n - 1, by omega⟩
    have R := ih (i + 1) n (by omega) (by omega)
    rw [show 16 * j + (i + 1) = 16 * j + i + 1 by omega] at R
    refine pk_le 16 i (fun z => absurd z (by omega)) (fun _ => ?_)
    refine yv_ownerOf hN hd (by omega) hj ?_
    have eq : yv_oc (pv_ow c i j d) = nI t ↔ zk_o c d t (16 * j + i) = true := by
      rw [zk_ye (pv_ow_lt c _ _ d) hd ht', zk_oi (by omega)]
    show (yv_oc (pv_ow c i j d) = nI t → _) ∧ (¬ yv_oc (pv_ow c i j d) = nI t → _)
    rw [eq]
    refine ⟨fun z => nm_r (nI_1 _) (nm_r (nI_1 i) ?_), fun z => nm_r (nI_1 i) ?_⟩
    · rw [zk_t z] at R; exact R
    · rw [zk_f z] at R; exact R
theorem zk_yoo {post : Int32 → Prop} {c : Nat → Int} {d : Nat} {dr num : Nat → Int32} {t : Nat} (hN : pv_N c d num) (hd : d ≤ 10) (ht' : t < d) (K : post (nI (zk_n (zk_o c d t) 256))) :
    ∀ m j n : Nat, j + m = 16 → m < n → wY_owned_14 post (nI t) (nI d) dr num n (nI (zk_n (zk_o c d t) (16 * j))) (nI j) := by
  intro m
  induction m with
  | zero =>
    intro j n e hn
    obtain ⟨n, rfl⟩ : ∃ n', n = n' + 1 := ⟨n - 1, by omega⟩
    have ej : j = 16 := by omega
    subst ej
    exact pk_le 16 16 (fun _ => K) (fun z => absurd z (by omega))
  | succ m ih =>
    intro j n e hn
    obtain ⟨n, rfl⟩ : ∃ n', n = n' + 1 := ⟨n - 1, by omega⟩
    have R := ih (j + 1) n (by omega) (by omega)
    refine pk_le 16 j (fun z => absurd z (by omega)) (fun _ => ⟨17, ?_⟩)
    exact zk_yoi (t := t) hN hd (Or.inr trivial) ht' (by omega) R 16 0 17 (by omega) (by omega)
theorem zk_yci {post : Int32 → Prop} {J : Int32 → Int32 → Prop} {c : Nat → Int} {d : Nat} {dr num : Nat → Int32} {t j : Nat} (hN : pv_N c d num) (hd : d ≤ 10) (ht : t < d ∨ True) (ht' : t < d) (hj : j < 16) (K : J (nI (zk_n (zk_c c t) (16 * (j + 1)))) (nI (j + 1))) :
    ∀ m i n : Nat, i + m = 16 → m < n → wY_covered_23 post J (nI t) (nI j) (nI d) dr num n (nI (zk_n (zk_c c t) (16 * j + i))) (nI i) := by
  intro m
  induction m with
  | zero =>
    intro i n e hn
    obtain ⟨n, rfl⟩ : ∃ n', n = n' + 1 := ⟨n - 1, by omega⟩
    have ei : i = 16 := by omega
    subst ei
    exact pk_le 16 16 (fun _ => nm_r (nI_1 j) K) (fun z => absurd z (by omega))
  | succ m ih =>
    intro i n e hn
    obtain ⟨n, rfl⟩ : ∃ n', n = n' + 1 := ⟨n - 1, by omega⟩
    have R := ih (i + 1) n (by omega) (by omega)
    rw [show 16 * j + (i + 1) = 16 * j + i + 1 by omega] at R
    refine pk_le 16 i (fun z => absurd z (by omega)) (fun _ => ?_)
    refine yv_covering hN hd ht' (by omega) hj ?_
    have eq : zk_c c t (16 * j + i) = pv_cov c t i j := zk_ci (by omega)
    by_cases z : pv_cov c t i j = true
    · rw [zk_t (eq.trans z)] at R
      rw [if_pos z]
      exact br_f (by decide) (nm_r (nI_1 _) (nm_r (nI_1 i) R))
    · rw [zk_f (by rw [eq]; exact z)] at R
      rw [if_neg z]
      exact br_t rfl (nm_r (nI_1 i) R)
theorem zk_yco {post : Int32 → Prop} {c : Nat → Int} {d : Nat} {dr num : Nat → Int32} {t : Nat} (hN : pv_N c d num) (hd : d ≤ 10) (ht' : t < d) (K : post (nI (zk_n (zk_c c t) 256))) :
    ∀ m j n : Nat, j + m = 16 → m < n → wY_covered_14 post (nI t) (nI d) dr num n (nI (zk_n (zk_c c t) (16 * j))) (nI j) := by
  intro m
  induction m with
  | zero =>
    intro j n e hn
    obtain ⟨n, rfl⟩ : ∃ n', n = n' + 1 := ⟨n - 1, by omega⟩
    have ej : j = 16 := by omega
    subst ej
    exact pk_le 16 16 (fun _ => K) (fun z => absurd z (by omega))
  | succ m ih =>
    intro j n e hn
    obtain ⟨n, rfl⟩ : ∃ n', n = n' + 1 := ⟨n - 1, by omega⟩
    have R := ih (j + 1) n (by omega) (by omega)
    refine pk_le 16 j (fun z => absurd z (by omega)) (fun _ => ⟨17, ?_⟩)
    exact zk_yci (t := t) hN hd (Or.inr trivial) ht' (by omega) R 16 0 17 (by omega) (by omega)
theorem zk_yli {post : Int32 → Prop} {J : Int32 → Int32 → Prop} {c : Nat → Int} {d : Nat} {dr num : Nat → Int32} {t j : Nat} (hN : pv_N c d num) (hd : d ≤ 10) (ht : t < d ∨ True) (ht' : True) (hj : j < 16) (K : J (nI (zk_n (zk_l c d) (16 * (j + 1)))) (nI (j + 1))) :
    ∀ m i n : Nat, i + m = 16 → m < n → wY_lit_12 post J (nI j) (nI d) dr num n (nI (zk_n (zk_l c d) (16 * j + i))) (nI i) := by
  intro m
  induction m with
  | zero =>
    intro i n e hn
    obtain ⟨n, rfl⟩ : ∃ n', n = n' + 1 := ⟨n - 1, by omega⟩
    have ei : i = 16 := by omega
    subst ei
    exact pk_le 16 16 (fun _ => nm_r (nI_1 j) K) (fun z => absurd z (by omega))
  | succ m ih =>
    intro i n e hn
    obtain ⟨n, rfl⟩ : ∃ n', n = n' + 1 := ⟨n - 1, by omega⟩
    have R := ih (i + 1) n (by omega) (by omega)
    rw [show 16 * j + (i + 1) = 16 * j + i + 1 by omega] at R
    refine pk_le 16 i (fun z => absurd z (by omega)) (fun _ => ?_)
    refine yv_ownerOf hN hd (by omega) hj ?_
    have eq : yv_oc (pv_ow c i j d) < 0 ↔ ¬ zk_l c d (16 * j + i) = true := by
      rw [zk_yn (pv_ow_lt c _ _ d) hd, zk_li (by omega)]
      exact ⟨fun a b => b a, fun a => Classical.not_not.mp a⟩
    show (yv_oc (pv_ow c i j d) < 0 → _) ∧ (¬ yv_oc (pv_ow c i j d) < 0 → _)
    rw [eq]
    refine ⟨fun z => nm_r (nI_1 i) ?_, fun z => nm_r (nI_1 _) (nm_r (nI_1 i) ?_)⟩
    · rw [zk_f z] at R; exact R
    · rw [zk_t (Classical.not_not.mp z)] at R; exact R
theorem zk_ylo {post : Int32 → Prop} {c : Nat → Int} {d : Nat} {dr num : Nat → Int32} {t : Nat} (hN : pv_N c d num) (hd : d ≤ 10) (ht' : True) (K : post (nI (zk_n (zk_l c d) 256))) :
    ∀ m j n : Nat, j + m = 16 → m < n → wY_lit_4 post (nI d) dr num n (nI (zk_n (zk_l c d) (16 * j))) (nI j) := by
  intro m
  induction m with
  | zero =>
    intro j n e hn
    obtain ⟨n, rfl⟩ : ∃ n', n = n' + 1 := ⟨n - 1, by omega⟩
    have ej : j = 16 := by omega
    subst ej
    exact pk_le 16 16 (fun _ => K) (fun z => absurd z (by omega))
  | succ m ih =>
    intro j n e hn
    obtain ⟨n, rfl⟩ : ∃ n', n = n' + 1 := ⟨n - 1, by omega⟩
    have R := ih (j + 1) n (by omega) (by omega)
    refine pk_le 16 j (fun z => absurd z (by omega)) (fun _ => ⟨17, ?_⟩)
    exact zk_yli (t := t) hN hd (Or.inr trivial) ht' (by omega) R 16 0 17 (by omega) (by omega)
theorem zk_yo1 {post : Int32 → Prop} {fd p : Int32} {dr num : Nat → Int32} (h : p < 0 ∨ (¬ p < 0 ∧ fd ≤ p)) (K : post (-1)) : wpY_owned post (fd, dr, num) p := by
  unfold wpY_owned
  exact zm_yn h (br_f (by decide) K)
theorem zk_yo2 {post : Int32 → Prop} {c : Nat → Int} {d : Nat} {dr num : Nat → Int32} {t : Nat} (ht : t < d) (t1 : ¬ nI t < 0) (t2 : ¬ nI d ≤ nI t) (t3 : nI t < 10) (hN : pv_N c d num) (hd : d ≤ 10) (K : post (nI (zk_n (zk_o c d t) 256))) : wpY_owned post (nI d, dr, num) (nI t) := by
  unfold wpY_owned
  refine zm_yy t1 t2 t3 (br_t rfl ⟨17, ?_⟩)
  exact zk_yoo hN hd ht K 16 0 17 (by omega) (by omega)
theorem zk_yc1 {post : Int32 → Prop} {fd p : Int32} {dr num : Nat → Int32} (h : p < 0 ∨ (¬ p < 0 ∧ fd ≤ p)) (K : post (-1)) : wpY_covered post (fd, dr, num) p := by
  unfold wpY_covered
  exact zm_yn h (br_f (by decide) K)
theorem zk_yc2 {post : Int32 → Prop} {c : Nat → Int} {d : Nat} {dr num : Nat → Int32} {t : Nat} (ht : t < d) (t1 : ¬ nI t < 0) (t2 : ¬ nI d ≤ nI t) (t3 : nI t < 10) (hN : pv_N c d num) (hd : d ≤ 10) (K : post (nI (zk_n (zk_c c t) 256))) : wpY_covered post (nI d, dr, num) (nI t) := by
  unfold wpY_covered
  refine zm_yy t1 t2 t3 (br_t rfl ⟨17, ?_⟩)
  exact zk_yco hN hd ht K 16 0 17 (by omega) (by omega)
theorem zk_yl2 {post : Int32 → Prop} {c : Nat → Int} {d : Nat} {dr num : Nat → Int32} (hN : pv_N c d num) (hd : d ≤ 10) (K : post (nI (zk_n (zk_l c d) 256))) : wpY_lit post (nI d, dr, num) :=
  ⟨17, zk_ylo (t := 0) hN hd trivial K 16 0 17 (by omega) (by omega)⟩
theorem i_vc_owned {k : Nat} {u : SX} {v : SY} (I : i_Rel k u v) (hk : k + 4 ≤ 2048) (v1 : Int32) : wpX_owned (fun r u' => wpY_owned (fun r' => r' = r ∧ i_Rel (k + 4) u' v) v v1) u v1 := by
  refine zr_el (P := fun u v => wpX_owned (fun r u' => wpY_owned (fun r' => r' = r ∧ i_Rel (k + 4) u' v) v v1) u v1) ?_ I
  intro d c sz ma cu dr co rf rl ow sx sy so bo px py pz pw qx qy qz qw num hd h1 h2 h3 h4
  have J : i_Rel (k + 4) (nI d, sz, ma, cu, dr, co, rf, rl, ow, sx, sy, so, bo, px, py, pz, pw, qx, qy, qz, qw) (nI d, dr, num) := zr_in hd h1 h2 h3 h4
  rcases zm_cases v1 hd with h | ⟨t, ht, rfl, t1, t2, t3⟩
  · exact zk_xo1 h (zk_yo1 h ⟨rfl, J⟩)
  · refine zk_xo2 ht t1 t2 h2 hd h4 (fun sz' ma' cu' rf' rl' ow' sx' sy' so' bo' px' py' pz' pw' qx' qy' qz' qw' hF => ?_)
    exact zk_yo2 ht t1 t2 t3 h3 hd ⟨rfl, zr_in hd h1 h2 h3 hF⟩
theorem i_vc_covered {k : Nat} {u : SX} {v : SY} (I : i_Rel k u v) (hk : k + 4 ≤ 2048) (v1 : Int32) : wpX_covered (fun r u' => wpY_covered (fun r' => r' = r ∧ i_Rel (k + 4) u' v) v v1) u v1 := by
  refine zr_el (P := fun u v => wpX_covered (fun r u' => wpY_covered (fun r' => r' = r ∧ i_Rel (k + 4) u' v) v v1) u v1) ?_ I
  intro d c sz ma cu dr co rf rl ow sx sy so bo px py pz pw qx qy qz qw num hd h1 h2 h3 h4
  have J : i_Rel (k + 4) (nI d, sz, ma, cu, dr, co, rf, rl, ow, sx, sy, so, bo, px, py, pz, pw, qx, qy, qz, qw) (nI d, dr, num) := zr_in hd h1 h2 h3 h4
  rcases zm_cases v1 hd with h | ⟨t, ht, rfl, t1, t2, t3⟩
  · exact zk_xc1 h (zk_yc1 h ⟨rfl, J⟩)
  · refine zk_xc2 ht t1 t2 h2 hd h4 (fun sz' ma' cu' rf' rl' ow' sx' sy' so' bo' px' py' pz' pw' qx' qy' qz' qw' hF => ?_)
    exact zk_yc2 ht t1 t2 t3 h3 hd ⟨rfl, zr_in hd h1 h2 h3 hF⟩
theorem i_vc_lit {k : Nat} {u : SX} {v : SY} (I : i_Rel k u v) (hk : k + 4 ≤ 2048) : wpX_lit (fun r u' => wpY_lit (fun r' => r' = r ∧ i_Rel (k + 4) u' v) v) u := by
  refine zr_el (P := fun u v => wpX_lit (fun r u' => wpY_lit (fun r' => r' = r ∧ i_Rel (k + 4) u' v) v) u) ?_ I
  intro d c sz ma cu dr co rf rl ow sx sy so bo px py pz pw qx qy qz qw num hd h1 h2 h3 h4
  refine zk_xl2 h2 hd h4 (fun sz' ma' cu' rf' rl' ow' sx' sy' so' bo' px' py' pz' pw' qx' qy' qz' qw' hF => ?_)
  exact zk_yl2 h3 hd ⟨rfl, zr_in hd h1 h2 h3 hF⟩
end

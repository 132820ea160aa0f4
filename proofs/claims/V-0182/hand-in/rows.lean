section
/-! pure rows to paste: stores, nI and lN arithmetic, masks, shifts, narrowing, branches by naturals (pk_le, pk_lt, pk_eq), loops (lp1 .. lp16: the measure of the state; rp1 ..: recursion), negatives. Take what you need -/
theorem pk_us {f : Nat → Int32} {k : Nat} {x : Int32} : upd f k x k = x := if_pos rfl
theorem pk_un {f : Nat → Int32} {k j : Nat} {x : Int32} (h : j ≠ k) : upd f k x j = f j := if_neg h
theorem pk_uLs {f : Nat → Int64} {k : Nat} {x : Int64} : vp_updL f k x k = x := if_pos rfl
theorem pk_uLn {f : Nat → Int64} {k j : Nat} {x : Int64} (h : j ≠ k) : vp_updL f k x j = f j := if_neg h
theorem pk_sub {a b : Nat} (h : b ≤ a) : nI a - nI b = nI (a - b) := by
  obtain ⟨c, rfl⟩ : ∃ c, a = c + b := ⟨a - b, by omega⟩
  rw [← nI_add, Int32.add_sub_cancel, Nat.add_sub_cancel]
theorem pk_m1 (n : Nat) : nI (n + 1) + (-1) = nI n := by
  rw [← nI_1, Int32.add_assoc, show (1 : Int32) + (-1) = 0 from rfl, Int32.add_zero]
theorem pk_mul (a b : Nat) : nI a * nI b = nI (a * b) := (Int32.ofNat_mul a b).symm
theorem pk_div {a d : Nat} (ha : a < 2 ^ 31) (h0 : 0 < d) (hd : d < 2 ^ 31) : nI a / nI d = nI (a / d) := by
  apply Int32.toInt_inj.mp
  rw [lg_idiv_nonneg (by rw [nI_toInt ha]; omega) (by rw [nI_toInt hd]; omega), nI_toInt ha, nI_toInt hd, nI_toInt (Nat.lt_of_le_of_lt (Nat.div_le_self a d) ha)]
  first | rfl | exact (Int.natCast_ediv _ _).symm
theorem pk_rem {a d : Nat} (ha : a < 2 ^ 31) (h0 : 0 < d) (hd : d < 2 ^ 31) : nI a - nI a / nI d * nI d = nI (a % d) := by
  rw [pk_div ha h0 hd, pk_mul, pk_sub (Nat.div_mul_le_self a d)]
  exact congrArg nI (by have := Nat.div_add_mod' a d; omega)
theorem pk_sub_toInt {a b : Nat} (ha : a < 2 ^ 30) (hb : b < 2 ^ 30) : (nI a - nI b).toInt = (a : Int) - b := by
  rw [Int32.toInt_sub, nI_toInt (by omega), nI_toInt (by omega)]
  exact Int.bmod_eq_of_le (by omega) (by omega)
theorem pk_sneg {a b : Nat} (hb : b < 2 ^ 30) (h : a < b) : nI a - nI b < 0 := by
  rw [Int32.lt_iff_toInt_lt, pk_sub_toInt (by omega) hb, show (0 : Int32).toInt = 0 from by decide]
  omega
theorem pk_ix (x : Int32) {n : Nat} (hn : n < 2 ^ 31) : x < 0 ∨ nI n ≤ x ∨ ∃ j : Nat, j < n ∧ x = nI j := by
  by_cases h : x < 0
  · exact Or.inl h
  · obtain ⟨j, hj, rfl⟩ := nI_of h
    by_cases h2 : j < n
    · exact Or.inr (Or.inr ⟨j, h2, rfl⟩)
    · exact Or.inr (Or.inl (nI_le (by omega) hj))
theorem pk_le {x y : Int32} {A B : Prop} (a b : Nat) (f : a ≤ b → A) (g : b < a → B) (hx : x = nI a := by rfl) (hy : y = nI b := by rfl) (ha : a < 2 ^ 31 := by omega) (hb : b < 2 ^ 31 := by omega) : (x ≤ y → A) ∧ (¬ x ≤ y → B) := by
  subst hx hy
  rw [nI_leI ha hb]
  exact ⟨f, fun z => g (by omega)⟩
theorem pk_lt {x y : Int32} {A B : Prop} (a b : Nat) (f : a < b → A) (g : b ≤ a → B) (hx : x = nI a := by rfl) (hy : y = nI b := by rfl) (ha : a < 2 ^ 31 := by omega) (hb : b < 2 ^ 31 := by omega) : (x < y → A) ∧ (¬ x < y → B) := by
  subst hx hy
  rw [nI_ltI ha hb]
  exact ⟨f, fun z => g (by omega)⟩
theorem pk_eq {x y : Int32} {A B : Prop} (a b : Nat) (f : a = b → A) (g : a ≠ b → B) (hx : x = nI a := by rfl) (hy : y = nI b := by rfl) (ha : a < 2 ^ 31 := by omega) (hb : b < 2 ^ 31 := by omega) : (x = y → A) ∧ (¬ x = y → B) := by
  subst hx hy
  rw [nI_eq ha hb]
  exact ⟨f, g⟩
theorem pk_in {x : Int32} (n N : Nat) (h : n < N) (hx : x = nI n := by rfl) (hN : N < 2 ^ 31 := by omega) : vp_in x N := by
  subst hx
  exact vp_in_nI h hN
theorem pk_cl {x : Int32} (n : Nat) (hx : x = nI n := by rfl) (h : n < 2 ^ 31 := by omega) : x.toNatClampNeg = n := by
  subst hx
  exact nI_clamp h
theorem pk_tn {n : Nat} (h : n < 2 ^ 32) : (nI n).toBitVec.toNat = n := Nat.mod_eq_of_lt h
theorem pk_and (x : Int32) {m : Int32} (k : Nat) (hm : m.toBitVec.toNat = 2 ^ k - 1) : x &&& m = nI (x.toBitVec.toNat % 2 ^ k) := by
  apply Int32.toBitVec_inj.mp
  apply BitVec.eq_of_toNat_eq
  rw [Int32.toBitVec_and, BitVec.toNat_and, hm, Nat.and_two_pow_sub_one_eq_mod]
  show _ = (BitVec.ofNat 32 _).toNat
  rw [BitVec.toNat_ofNat]
  exact (Nat.mod_eq_of_lt (Nat.lt_of_le_of_lt (Nat.mod_le _ _) x.toBitVec.isLt)).symm
theorem pk_andN {n : Nat} (h : n < 2 ^ 32) {m : Int32} (k : Nat) (hm : m.toBitVec.toNat = 2 ^ k - 1) : nI n &&& m = nI (n % 2 ^ k) := by
  rw [pk_and _ k hm, pk_tn h]
theorem pk_andE (x : Int32) {m : Int32} (k : Nat) (hm : m.toBitVec.toNat = 2 ^ k - 1) : ∃ j : Nat, j < 2 ^ k ∧ x &&& m = nI j := ⟨_, Nat.mod_lt _ (Nat.two_pow_pos k), pk_and x k hm⟩
theorem pk_andIn (x : Int32) {m : Int32} (k : Nat) (hm : m.toBitVec.toNat = 2 ^ k - 1) (hk : k ≤ 30) : vp_in (x &&& m) (2 ^ k) := by
  obtain ⟨j, hj, e⟩ := pk_andE x k hm
  rw [e]
  exact vp_in_nI hj (Nat.lt_of_le_of_lt (Nat.pow_le_pow_right (by decide) hk) (by decide))
theorem pk_shl (a s : Int32) (k : Nat) (hs : (s.toBitVec.smod 32).toNat = k) : (a <<< s).toBitVec.toNat = a.toBitVec.toNat * 2 ^ k % 2 ^ 32 := by
  show (a.toBitVec <<< (s.toBitVec.smod 32).toNat).toNat = _
  rw [hs, BitVec.toNat_shiftLeft, Nat.shiftLeft_eq]
theorem pk_shlN {n : Nat} (s : Int32) (k : Nat) (hs : (s.toBitVec.smod 32).toNat = k) (h : n * 2 ^ k < 2 ^ 32) : nI n <<< s = nI (n * 2 ^ k) := by
  apply Int32.toBitVec_inj.mp
  apply BitVec.eq_of_toNat_eq
  have hn : n < 2 ^ 32 := Nat.lt_of_le_of_lt (Nat.le_mul_of_pos_right n (Nat.two_pow_pos k)) h
  rw [pk_shl _ _ k hs, pk_tn hn, pk_tn h, Nat.mod_eq_of_lt h]
theorem pk_shr (a s : Int32) (k : Nat) (hs : (s.toBitVec.smod 32).toNat = k) : (a >>> s).toInt = a.toInt >>> k := by
  show (a.toBitVec.sshiftRight (s.toBitVec.smod 32).toNat).toInt = _
  rw [hs, BitVec.toInt_sshiftRight]
  rfl
theorem pk_shrN {n : Nat} (h : n < 2 ^ 31) (s : Int32) (k : Nat) (hs : (s.toBitVec.smod 32).toNat = k) : nI n >>> s = nI (n / 2 ^ k) := by
  apply Int32.toInt_inj.mp
  have h2 : n / 2 ^ k ≤ n := Nat.div_le_self _ _
  rw [pk_shr _ _ k hs, nI_toInt h, nI_toInt (by omega), Int.shiftRight_eq_div_pow]
  rfl
theorem pk_ushr (x s : Int32) (k : Nat) (hs : ((s.toUInt32 &&& Int32.toUInt32 31).toBitVec % 32).toNat = k) : (x.toUInt32 >>> (s.toUInt32 &&& Int32.toUInt32 31)).toInt32.toBitVec.toNat = x.toBitVec.toNat / 2 ^ k := by
  have e : (x.toUInt32 >>> (s.toUInt32 &&& Int32.toUInt32 31)).toInt32.toBitVec = x.toBitVec >>> k := by
    rw [← hs]
    exact UInt32.toBitVec_shiftRight _ _
  rw [e, BitVec.toNat_ushiftRight, Nat.shiftRight_eq_div_pow]
theorem pk_ushrN {n : Nat} (hn : n < 2 ^ 32) (s : Int32) (k : Nat) (hs : ((s.toUInt32 &&& Int32.toUInt32 31).toBitVec % 32).toNat = k) : ((nI n).toUInt32 >>> (s.toUInt32 &&& Int32.toUInt32 31)).toInt32 = nI (n / 2 ^ k) := by
  apply Int32.toBitVec_inj.mp
  apply BitVec.eq_of_toNat_eq
  rw [pk_ushr _ s k hs, pk_tn hn, pk_tn (Nat.lt_of_le_of_lt (Nat.div_le_self _ _) hn)]
theorem pk_nb (z : Int32) : narrow .byte (.int z.toInt8.toInt32) = .int z.toInt8.toInt32 := congrArg Value.int (by simp)
theorem pk_ns (z : Int32) : narrow .short (.int z.toInt16.toInt32) = .int z.toInt16.toInt32 := congrArg Value.int (by simp)
theorem pk_fb (r : Int32) : fits .byte (.int r.toInt8.toInt32) = true := by
  have ⟨a, b⟩ := lg_i2b_range r
  have h1 : (-128 : Int32).toInt = -128 := by decide
  have h2 : (127 : Int32).toInt = 127 := by decide
  simp only [fits, Bool.and_eq_true, decide_eq_true_eq, Int32.le_iff_toInt_le, h1, h2]
  omega
theorem pk_fs (r : Int32) : fits .short (.int r.toInt16.toInt32) = true := by
  have ⟨a, b⟩ := lg_i2s_range r
  have h1 : (-32768 : Int32).toInt = -32768 := by decide
  have h2 : (32767 : Int32).toInt = 32767 := by decide
  simp only [fits, Bool.and_eq_true, decide_eq_true_eq, Int32.le_iff_toInt_le, h1, h2]
  omega
theorem pk_charN {q : Nat} (hq : q < 65536) : narrow .char (.int (nI q)) = .int (nI q) ∧ fits .char (.int (nI q)) = true := by
  constructor
  · have e : (nI q).toUInt32.toUInt16.toUInt32.toInt32 = nI q := by
      apply Int32.toBitVec_inj.mp
      apply BitVec.eq_of_toNat_eq
      show (nI q).toUInt32.toUInt16.toUInt32.toNat = q % 2 ^ 32
      rw [UInt16.toNat_toUInt32, UInt32.toNat_toUInt16, show (nI q).toUInt32.toNat = q % 2 ^ 32 from rfl]
      omega
    exact congrArg Value.int e
  · have a : (0 : Int32) ≤ nI q := nI_pos' (by omega)
    have b : nI q ≤ 65535 := nI_le (b := 65535) (by omega) (by decide)
    show (decide ((0 : Int32) ≤ nI q) && decide (nI q ≤ 65535)) = true
    rw [decide_eq_true a, decide_eq_true b]
    rfl
theorem pk_char (x : Int32) : (x.toUInt32 % 65536).toInt32 = nI (x.toBitVec.toNat % 65536) := by
  apply Int32.toBitVec_inj.mp
  apply BitVec.eq_of_toNat_eq
  rw [pk_tn (by omega)]
  show (x.toUInt32 % 65536).toNat = _
  rw [UInt32.toNat_mod]
  rfl
theorem pk_nc (x : Int32) : narrow .char (.int (x.toUInt32 % 65536).toInt32) = .int (x.toUInt32 % 65536).toInt32 := by
  rw [pk_char]
  exact (pk_charN (Nat.mod_lt _ (by decide))).1
theorem pk_fc (x : Int32) : fits .char (.int (x.toUInt32 % 65536).toInt32) = true := by
  rw [pk_char]
  exact (pk_charN (Nat.mod_lt _ (by decide))).2
theorem pk_vb (z : Int32) : vp_nar .byte z.toInt8.toInt32 = z.toInt8.toInt32 := by rw [vp_nar_byte]; simp
theorem pk_vs (z : Int32) : vp_nar .short z.toInt16.toInt32 = z.toInt16.toInt32 := by rw [vp_nar_short]; simp
theorem pk_vc (z : Int32) : vp_nar .char (z.toUInt32 % 65536).toInt32 = (z.toUInt32 % 65536).toInt32 := Value.int.inj (pk_nc z)
theorem pk_lT {n : Nat} (h : n < 2 ^ 63) : (lN n).toInt = (n : Int) := lg_ofNat_toInt h
theorem pk_lLT {a b : Nat} (ha : a < 2 ^ 63) (hb : b < 2 ^ 63) : lN a < lN b ↔ a < b := by
  rw [Int64.lt_iff_toInt_lt, pk_lT ha, pk_lT hb]; omega
theorem pk_lLE {a b : Nat} (ha : a < 2 ^ 63) (hb : b < 2 ^ 63) : lN a ≤ lN b ↔ a ≤ b := by
  rw [Int64.le_iff_toInt_le, pk_lT ha, pk_lT hb]; omega
theorem pk_lEQ {a b : Nat} (ha : a < 2 ^ 63) (hb : b < 2 ^ 63) : lN a = lN b ↔ a = b := by
  rw [← Int64.toInt_inj, pk_lT ha, pk_lT hb]; omega
theorem pk_lOf {x : Int64} (h : ¬ x < 0) : ∃ k : Nat, k < 2 ^ 63 ∧ x = lN k := by
  rw [Int64.lt_iff_toInt_lt] at h
  have h0 : (0 : Int64).toInt = 0 := by decide
  have hx := Int64.toInt_lt x
  refine ⟨x.toInt.toNat, by omega, Int64.toInt_inj.mp ?_⟩
  rw [pk_lT (by omega)]
  omega
theorem pk_lDiv {a b : Nat} (ha : a < 2 ^ 63) (h0 : 0 < b) (hb : b < 2 ^ 63) : lN a / lN b = lN (a / b) := by
  apply Int64.toInt_inj.mp
  rw [lg_ldiv_nonneg (by rw [pk_lT ha]; omega) (by rw [pk_lT hb]; omega), pk_lT ha, pk_lT hb, pk_lT (Nat.lt_of_le_of_lt (Nat.div_le_self a b) ha)]
  rfl
theorem pk_lRem {a b : Nat} (ha : a < 2 ^ 63) (h0 : 0 < b) (hb : b < 2 ^ 63) : lN a - lN a / lN b * lN b = lN (a % b) := by
  rw [pk_lDiv ha h0 hb, lN_mul, lN_sub (Nat.div_mul_le_self a b)]
  exact congrArg lN (by have := Nat.div_add_mod' a b; omega)
theorem pk_loop {σ : Type} (W : Nat → Nat → σ → Prop) (I : Nat → σ → Prop) (e i0 : Nat) (s : σ) (hi : i0 ≤ e) (h0 : I i0 s) (hx : ∀ n s, I e s → W (n + 1) e s)
    (hs : ∀ n i s, i < e → I i s → (∀ s', I (i + 1) s' → W n (i + 1) s') → W (n + 1) i s) : ∃ n, W n i0 s :=
  ⟨e + 1, loop_i W I e hx hs (e + 1) i0 s hi (by omega) h0⟩
theorem pk_loopD {σ : Type} (W : Nat → Nat → σ → Prop) (I : Nat → σ → Prop) (hx : ∀ n s, I 0 s → W (n + 1) 0 s)
    (hs : ∀ n i s, I (i + 1) s → (∀ s', I i s' → W n i s') → W (n + 1) (i + 1) s) : ∀ (e : Nat) (s : σ), I e s → W (e + 1) e s := by
  intro e
  induction e with
  | zero => exact fun s h => hx 0 s h
  | succ e ih => exact fun s h => hs (e + 1) e s h (fun s' h' => ih s' h')
theorem lp1 {A1 : Type} (W : Nat → A1 → Prop) (I : A1 → Prop) (μ : A1 → Nat) (hs : ∀ (n : Nat) (a1 : A1), I a1 → (∀ (b1 : A1), I b1 → μ b1 < μ a1 → W n b1) → W (n + 1) a1) (a1 : A1) (h : I a1) : ∃ n, W n a1 :=
  loop_m (σ := A1) (fun n s => W n s) (fun s => I s) (fun s => μ s) (fun n s hI hk => hs n s hI (fun b1 h9 hm => hk b1 h9 hm)) a1 h
theorem lp2 {A1 A2 : Type} (W : Nat → A1 → A2 → Prop) (I : A1 → A2 → Prop) (μ : A1 → A2 → Nat) (hs : ∀ (n : Nat) (a1 : A1) (a2 : A2), I a1 a2 → (∀ (b1 : A1) (b2 : A2), I b1 b2 → μ b1 b2 < μ a1 a2 → W n b1 b2) → W (n + 1) a1 a2) (a1 : A1) (a2 : A2) (h : I a1 a2) : ∃ n, W n a1 a2 :=
  loop_m (σ := A1 × A2) (fun n s => W n s.1 s.2) (fun s => I s.1 s.2) (fun s => μ s.1 s.2) (fun n s hI hk => hs n s.1 s.2 hI (fun b1 b2 h9 hm => hk (b1, b2) h9 hm)) (a1, a2) h
theorem lp3 {A1 A2 A3 : Type} (W : Nat → A1 → A2 → A3 → Prop) (I : A1 → A2 → A3 → Prop) (μ : A1 → A2 → A3 → Nat) (hs : ∀ (n : Nat) (a1 : A1) (a2 : A2) (a3 : A3), I a1 a2 a3 → (∀ (b1 : A1) (b2 : A2) (b3 : A3), I b1 b2 b3 → μ b1 b2 b3 < μ a1 a2 a3 → W n b1 b2 b3) → W (n + 1) a1 a2 a3) (a1 : A1) (a2 : A2) (a3 : A3) (h : I a1 a2 a3) : ∃ n, W n a1 a2 a3 :=
  loop_m (σ := A1 × A2 × A3) (fun n s => W n s.1 s.2.1 s.2.2) (fun s => I s.1 s.2.1 s.2.2) (fun s => μ s.1 s.2.1 s.2.2) (fun n s hI hk => hs n s.1 s.2.1 s.2.2 hI (fun b1 b2 b3 h9 hm => hk (b1, b2, b3) h9 hm)) (a1, a2, a3) h
theorem lp4 {A1 A2 A3 A4 : Type} (W : Nat → A1 → A2 → A3 → A4 → Prop) (I : A1 → A2 → A3 → A4 → Prop) (μ : A1 → A2 → A3 → A4 → Nat) (hs : ∀ (n : Nat) (a1 : A1) (a2 : A2) (a3 : A3) (a4 : A4), I a1 a2 a3 a4 → (∀ (b1 : A1) (b2 : A2) (b3 : A3) (b4 : A4), I b1 b2 b3 b4 → μ b1 b2 b3 b4 < μ a1 a2 a3 a4 → W n b1 b2 b3 b4) → W (n + 1) a1 a2 a3 a4) (a1 : A1) (a2 : A2) (a3 : A3) (a4 : A4) (h : I a1 a2 a3 a4) : ∃ n, W n a1 a2 a3 a4 :=
  loop_m (σ := A1 × A2 × A3 × A4) (fun n s => W n s.1 s.2.1 s.2.2.1 s.2.2.2) (fun s => I s.1 s.2.1 s.2.2.1 s.2.2.2) (fun s => μ s.1 s.2.1 s.2.2.1 s.2.2.2) (fun n s hI hk => hs n s.1 s.2.1 s.2.2.1 s.2.2.2 hI (fun b1 b2 b3 b4 h9 hm => hk (b1, b2, b3, b4) h9 hm)) (a1, a2, a3, a4) h
theorem lp5 {A1 A2 A3 A4 A5 : Type} (W : Nat → A1 → A2 → A3 → A4 → A5 → Prop) (I : A1 → A2 → A3 → A4 → A5 → Prop) (μ : A1 → A2 → A3 → A4 → A5 → Nat) (hs : ∀ (n : Nat) (a1 : A1) (a2 : A2) (a3 : A3) (a4 : A4) (a5 : A5), I a1 a2 a3 a4 a5 → (∀ (b1 : A1) (b2 : A2) (b3 : A3) (b4 : A4) (b5 : A5), I b1 b2 b3 b4 b5 → μ b1 b2 b3 b4 b5 < μ a1 a2 a3 a4 a5 → W n b1 b2 b3 b4 b5) → W (n + 1) a1 a2 a3 a4 a5) (a1 : A1) (a2 : A2) (a3 : A3) (a4 : A4) (a5 : A5) (h : I a1 a2 a3 a4 a5) : ∃ n, W n a1 a2 a3 a4 a5 :=
  loop_m (σ := A1 × A2 × A3 × A4 × A5) (fun n s => W n s.1 s.2.1 s.2.2.1 s.2.2.2.1 s.2.2.2.2) (fun s => I s.1 s.2.1 s.2.2.1 s.2.2.2.1 s.2.2.2.2) (fun s => μ s.1 s.2.1 s.2.2.1 s.2.2.2.1 s.2.2.2.2) (fun n s hI hk => hs n s.1 s.2.1 s.2.2.1 s.2.2.2.1 s.2.2.2.2 hI (fun b1 b2 b3 b4 b5 h9 hm => hk (b1, b2, b3, b4, b5) h9 hm)) (a1, a2, a3, a4, a5) h
theorem lp6 {A1 A2 A3 A4 A5 A6 : Type} (W : Nat → A1 → A2 → A3 → A4 → A5 → A6 → Prop) (I : A1 → A2 → A3 → A4 → A5 → A6 → Prop) (μ : A1 → A2 → A3 → A4 → A5 → A6 → Nat) (hs : ∀ (n : Nat) (a1 : A1) (a2 : A2) (a3 : A3) (a4 : A4) (a5 : A5) (a6 : A6), I a1 a2 a3 a4 a5 a6 → (∀ (b1 : A1) (b2 : A2) (b3 : A3) (b4 : A4) (b5 : A5) (b6 : A6), I b1 b2 b3 b4 b5 b6 → μ b1 b2 b3 b4 b5 b6 < μ a1 a2 a3 a4 a5 a6 → W n b1 b2 b3 b4 b5 b6) → W (n + 1) a1 a2 a3 a4 a5 a6) (a1 : A1) (a2 : A2) (a3 : A3) (a4 : A4) (a5 : A5) (a6 : A6) (h : I a1 a2 a3 a4 a5 a6) : ∃ n, W n a1 a2 a3 a4 a5 a6 :=
  loop_m (σ := A1 × A2 × A3 × A4 × A5 × A6) (fun n s => W n s.1 s.2.1 s.2.2.1 s.2.2.2.1 s.2.2.2.2.1 s.2.2.2.2.2) (fun s => I s.1 s.2.1 s.2.2.1 s.2.2.2.1 s.2.2.2.2.1 s.2.2.2.2.2) (fun s => μ s.1 s.2.1 s.2.2.1 s.2.2.2.1 s.2.2.2.2.1 s.2.2.2.2.2) (fun n s hI hk => hs n s.1 s.2.1 s.2.2.1 s.2.2.2.1 s.2.2.2.2.1 s.2.2.2.2.2 hI (fun b1 b2 b3 b4 b5 b6 h9 hm => hk (b1, b2, b3, b4, b5, b6) h9 hm)) (a1, a2, a3, a4, a5, a6) h
theorem lp7 {A1 A2 A3 A4 A5 A6 A7 : Type} (W : Nat → A1 → A2 → A3 → A4 → A5 → A6 → A7 → Prop) (I : A1 → A2 → A3 → A4 → A5 → A6 → A7 → Prop) (μ : A1 → A2 → A3 → A4 → A5 → A6 → A7 → Nat) (hs : ∀ (n : Nat) (a1 : A1) (a2 : A2) (a3 : A3) (a4 : A4) (a5 : A5) (a6 : A6) (a7 : A7), I a1 a2 a3 a4 a5 a6 a7 → (∀ (b1 : A1) (b2 : A2) (b3 : A3) (b4 : A4) (b5 : A5) (b6 : A6) (b7 : A7), I b1 b2 b3 b4 b5 b6 b7 → μ b1 b2 b3 b4 b5 b6 b7 < μ a1 a2 a3 a4 a5 a6 a7 → W n b1 b2 b3 b4 b5 b6 b7) → W (n + 1) a1 a2 a3 a4 a5 a6 a7) (a1 : A1) (a2 : A2) (a3 : A3) (a4 : A4) (a5 : A5) (a6 : A6) (a7 : A7) (h : I a1 a2 a3 a4 a5 a6 a7) : ∃ n, W n a1 a2 a3 a4 a5 a6 a7 :=
  loop_m (σ := A1 × A2 × A3 × A4 × A5 × A6 × A7) (fun n s => W n s.1 s.2.1 s.2.2.1 s.2.2.2.1 s.2.2.2.2.1 s.2.2.2.2.2.1 s.2.2.2.2.2.2) (fun s => I s.1 s.2.1 s.2.2.1 s.2.2.2.1 s.2.2.2.2.1 s.2.2.2.2.2.1 s.2.2.2.2.2.2) (fun s => μ s.1 s.2.1 s.2.2.1 s.2.2.2.1 s.2.2.2.2.1 s.2.2.2.2.2.1 s.2.2.2.2.2.2) (fun n s hI hk => hs n s.1 s.2.1 s.2.2.1 s.2.2.2.1 s.2.2.2.2.1 s.2.2.2.2.2.1 s.2.2.2.2.2.2 hI (fun b1 b2 b3 b4 b5 b6 b7 h9 hm => hk (b1, b2, b3, b4, b5, b6, b7) h9 hm)) (a1, a2, a3, a4, a5, a6, a7) h
theorem lp8 {A1 A2 A3 A4 A5 A6 A7 A8 : Type} (W : Nat → A1 → A2 → A3 → A4 → A5 → A6 → A7 → A8 → Prop) (I : A1 → A2 → A3 → A4 → A5 → A6 → A7 → A8 → Prop) (μ : A1 → A2 → A3 → A4 → A5 → A6 → A7 → A8 → Nat) (hs : ∀ (n : Nat) (a1 : A1) (a2 : A2) (a3 : A3) (a4 : A4) (a5 : A5) (a6 : A6) (a7 : A7) (a8 : A8), I a1 a2 a3 a4 a5 a6 a7 a8 → (∀ (b1 : A1) (b2 : A2) (b3 : A3) (b4 : A4) (b5 : A5) (b6 : A6) (b7 : A7) (b8 : A8), I b1 b2 b3 b4 b5 b6 b7 b8 → μ b1 b2 b3 b4 b5 b6 b7 b8 < μ a1 a2 a3 a4 a5 a6 a7 a8 → W n b1 b2 b3 b4 b5 b6 b7 b8) → W (n + 1) a1 a2 a3 a4 a5 a6 a7 a8) (a1 : A1) (a2 : A2) (a3 : A3) (a4 : A4) (a5 : A5) (a6 : A6) (a7 : A7) (a8 : A8) (h : I a1 a2 a3 a4 a5 a6 a7 a8) : ∃ n, W n a1 a2 a3 a4 a5 a6 a7 a8 :=
  loop_m (σ := A1 × A2 × A3 × A4 × A5 × A6 × A7 × A8) (fun n s => W n s.1 s.2.1 s.2.2.1 s.2.2.2.1 s.2.2.2.2.1 s.2.2.2.2.2.1 s.2.2.2.2.2.2.1 s.2.2.2.2.2.2.2) (fun s => I s.1 s.2.1 s.2.2.1 s.2.2.2.1 s.2.2.2.2.1 s.2.2.2.2.2.1 s.2.2.2.2.2.2.1 s.2.2.2.2.2.2.2) (fun s => μ s.1 s.2.1 s.2.2.1 s.2.2.2.1 s.2.2.2.2.1 s.2.2.2.2.2.1 s.2.2.2.2.2.2.1 s.2.2.2.2.2.2.2) (fun n s hI hk => hs n s.1 s.2.1 s.2.2.1 s.2.2.2.1 s.2.2.2.2.1 s.2.2.2.2.2.1 s.2.2.2.2.2.2.1 s.2.2.2.2.2.2.2 hI (fun b1 b2 b3 b4 b5 b6 b7 b8 h9 hm => hk (b1, b2, b3, b4, b5, b6, b7, b8) h9 hm)) (a1, a2, a3, a4, a5, a6, a7, a8) h
theorem lp9 {A1 A2 A3 A4 A5 A6 A7 A8 A9 : Type} (W : Nat → A1 → A2 → A3 → A4 → A5 → A6 → A7 → A8 → A9 → Prop) (I : A1 → A2 → A3 → A4 → A5 → A6 → A7 → A8 → A9 → Prop) (μ : A1 → A2 → A3 → A4 → A5 → A6 → A7 → A8 → A9 → Nat) (hs : ∀ (n : Nat) (a1 : A1) (a2 : A2) (a3 : A3) (a4 : A4) (a5 : A5) (a6 : A6) (a7 : A7) (a8 : A8) (a9 : A9), I a1 a2 a3 a4 a5 a6 a7 a8 a9 → (∀ (b1 : A1) (b2 : A2) (b3 : A3) (b4 : A4) (b5 : A5) (b6 : A6) (b7 : A7) (b8 : A8) (b9 : A9), I b1 b2 b3 b4 b5 b6 b7 b8 b9 → μ b1 b2 b3 b4 b5 b6 b7 b8 b9 < μ a1 a2 a3 a4 a5 a6 a7 a8 a9 → W n b1 b2 b3 b4 b5 b6 b7 b8 b9) → W (n + 1) a1 a2 a3 a4 a5 a6 a7 a8 a9) (a1 : A1) (a2 : A2) (a3 : A3) (a4 : A4) (a5 : A5) (a6 : A6) (a7 : A7) (a8 : A8) (a9 : A9) (h : I a1 a2 a3 a4 a5 a6 a7 a8 a9) : ∃ n, W n a1 a2 a3 a4 a5 a6 a7 a8 a9 :=
  loop_m (σ := A1 × A2 × A3 × A4 × A5 × A6 × A7 × A8 × A9) (fun n s => W n s.1 s.2.1 s.2.2.1 s.2.2.2.1 s.2.2.2.2.1 s.2.2.2.2.2.1 s.2.2.2.2.2.2.1 s.2.2.2.2.2.2.2.1 s.2.2.2.2.2.2.2.2) (fun s => I s.1 s.2.1 s.2.2.1 s.2.2.2.1 s.2.2.2.2.1 s.2.2.2.2.2.1 s.2.2.2.2.2.2.1 s.2.2.2.2.2.2.2.1 s.2.2.2.2.2.2.2.2) (fun s => μ s.1 s.2.1 s.2.2.1 s.2.2.2.1 s.2.2.2.2.1 s.2.2.2.2.2.1 s.2.2.2.2.2.2.1 s.2.2.2.2.2.2.2.1 s.2.2.2.2.2.2.2.2) (fun n s hI hk => hs n s.1 s.2.1 s.2.2.1 s.2.2.2.1 s.2.2.2.2.1 s.2.2.2.2.2.1 s.2.2.2.2.2.2.1 s.2.2.2.2.2.2.2.1 s.2.2.2.2.2.2.2.2 hI (fun b1 b2 b3 b4 b5 b6 b7 b8 b9 h9 hm => hk (b1, b2, b3, b4, b5, b6, b7, b8, b9) h9 hm)) (a1, a2, a3, a4, a5, a6, a7, a8, a9) h
theorem lp10 {A1 A2 A3 A4 A5 A6 A7 A8 A9 A10 : Type} (W : Nat → A1 → A2 → A3 → A4 → A5 → A6 → A7 → A8 → A9 → A10 → Prop) (I : A1 → A2 → A3 → A4 → A5 → A6 → A7 → A8 → A9 → A10 → Prop) (μ : A1 → A2 → A3 → A4 → A5 → A6 → A7 → A8 → A9 → A10 → Nat) (hs : ∀ (n : Nat) (a1 : A1) (a2 : A2) (a3 : A3) (a4 : A4) (a5 : A5) (a6 : A6) (a7 : A7) (a8 : A8) (a9 : A9) (a10 : A10), I a1 a2 a3 a4 a5 a6 a7 a8 a9 a10 → (∀ (b1 : A1) (b2 : A2) (b3 : A3) (b4 : A4) (b5 : A5) (b6 : A6) (b7 : A7) (b8 : A8) (b9 : A9) (b10 : A10), I b1 b2 b3 b4 b5 b6 b7 b8 b9 b10 → μ b1 b2 b3 b4 b5 b6 b7 b8 b9 b10 < μ a1 a2 a3 a4 a5 a6 a7 a8 a9 a10 → W n b1 b2 b3 b4 b5 b6 b7 b8 b9 b10) → W (n + 1) a1 a2 a3 a4 a5 a6 a7 a8 a9 a10) (a1 : A1) (a2 : A2) (a3 : A3) (a4 : A4) (a5 : A5) (a6 : A6) (a7 : A7) (a8 : A8) (a9 : A9) (a10 : A10) (h : I a1 a2 a3 a4 a5 a6 a7 a8 a9 a10) : ∃ n, W n a1 a2 a3 a4 a5 a6 a7 a8 a9 a10 :=
  loop_m (σ := A1 × A2 × A3 × A4 × A5 × A6 × A7 × A8 × A9 × A10) (fun n s => W n s.1 s.2.1 s.2.2.1 s.2.2.2.1 s.2.2.2.2.1 s.2.2.2.2.2.1 s.2.2.2.2.2.2.1 s.2.2.2.2.2.2.2.1 s.2.2.2.2.2.2.2.2.1 s.2.2.2.2.2.2.2.2.2) (fun s => I s.1 s.2.1 s.2.2.1 s.2.2.2.1 s.2.2.2.2.1 s.2.2.2.2.2.1 s.2.2.2.2.2.2.1 s.2.2.2.2.2.2.2.1 s.2.2.2.2.2.2.2.2.1 s.2.2.2.2.2.2.2.2.2) (fun s => μ s.1 s.2.1 s.2.2.1 s.2.2.2.1 s.2.2.2.2.1 s.2.2.2.2.2.1 s.2.2.2.2.2.2.1 s.2.2.2.2.2.2.2.1 s.2.2.2.2.2.2.2.2.1 s.2.2.2.2.2.2.2.2.2) (fun n s hI hk => hs n s.1 s.2.1 s.2.2.1 s.2.2.2.1 s.2.2.2.2.1 s.2.2.2.2.2.1 s.2.2.2.2.2.2.1 s.2.2.2.2.2.2.2.1 s.2.2.2.2.2.2.2.2.1 s.2.2.2.2.2.2.2.2.2 hI (fun b1 b2 b3 b4 b5 b6 b7 b8 b9 b10 h9 hm => hk (b1, b2, b3, b4, b5, b6, b7, b8, b9, b10) h9 hm)) (a1, a2, a3, a4, a5, a6, a7, a8, a9, a10) h
theorem lp11 {A1 A2 A3 A4 A5 A6 A7 A8 A9 A10 A11 : Type} (W : Nat → A1 → A2 → A3 → A4 → A5 → A6 → A7 → A8 → A9 → A10 → A11 → Prop) (I : A1 → A2 → A3 → A4 → A5 → A6 → A7 → A8 → A9 → A10 → A11 → Prop) (μ : A1 → A2 → A3 → A4 → A5 → A6 → A7 → A8 → A9 → A10 → A11 → Nat) (hs : ∀ (n : Nat) (a1 : A1) (a2 : A2) (a3 : A3) (a4 : A4) (a5 : A5) (a6 : A6) (a7 : A7) (a8 : A8) (a9 : A9) (a10 : A10) (a11 : A11), I a1 a2 a3 a4 a5 a6 a7 a8 a9 a10 a11 → (∀ (b1 : A1) (b2 : A2) (b3 : A3) (b4 : A4) (b5 : A5) (b6 : A6) (b7 : A7) (b8 : A8) (b9 : A9) (b10 : A10) (b11 : A11), I b1 b2 b3 b4 b5 b6 b7 b8 b9 b10 b11 → μ b1 b2 b3 b4 b5 b6 b7 b8 b9 b10 b11 < μ a1 a2 a3 a4 a5 a6 a7 a8 a9 a10 a11 → W n b1 b2 b3 b4 b5 b6 b7 b8 b9 b10 b11) → W (n + 1) a1 a2 a3 a4 a5 a6 a7 a8 a9 a10 a11) (a1 : A1) (a2 : A2) (a3 : A3) (a4 : A4) (a5 : A5) (a6 : A6) (a7 : A7) (a8 : A8) (a9 : A9) (a10 : A10) (a11 : A11) (h : I a1 a2 a3 a4 a5 a6 a7 a8 a9 a10 a11) : ∃ n, W n a1 a2 a3 a4 a5 a6 a7 a8 a9 a10 a11 :=
  loop_m (σ := A1 × A2 × A3 × A4 × A5 × A6 × A7 × A8 × A9 × A10 × A11) (fun n s => W n s.1 s.2.1 s.2.2.1 s.2.2.2.1 s.2.2.2.2.1 s.2.2.2.2.2.1 s.2.2.2.2.2.2.1 s.2.2.2.2.2.2.2.1 s.2.2.2.2.2.2.2.2.1 s.2.2.2.2.2.2.2.2.2.1 s.2.2.2.2.2.2.2.2.2.2) (fun s => I s.1 s.2.1 s.2.2.1 s.2.2.2.1 s.2.2.2.2.1 s.2.2.2.2.2.1 s.2.2.2.2.2.2.1 s.2.2.2.2.2.2.2.1 s.2.2.2.2.2.2.2.2.1 s.2.2.2.2.2.2.2.2.2.1 s.2.2.2.2.2.2.2.2.2.2) (fun s => μ s.1 s.2.1 s.2.2.1 s.2.2.2.1 s.2.2.2.2.1 s.2.2.2.2.2.1 s.2.2.2.2.2.2.1 s.2.2.2.2.2.2.2.1 s.2.2.2.2.2.2.2.2.1 s.2.2.2.2.2.2.2.2.2.1 s.2.2.2.2.2.2.2.2.2.2) (fun n s hI hk => hs n s.1 s.2.1 s.2.2.1 s.2.2.2.1 s.2.2.2.2.1 s.2.2.2.2.2.1 s.2.2.2.2.2.2.1 s.2.2.2.2.2.2.2.1 s.2.2.2.2.2.2.2.2.1 s.2.2.2.2.2.2.2.2.2.1 s.2.2.2.2.2.2.2.2.2.2 hI (fun b1 b2 b3 b4 b5 b6 b7 b8 b9 b10 b11 h9 hm => hk (b1, b2, b3, b4, b5, b6, b7, b8, b9, b10, b11) h9 hm)) (a1, a2, a3, a4, a5, a6, a7, a8, a9, a10, a11) h
theorem lp12 {A1 A2 A3 A4 A5 A6 A7 A8 A9 A10 A11 A12 : Type} (W : Nat → A1 → A2 → A3 → A4 → A5 → A6 → A7 → A8 → A9 → A10 → A11 → A12 → Prop) (I : A1 → A2 → A3 → A4 → A5 → A6 → A7 → A8 → A9 → A10 → A11 → A12 → Prop) (μ : A1 → A2 → A3 → A4 → A5 → A6 → A7 → A8 → A9 → A10 → A11 → A12 → Nat) (hs : ∀ (n : Nat) (a1 : A1) (a2 : A2) (a3 : A3) (a4 : A4) (a5 : A5) (a6 : A6) (a7 : A7) (a8 : A8) (a9 : A9) (a10 : A10) (a11 : A11) (a12 : A12), I a1 a2 a3 a4 a5 a6 a7 a8 a9 a10 a11 a12 → (∀ (b1 : A1) (b2 : A2) (b3 : A3) (b4 : A4) (b5 : A5) (b6 : A6) (b7 : A7) (b8 : A8) (b9 : A9) (b10 : A10) (b11 : A11) (b12 : A12), I b1 b2 b3 b4 b5 b6 b7 b8 b9 b10 b11 b12 → μ b1 b2 b3 b4 b5 b6 b7 b8 b9 b10 b11 b12 < μ a1 a2 a3 a4 a5 a6 a7 a8 a9 a10 a11 a12 → W n b1 b2 b3 b4 b5 b6 b7 b8 b9 b10 b11 b12) → W (n + 1) a1 a2 a3 a4 a5 a6 a7 a8 a9 a10 a11 a12) (a1 : A1) (a2 : A2) (a3 : A3) (a4 : A4) (a5 : A5) (a6 : A6) (a7 : A7) (a8 : A8) (a9 : A9) (a10 : A10) (a11 : A11) (a12 : A12) (h : I a1 a2 a3 a4 a5 a6 a7 a8 a9 a10 a11 a12) : ∃ n, W n a1 a2 a3 a4 a5 a6 a7 a8 a9 a10 a11 a12 :=
  loop_m (σ := A1 × A2 × A3 × A4 × A5 × A6 × A7 × A8 × A9 × A10 × A11 × A12) (fun n s => W n s.1 s.2.1 s.2.2.1 s.2.2.2.1 s.2.2.2.2.1 s.2.2.2.2.2.1 s.2.2.2.2.2.2.1 s.2.2.2.2.2.2.2.1 s.2.2.2.2.2.2.2.2.1 s.2.2.2.2.2.2.2.2.2.1 s.2.2.2.2.2.2.2.2.2.2.1 s.2.2.2.2.2.2.2.2.2.2.2) (fun s => I s.1 s.2.1 s.2.2.1 s.2.2.2.1 s.2.2.2.2.1 s.2.2.2.2.2.1 s.2.2.2.2.2.2.1 s.2.2.2.2.2.2.2.1 s.2.2.2.2.2.2.2.2.1 s.2.2.2.2.2.2.2.2.2.1 s.2.2.2.2.2.2.2.2.2.2.1 s.2.2.2.2.2.2.2.2.2.2.2) (fun s => μ s.1 s.2.1 s.2.2.1 s.2.2.2.1 s.2.2.2.2.1 s.2.2.2.2.2.1 s.2.2.2.2.2.2.1 s.2.2.2.2.2.2.2.1 s.2.2.2.2.2.2.2.2.1 s.2.2.2.2.2.2.2.2.2.1 s.2.2.2.2.2.2.2.2.2.2.1 s.2.2.2.2.2.2.2.2.2.2.2) (fun n s hI hk => hs n s.1 s.2.1 s.2.2.1 s.2.2.2.1 s.2.2.2.2.1 s.2.2.2.2.2.1 s.2.2.2.2.2.2.1 s.2.2.2.2.2.2.2.1 s.2.2.2.2.2.2.2.2.1 s.2.2.2.2.2.2.2.2.2.1 s.2.2.2.2.2.2.2.2.2.2.1 s.2.2.2.2.2.2.2.2.2.2.2 hI (fun b1 b2 b3 b4 b5 b6 b7 b8 b9 b10 b11 b12 h9 hm => hk (b1, b2, b3, b4, b5, b6, b7, b8, b9, b10, b11, b12) h9 hm)) (a1, a2, a3, a4, a5, a6, a7, a8, a9, a10, a11, a12) h
theorem lp13 {A1 A2 A3 A4 A5 A6 A7 A8 A9 A10 A11 A12 A13 : Type} (W : Nat → A1 → A2 → A3 → A4 → A5 → A6 → A7 → A8 → A9 → A10 → A11 → A12 → A13 → Prop) (I : A1 → A2 → A3 → A4 → A5 → A6 → A7 → A8 → A9 → A10 → A11 → A12 → A13 → Prop) (μ : A1 → A2 → A3 → A4 → A5 → A6 → A7 → A8 → A9 → A10 → A11 → A12 → A13 → Nat) (hs : ∀ (n : Nat) (a1 : A1) (a2 : A2) (a3 : A3) (a4 : A4) (a5 : A5) (a6 : A6) (a7 : A7) (a8 : A8) (a9 : A9) (a10 : A10) (a11 : A11) (a12 : A12) (a13 : A13), I a1 a2 a3 a4 a5 a6 a7 a8 a9 a10 a11 a12 a13 → (∀ (b1 : A1) (b2 : A2) (b3 : A3) (b4 : A4) (b5 : A5) (b6 : A6) (b7 : A7) (b8 : A8) (b9 : A9) (b10 : A10) (b11 : A11) (b12 : A12) (b13 : A13), I b1 b2 b3 b4 b5 b6 b7 b8 b9 b10 b11 b12 b13 → μ b1 b2 b3 b4 b5 b6 b7 b8 b9 b10 b11 b12 b13 < μ a1 a2 a3 a4 a5 a6 a7 a8 a9 a10 a11 a12 a13 → W n b1 b2 b3 b4 b5 b6 b7 b8 b9 b10 b11 b12 b13) → W (n + 1) a1 a2 a3 a4 a5 a6 a7 a8 a9 a10 a11 a12 a13) (a1 : A1) (a2 : A2) (a3 : A3) (a4 : A4) (a5 : A5) (a6 : A6) (a7 : A7) (a8 : A8) (a9 : A9) (a10 : A10) (a11 : A11) (a12 : A12) (a13 : A13) (h : I a1 a2 a3 a4 a5 a6 a7 a8 a9 a10 a11 a12 a13) : ∃ n, W n a1 a2 a3 a4 a5 a6 a7 a8 a9 a10 a11 a12 a13 :=
  loop_m (σ := A1 × A2 × A3 × A4 × A5 × A6 × A7 × A8 × A9 × A10 × A11 × A12 × A13) (fun n s => W n s.1 s.2.1 s.2.2.1 s.2.2.2.1 s.2.2.2.2.1 s.2.2.2.2.2.1 s.2.2.2.2.2.2.1 s.2.2.2.2.2.2.2.1 s.2.2.2.2.2.2.2.2.1 s.2.2.2.2.2.2.2.2.2.1 s.2.2.2.2.2.2.2.2.2.2.1 s.2.2.2.2.2.2.2.2.2.2.2.1 s.2.2.2.2.2.2.2.2.2.2.2.2) (fun s => I s.1 s.2.1 s.2.2.1 s.2.2.2.1 s.2.2.2.2.1 s.2.2.2.2.2.1 s.2.2.2.2.2.2.1 s.2.2.2.2.2.2.2.1 s.2.2.2.2.2.2.2.2.1 s.2.2.2.2.2.2.2.2.2.1 s.2.2.2.2.2.2.2.2.2.2.1 s.2.2.2.2.2.2.2.2.2.2.2.1 s.2.2.2.2.2.2.2.2.2.2.2.2) (fun s => μ s.1 s.2.1 s.2.2.1 s.2.2.2.1 s.2.2.2.2.1 s.2.2.2.2.2.1 s.2.2.2.2.2.2.1 s.2.2.2.2.2.2.2.1 s.2.2.2.2.2.2.2.2.1 s.2.2.2.2.2.2.2.2.2.1 s.2.2.2.2.2.2.2.2.2.2.1 s.2.2.2.2.2.2.2.2.2.2.2.1 s.2.2.2.2.2.2.2.2.2.2.2.2) (fun n s hI hk => hs n s.1 s.2.1 s.2.2.1 s.2.2.2.1 s.2.2.2.2.1 s.2.2.2.2.2.1 s.2.2.2.2.2.2.1 s.2.2.2.2.2.2.2.1 s.2.2.2.2.2.2.2.2.1 s.2.2.2.2.2.2.2.2.2.1 s.2.2.2.2.2.2.2.2.2.2.1 s.2.2.2.2.2.2.2.2.2.2.2.1 s.2.2.2.2.2.2.2.2.2.2.2.2 hI (fun b1 b2 b3 b4 b5 b6 b7 b8 b9 b10 b11 b12 b13 h9 hm => hk (b1, b2, b3, b4, b5, b6, b7, b8, b9, b10, b11, b12, b13) h9 hm)) (a1, a2, a3, a4, a5, a6, a7, a8, a9, a10, a11, a12, a13) h
theorem lp14 {A1 A2 A3 A4 A5 A6 A7 A8 A9 A10 A11 A12 A13 A14 : Type} (W : Nat → A1 → A2 → A3 → A4 → A5 → A6 → A7 → A8 → A9 → A10 → A11 → A12 → A13 → A14 → Prop) (I : A1 → A2 → A3 → A4 → A5 → A6 → A7 → A8 → A9 → A10 → A11 → A12 → A13 → A14 → Prop) (μ : A1 → A2 → A3 → A4 → A5 → A6 → A7 → A8 → A9 → A10 → A11 → A12 → A13 → A14 → Nat) (hs : ∀ (n : Nat) (a1 : A1) (a2 : A2) (a3 : A3) (a4 : A4) (a5 : A5) (a6 : A6) (a7 : A7) (a8 : A8) (a9 : A9) (a10 : A10) (a11 : A11) (a12 : A12) (a13 : A13) (a14 : A14), I a1 a2 a3 a4 a5 a6 a7 a8 a9 a10 a11 a12 a13 a14 → (∀ (b1 : A1) (b2 : A2) (b3 : A3) (b4 : A4) (b5 : A5) (b6 : A6) (b7 : A7) (b8 : A8) (b9 : A9) (b10 : A10) (b11 : A11) (b12 : A12) (b13 : A13) (b14 : A14), I b1 b2 b3 b4 b5 b6 b7 b8 b9 b10 b11 b12 b13 b14 → μ b1 b2 b3 b4 b5 b6 b7 b8 b9 b10 b11 b12 b13 b14 < μ a1 a2 a3 a4 a5 a6 a7 a8 a9 a10 a11 a12 a13 a14 → W n b1 b2 b3 b4 b5 b6 b7 b8 b9 b10 b11 b12 b13 b14) → W (n + 1) a1 a2 a3 a4 a5 a6 a7 a8 a9 a10 a11 a12 a13 a14) (a1 : A1) (a2 : A2) (a3 : A3) (a4 : A4) (a5 : A5) (a6 : A6) (a7 : A7) (a8 : A8) (a9 : A9) (a10 : A10) (a11 : A11) (a12 : A12) (a13 : A13) (a14 : A14) (h : I a1 a2 a3 a4 a5 a6 a7 a8 a9 a10 a11 a12 a13 a14) : ∃ n, W n a1 a2 a3 a4 a5 a6 a7 a8 a9 a10 a11 a12 a13 a14 :=
  loop_m (σ := A1 × A2 × A3 × A4 × A5 × A6 × A7 × A8 × A9 × A10 × A11 × A12 × A13 × A14) (fun n s => W n s.1 s.2.1 s.2.2.1 s.2.2.2.1 s.2.2.2.2.1 s.2.2.2.2.2.1 s.2.2.2.2.2.2.1 s.2.2.2.2.2.2.2.1 s.2.2.2.2.2.2.2.2.1 s.2.2.2.2.2.2.2.2.2.1 s.2.2.2.2.2.2.2.2.2.2.1 s.2.2.2.2.2.2.2.2.2.2.2.1 s.2.2.2.2.2.2.2.2.2.2.2.2.1 s.2.2.2.2.2.2.2.2.2.2.2.2.2) (fun s => I s.1 s.2.1 s.2.2.1 s.2.2.2.1 s.2.2.2.2.1 s.2.2.2.2.2.1 s.2.2.2.2.2.2.1 s.2.2.2.2.2.2.2.1 s.2.2.2.2.2.2.2.2.1 s.2.2.2.2.2.2.2.2.2.1 s.2.2.2.2.2.2.2.2.2.2.1 s.2.2.2.2.2.2.2.2.2.2.2.1 s.2.2.2.2.2.2.2.2.2.2.2.2.1 s.2.2.2.2.2.2.2.2.2.2.2.2.2) (fun s => μ s.1 s.2.1 s.2.2.1 s.2.2.2.1 s.2.2.2.2.1 s.2.2.2.2.2.1 s.2.2.2.2.2.2.1 s.2.2.2.2.2.2.2.1 s.2.2.2.2.2.2.2.2.1 s.2.2.2.2.2.2.2.2.2.1 s.2.2.2.2.2.2.2.2.2.2.1 s.2.2.2.2.2.2.2.2.2.2.2.1 s.2.2.2.2.2.2.2.2.2.2.2.2.1 s.2.2.2.2.2.2.2.2.2.2.2.2.2) (fun n s hI hk => hs n s.1 s.2.1 s.2.2.1 s.2.2.2.1 s.2.2.2.2.1 s.2.2.2.2.2.1 s.2.2.2.2.2.2.1 s.2.2.2.2.2.2.2.1 s.2.2.2.2.2.2.2.2.1 s.2.2.2.2.2.2.2.2.2.1 s.2.2.2.2.2.2.2.2.2.2.1 s.2.2.2.2.2.2.2.2.2.2.2.1 s.2.2.2.2.2.2.2.2.2.2.2.2.1 s.2.2.2.2.2.2.2.2.2.2.2.2.2 hI (fun b1 b2 b3 b4 b5 b6 b7 b8 b9 b10 b11 b12 b13 b14 h9 hm => hk (b1, b2, b3, b4, b5, b6, b7, b8, b9, b10, b11, b12, b13, b14) h9 hm)) (a1, a2, a3, a4, a5, a6, a7, a8, a9, a10, a11, a12, a13, a14) h
theorem lp15 {A1 A2 A3 A4 A5 A6 A7 A8 A9 A10 A11 A12 A13 A14 A15 : Type} (W : Nat → A1 → A2 → A3 → A4 → A5 → A6 → A7 → A8 → A9 → A10 → A11 → A12 → A13 → A14 → A15 → Prop) (I : A1 → A2 → A3 → A4 → A5 → A6 → A7 → A8 → A9 → A10 → A11 → A12 → A13 → A14 → A15 → Prop) (μ : A1 → A2 → A3 → A4 → A5 → A6 → A7 → A8 → A9 → A10 → A11 → A12 → A13 → A14 → A15 → Nat) (hs : ∀ (n : Nat) (a1 : A1) (a2 : A2) (a3 : A3) (a4 : A4) (a5 : A5) (a6 : A6) (a7 : A7) (a8 : A8) (a9 : A9) (a10 : A10) (a11 : A11) (a12 : A12) (a13 : A13) (a14 : A14) (a15 : A15), I a1 a2 a3 a4 a5 a6 a7 a8 a9 a10 a11 a12 a13 a14 a15 → (∀ (b1 : A1) (b2 : A2) (b3 : A3) (b4 : A4) (b5 : A5) (b6 : A6) (b7 : A7) (b8 : A8) (b9 : A9) (b10 : A10) (b11 : A11) (b12 : A12) (b13 : A13) (b14 : A14) (b15 : A15), I b1 b2 b3 b4 b5 b6 b7 b8 b9 b10 b11 b12 b13 b14 b15 → μ b1 b2 b3 b4 b5 b6 b7 b8 b9 b10 b11 b12 b13 b14 b15 < μ a1 a2 a3 a4 a5 a6 a7 a8 a9 a10 a11 a12 a13 a14 a15 → W n b1 b2 b3 b4 b5 b6 b7 b8 b9 b10 b11 b12 b13 b14 b15) → W (n + 1) a1 a2 a3 a4 a5 a6 a7 a8 a9 a10 a11 a12 a13 a14 a15) (a1 : A1) (a2 : A2) (a3 : A3) (a4 : A4) (a5 : A5) (a6 : A6) (a7 : A7) (a8 : A8) (a9 : A9) (a10 : A10) (a11 : A11) (a12 : A12) (a13 : A13) (a14 : A14) (a15 : A15) (h : I a1 a2 a3 a4 a5 a6 a7 a8 a9 a10 a11 a12 a13 a14 a15) : ∃ n, W n a1 a2 a3 a4 a5 a6 a7 a8 a9 a10 a11 a12 a13 a14 a15 :=
  loop_m (σ := A1 × A2 × A3 × A4 × A5 × A6 × A7 × A8 × A9 × A10 × A11 × A12 × A13 × A14 × A15) (fun n s => W n s.1 s.2.1 s.2.2.1 s.2.2.2.1 s.2.2.2.2.1 s.2.2.2.2.2.1 s.2.2.2.2.2.2.1 s.2.2.2.2.2.2.2.1 s.2.2.2.2.2.2.2.2.1 s.2.2.2.2.2.2.2.2.2.1 s.2.2.2.2.2.2.2.2.2.2.1 s.2.2.2.2.2.2.2.2.2.2.2.1 s.2.2.2.2.2.2.2.2.2.2.2.2.1 s.2.2.2.2.2.2.2.2.2.2.2.2.2.1 s.2.2.2.2.2.2.2.2.2.2.2.2.2.2) (fun s => I s.1 s.2.1 s.2.2.1 s.2.2.2.1 s.2.2.2.2.1 s.2.2.2.2.2.1 s.2.2.2.2.2.2.1 s.2.2.2.2.2.2.2.1 s.2.2.2.2.2.2.2.2.1 s.2.2.2.2.2.2.2.2.2.1 s.2.2.2.2.2.2.2.2.2.2.1 s.2.2.2.2.2.2.2.2.2.2.2.1 s.2.2.2.2.2.2.2.2.2.2.2.2.1 s.2.2.2.2.2.2.2.2.2.2.2.2.2.1 s.2.2.2.2.2.2.2.2.2.2.2.2.2.2) (fun s => μ s.1 s.2.1 s.2.2.1 s.2.2.2.1 s.2.2.2.2.1 s.2.2.2.2.2.1 s.2.2.2.2.2.2.1 s.2.2.2.2.2.2.2.1 s.2.2.2.2.2.2.2.2.1 s.2.2.2.2.2.2.2.2.2.1 s.2.2.2.2.2.2.2.2.2.2.1 s.2.2.2.2.2.2.2.2.2.2.2.1 s.2.2.2.2.2.2.2.2.2.2.2.2.1 s.2.2.2.2.2.2.2.2.2.2.2.2.2.1 s.2.2.2.2.2.2.2.2.2.2.2.2.2.2) (fun n s hI hk => hs n s.1 s.2.1 s.2.2.1 s.2.2.2.1 s.2.2.2.2.1 s.2.2.2.2.2.1 s.2.2.2.2.2.2.1 s.2.2.2.2.2.2.2.1 s.2.2.2.2.2.2.2.2.1 s.2.2.2.2.2.2.2.2.2.1 s.2.2.2.2.2.2.2.2.2.2.1 s.2.2.2.2.2.2.2.2.2.2.2.1 s.2.2.2.2.2.2.2.2.2.2.2.2.1 s.2.2.2.2.2.2.2.2.2.2.2.2.2.1 s.2.2.2.2.2.2.2.2.2.2.2.2.2.2 hI (fun b1 b2 b3 b4 b5 b6 b7 b8 b9 b10 b11 b12 b13 b14 b15 h9 hm => hk (b1, b2, b3, b4, b5, b6, b7, b8, b9, b10, b11, b12, b13, b14, b15) h9 hm)) (a1, a2, a3, a4, a5, a6, a7, a8, a9, a10, a11, a12, a13, a14, a15) h
theorem lp16 {A1 A2 A3 A4 A5 A6 A7 A8 A9 A10 A11 A12 A13 A14 A15 A16 : Type} (W : Nat → A1 → A2 → A3 → A4 → A5 → A6 → A7 → A8 → A9 → A10 → A11 → A12 → A13 → A14 → A15 → A16 → Prop) (I : A1 → A2 → A3 → A4 → A5 → A6 → A7 → A8 → A9 → A10 → A11 → A12 → A13 → A14 → A15 → A16 → Prop) (μ : A1 → A2 → A3 → A4 → A5 → A6 → A7 → A8 → A9 → A10 → A11 → A12 → A13 → A14 → A15 → A16 → Nat) (hs : ∀ (n : Nat) (a1 : A1) (a2 : A2) (a3 : A3) (a4 : A4) (a5 : A5) (a6 : A6) (a7 : A7) (a8 : A8) (a9 : A9) (a10 : A10) (a11 : A11) (a12 : A12) (a13 : A13) (a14 : A14) (a15 : A15) (a16 : A16), I a1 a2 a3 a4 a5 a6 a7 a8 a9 a10 a11 a12 a13 a14 a15 a16 → (∀ (b1 : A1) (b2 : A2) (b3 : A3) (b4 : A4) (b5 : A5) (b6 : A6) (b7 : A7) (b8 : A8) (b9 : A9) (b10 : A10) (b11 : A11) (b12 : A12) (b13 : A13) (b14 : A14) (b15 : A15) (b16 : A16), I b1 b2 b3 b4 b5 b6 b7 b8 b9 b10 b11 b12 b13 b14 b15 b16 → μ b1 b2 b3 b4 b5 b6 b7 b8 b9 b10 b11 b12 b13 b14 b15 b16 < μ a1 a2 a3 a4 a5 a6 a7 a8 a9 a10 a11 a12 a13 a14 a15 a16 → W n b1 b2 b3 b4 b5 b6 b7 b8 b9 b10 b11 b12 b13 b14 b15 b16) → W (n + 1) a1 a2 a3 a4 a5 a6 a7 a8 a9 a10 a11 a12 a13 a14 a15 a16) (a1 : A1) (a2 : A2) (a3 : A3) (a4 : A4) (a5 : A5) (a6 : A6) (a7 : A7) (a8 : A8) (a9 : A9) (a10 : A10) (a11 : A11) (a12 : A12) (a13 : A13) (a14 : A14) (a15 : A15) (a16 : A16) (h : I a1 a2 a3 a4 a5 a6 a7 a8 a9 a10 a11 a12 a13 a14 a15 a16) : ∃ n, W n a1 a2 a3 a4 a5 a6 a7 a8 a9 a10 a11 a12 a13 a14 a15 a16 :=
  loop_m (σ := A1 × A2 × A3 × A4 × A5 × A6 × A7 × A8 × A9 × A10 × A11 × A12 × A13 × A14 × A15 × A16) (fun n s => W n s.1 s.2.1 s.2.2.1 s.2.2.2.1 s.2.2.2.2.1 s.2.2.2.2.2.1 s.2.2.2.2.2.2.1 s.2.2.2.2.2.2.2.1 s.2.2.2.2.2.2.2.2.1 s.2.2.2.2.2.2.2.2.2.1 s.2.2.2.2.2.2.2.2.2.2.1 s.2.2.2.2.2.2.2.2.2.2.2.1 s.2.2.2.2.2.2.2.2.2.2.2.2.1 s.2.2.2.2.2.2.2.2.2.2.2.2.2.1 s.2.2.2.2.2.2.2.2.2.2.2.2.2.2.1 s.2.2.2.2.2.2.2.2.2.2.2.2.2.2.2) (fun s => I s.1 s.2.1 s.2.2.1 s.2.2.2.1 s.2.2.2.2.1 s.2.2.2.2.2.1 s.2.2.2.2.2.2.1 s.2.2.2.2.2.2.2.1 s.2.2.2.2.2.2.2.2.1 s.2.2.2.2.2.2.2.2.2.1 s.2.2.2.2.2.2.2.2.2.2.1 s.2.2.2.2.2.2.2.2.2.2.2.1 s.2.2.2.2.2.2.2.2.2.2.2.2.1 s.2.2.2.2.2.2.2.2.2.2.2.2.2.1 s.2.2.2.2.2.2.2.2.2.2.2.2.2.2.1 s.2.2.2.2.2.2.2.2.2.2.2.2.2.2.2) (fun s => μ s.1 s.2.1 s.2.2.1 s.2.2.2.1 s.2.2.2.2.1 s.2.2.2.2.2.1 s.2.2.2.2.2.2.1 s.2.2.2.2.2.2.2.1 s.2.2.2.2.2.2.2.2.1 s.2.2.2.2.2.2.2.2.2.1 s.2.2.2.2.2.2.2.2.2.2.1 s.2.2.2.2.2.2.2.2.2.2.2.1 s.2.2.2.2.2.2.2.2.2.2.2.2.1 s.2.2.2.2.2.2.2.2.2.2.2.2.2.1 s.2.2.2.2.2.2.2.2.2.2.2.2.2.2.1 s.2.2.2.2.2.2.2.2.2.2.2.2.2.2.2) (fun n s hI hk => hs n s.1 s.2.1 s.2.2.1 s.2.2.2.1 s.2.2.2.2.1 s.2.2.2.2.2.1 s.2.2.2.2.2.2.1 s.2.2.2.2.2.2.2.1 s.2.2.2.2.2.2.2.2.1 s.2.2.2.2.2.2.2.2.2.1 s.2.2.2.2.2.2.2.2.2.2.1 s.2.2.2.2.2.2.2.2.2.2.2.1 s.2.2.2.2.2.2.2.2.2.2.2.2.1 s.2.2.2.2.2.2.2.2.2.2.2.2.2.1 s.2.2.2.2.2.2.2.2.2.2.2.2.2.2.1 s.2.2.2.2.2.2.2.2.2.2.2.2.2.2.2 hI (fun b1 b2 b3 b4 b5 b6 b7 b8 b9 b10 b11 b12 b13 b14 b15 b16 h9 hm => hk (b1, b2, b3, b4, b5, b6, b7, b8, b9, b10, b11, b12, b13, b14, b15, b16) h9 hm)) (a1, a2, a3, a4, a5, a6, a7, a8, a9, a10, a11, a12, a13, a14, a15, a16) h
theorem pk_least (P : Nat → Prop) (h : ∃ k, P k) : ∃ k, P k ∧ ∀ j, j < k → ¬ P j := by
  obtain ⟨k, hk⟩ := h
  induction k using Nat.strongRecOn with
  | ind k ih =>
    by_cases e : ∃ j, j < k ∧ P j
    · obtain ⟨j, hj, pj⟩ := e
      exact ih j hj pj
    · exact ⟨k, hk, fun j hj pj => e ⟨j, hj, pj⟩⟩
theorem rp1 {ρ A1 : Type} (W : Nat → (ρ → Prop) → A1 → Prop) (ok : A1 → Prop) (μ : A1 → Nat) (val : A1 → ρ)
    (hs : ∀ (d : Nat) (post : ρ → Prop) (a1 : A1), ok a1 → post (val a1) → (∀ (post' : ρ → Prop) (b1 : A1), ok b1 → μ b1 < μ a1 → post' (val b1) → W d post' b1) → W (d + 1) post a1) :
    ∀ (d : Nat) (post : ρ → Prop) (a1 : A1), ok a1 → μ a1 < d → post (val a1) → W d post a1 := by
  intro d
  induction d with
  | zero => intro post a1 _ h; omega
  | succ d ih =>
    intro post a1 ho hm hp
    exact hs d post a1 ho hp (fun post' b1 ho' hm' hp' => ih post' b1 ho' (by omega) hp')
theorem rp2 {ρ A1 A2 : Type} (W : Nat → (ρ → Prop) → A1 → A2 → Prop) (ok : A1 → A2 → Prop) (μ : A1 → A2 → Nat) (val : A1 → A2 → ρ)
    (hs : ∀ (d : Nat) (post : ρ → Prop) (a1 : A1) (a2 : A2), ok a1 a2 → post (val a1 a2) → (∀ (post' : ρ → Prop) (b1 : A1) (b2 : A2), ok b1 b2 → μ b1 b2 < μ a1 a2 → post' (val b1 b2) → W d post' b1 b2) → W (d + 1) post a1 a2) :
    ∀ (d : Nat) (post : ρ → Prop) (a1 : A1) (a2 : A2), ok a1 a2 → μ a1 a2 < d → post (val a1 a2) → W d post a1 a2 := by
  intro d
  induction d with
  | zero => intro post a1 a2 _ h; omega
  | succ d ih =>
    intro post a1 a2 ho hm hp
    exact hs d post a1 a2 ho hp (fun post' b1 b2 ho' hm' hp' => ih post' b1 b2 ho' (by omega) hp')
theorem rp3 {ρ A1 A2 A3 : Type} (W : Nat → (ρ → Prop) → A1 → A2 → A3 → Prop) (ok : A1 → A2 → A3 → Prop) (μ : A1 → A2 → A3 → Nat) (val : A1 → A2 → A3 → ρ)
    (hs : ∀ (d : Nat) (post : ρ → Prop) (a1 : A1) (a2 : A2) (a3 : A3), ok a1 a2 a3 → post (val a1 a2 a3) → (∀ (post' : ρ → Prop) (b1 : A1) (b2 : A2) (b3 : A3), ok b1 b2 b3 → μ b1 b2 b3 < μ a1 a2 a3 → post' (val b1 b2 b3) → W d post' b1 b2 b3) → W (d + 1) post a1 a2 a3) :
    ∀ (d : Nat) (post : ρ → Prop) (a1 : A1) (a2 : A2) (a3 : A3), ok a1 a2 a3 → μ a1 a2 a3 < d → post (val a1 a2 a3) → W d post a1 a2 a3 := by
  intro d
  induction d with
  | zero => intro post a1 a2 a3 _ h; omega
  | succ d ih =>
    intro post a1 a2 a3 ho hm hp
    exact hs d post a1 a2 a3 ho hp (fun post' b1 b2 b3 ho' hm' hp' => ih post' b1 b2 b3 ho' (by omega) hp')
theorem rp4 {ρ A1 A2 A3 A4 : Type} (W : Nat → (ρ → Prop) → A1 → A2 → A3 → A4 → Prop) (ok : A1 → A2 → A3 → A4 → Prop) (μ : A1 → A2 → A3 → A4 → Nat) (val : A1 → A2 → A3 → A4 → ρ)
    (hs : ∀ (d : Nat) (post : ρ → Prop) (a1 : A1) (a2 : A2) (a3 : A3) (a4 : A4), ok a1 a2 a3 a4 → post (val a1 a2 a3 a4) → (∀ (post' : ρ → Prop) (b1 : A1) (b2 : A2) (b3 : A3) (b4 : A4), ok b1 b2 b3 b4 → μ b1 b2 b3 b4 < μ a1 a2 a3 a4 → post' (val b1 b2 b3 b4) → W d post' b1 b2 b3 b4) → W (d + 1) post a1 a2 a3 a4) :
    ∀ (d : Nat) (post : ρ → Prop) (a1 : A1) (a2 : A2) (a3 : A3) (a4 : A4), ok a1 a2 a3 a4 → μ a1 a2 a3 a4 < d → post (val a1 a2 a3 a4) → W d post a1 a2 a3 a4 := by
  intro d
  induction d with
  | zero => intro post a1 a2 a3 a4 _ h; omega
  | succ d ih =>
    intro post a1 a2 a3 a4 ho hm hp
    exact hs d post a1 a2 a3 a4 ho hp (fun post' b1 b2 b3 b4 ho' hm' hp' => ih post' b1 b2 b3 b4 ho' (by omega) hp')
theorem rp5 {ρ A1 A2 A3 A4 A5 : Type} (W : Nat → (ρ → Prop) → A1 → A2 → A3 → A4 → A5 → Prop) (ok : A1 → A2 → A3 → A4 → A5 → Prop) (μ : A1 → A2 → A3 → A4 → A5 → Nat) (val : A1 → A2 → A3 → A4 → A5 → ρ)
    (hs : ∀ (d : Nat) (post : ρ → Prop) (a1 : A1) (a2 : A2) (a3 : A3) (a4 : A4) (a5 : A5), ok a1 a2 a3 a4 a5 → post (val a1 a2 a3 a4 a5) → (∀ (post' : ρ → Prop) (b1 : A1) (b2 : A2) (b3 : A3) (b4 : A4) (b5 : A5), ok b1 b2 b3 b4 b5 → μ b1 b2 b3 b4 b5 < μ a1 a2 a3 a4 a5 → post' (val b1 b2 b3 b4 b5) → W d post' b1 b2 b3 b4 b5) → W (d + 1) post a1 a2 a3 a4 a5) :
    ∀ (d : Nat) (post : ρ → Prop) (a1 : A1) (a2 : A2) (a3 : A3) (a4 : A4) (a5 : A5), ok a1 a2 a3 a4 a5 → μ a1 a2 a3 a4 a5 < d → post (val a1 a2 a3 a4 a5) → W d post a1 a2 a3 a4 a5 := by
  intro d
  induction d with
  | zero => intro post a1 a2 a3 a4 a5 _ h; omega
  | succ d ih =>
    intro post a1 a2 a3 a4 a5 ho hm hp
    exact hs d post a1 a2 a3 a4 a5 ho hp (fun post' b1 b2 b3 b4 b5 ho' hm' hp' => ih post' b1 b2 b3 b4 b5 ho' (by omega) hp')
theorem rp6 {ρ A1 A2 A3 A4 A5 A6 : Type} (W : Nat → (ρ → Prop) → A1 → A2 → A3 → A4 → A5 → A6 → Prop) (ok : A1 → A2 → A3 → A4 → A5 → A6 → Prop) (μ : A1 → A2 → A3 → A4 → A5 → A6 → Nat) (val : A1 → A2 → A3 → A4 → A5 → A6 → ρ)
    (hs : ∀ (d : Nat) (post : ρ → Prop) (a1 : A1) (a2 : A2) (a3 : A3) (a4 : A4) (a5 : A5) (a6 : A6), ok a1 a2 a3 a4 a5 a6 → post (val a1 a2 a3 a4 a5 a6) → (∀ (post' : ρ → Prop) (b1 : A1) (b2 : A2) (b3 : A3) (b4 : A4) (b5 : A5) (b6 : A6), ok b1 b2 b3 b4 b5 b6 → μ b1 b2 b3 b4 b5 b6 < μ a1 a2 a3 a4 a5 a6 → post' (val b1 b2 b3 b4 b5 b6) → W d post' b1 b2 b3 b4 b5 b6) → W (d + 1) post a1 a2 a3 a4 a5 a6) :
    ∀ (d : Nat) (post : ρ → Prop) (a1 : A1) (a2 : A2) (a3 : A3) (a4 : A4) (a5 : A5) (a6 : A6), ok a1 a2 a3 a4 a5 a6 → μ a1 a2 a3 a4 a5 a6 < d → post (val a1 a2 a3 a4 a5 a6) → W d post a1 a2 a3 a4 a5 a6 := by
  intro d
  induction d with
  | zero => intro post a1 a2 a3 a4 a5 a6 _ h; omega
  | succ d ih =>
    intro post a1 a2 a3 a4 a5 a6 ho hm hp
    exact hs d post a1 a2 a3 a4 a5 a6 ho hp (fun post' b1 b2 b3 b4 b5 b6 ho' hm' hp' => ih post' b1 b2 b3 b4 b5 b6 ho' (by omega) hp')
theorem rec_p {σ ρ : Type} (W : Nat → (ρ → Prop) → σ → Prop) (ok : σ → Prop) (μ : σ → Nat) (val : σ → ρ)
    (hs : ∀ d s post, ok s → post (val s) → (∀ s' post', ok s' → μ s' < μ s → post' (val s') → W d post' s') → W (d + 1) post s) :
    ∀ d s post, ok s → μ s < d → post (val s) → W d post s := by
  intro d
  induction d with
  | zero => intro s post _ h; omega
  | succ d ih =>
    intro s post ho hm hp
    exact hs d s post ho hp (fun s' post' ho' hm' hp' => ih s' post' ho' (by omega) hp')
theorem rec_q {σ ρ : Type} (W : Nat → (ρ → Prop) → σ → Prop) (ok : σ → Prop) (μ : σ → Nat) (Q : σ → ρ → Prop)
    (hs : ∀ d s post, ok s → (∀ r, Q s r → post r) → (∀ s' post', ok s' → μ s' < μ s → (∀ r, Q s' r → post' r) → W d post' s') → W (d + 1) post s) :
    ∀ d s post, ok s → μ s < d → (∀ r, Q s r → post r) → W d post s := by
  intro d
  induction d with
  | zero => intro s post _ h; omega
  | succ d ih =>
    intro s post ho hm hp
    exact hs d s post ho hp (fun s' post' ho' hm' hp' => ih s' post' ho' (by omega) hp')
def bx_sum (f : Nat → Int32) : Nat → Int32
  | 0 => 0
  | n + 1 => bx_sum f n + f n
theorem ek_u {A : Prop} {B : Nat → Prop} {k N : Nat} (hk : k < N) (h : B k) : (some k = none → A) ∧ (∀ y : Nat, some k = some y → (y < N ∧ B y)) :=
  ⟨fun z => absurd z (Option.some_ne_none k), fun _ e => (by cases e; exact ⟨hk, h⟩)⟩
theorem ek_nu {A : Prop} {B : Nat → Prop} (h : A) : ((none : Option Nat) = none → A) ∧ (∀ y : Nat, (none : Option Nat) = some y → B y) :=
  ⟨fun _ => h, fun _ e => (by cases e)⟩
theorem ek_if {c d A B : Prop} (e : c ↔ d) (f : d → A) (g : ¬ d → B) : (c → A) ∧ (¬ c → B) :=
  ⟨fun z => f (e.mp z), fun z => g (fun y => z (e.mpr y))⟩
theorem ek_v {α : Sort _} {P : α → Prop} {a b : α} (e : a = b) (h : P b) : P a := e ▸ h
theorem co_some {x : Option Nat} {A : Prop} {B : Nat → Prop} (i : Nat) (h : B i) (hx : x = some i := by rfl) : (x = none → A) ∧ (∀ y : Nat, x = some y → B y) := by
  subst hx
  exact ⟨fun e => (nomatch e), fun y e => Option.some.inj e ▸ h⟩
theorem co_none {x : Option Nat} {A : Prop} {B : Nat → Prop} (h : A) (hx : x = none := by rfl) : (x = none → A) ∧ (∀ y : Nat, x = some y → B y) := by
  subst hx
  exact ⟨fun _ => h, fun y e => (nomatch e)⟩
theorem co_any {x : Option Nat} {A : Prop} {B : Nat → Prop} (hn : x = none → A) (hs : ∀ i : Nat, x = some i → B i) : (x = none → A) ∧ (∀ y : Nat, x = some y → B y) := ⟨hn, hs⟩
theorem co_2 {P : Nat → Prop} (h0 : P 0) (h1 : P 1) {i : Nat} (hi : i < 2) : P i :=
  match i, hi with
  | 0, _ => h0
  | 1, _ => h1
theorem co_3 {P : Nat → Prop} (h0 : P 0) (h1 : P 1) (h2 : P 2) {i : Nat} (hi : i < 3) : P i :=
  match i, hi with
  | 0, _ => h0
  | 1, _ => h1
  | 2, _ => h2
theorem co_4 {P : Nat → Prop} (h0 : P 0) (h1 : P 1) (h2 : P 2) (h3 : P 3) {i : Nat} (hi : i < 4) : P i :=
  match i, hi with
  | 0, _ => h0
  | 1, _ => h1
  | 2, _ => h2
  | 3, _ => h3
theorem co_dec {N : Nat} {P : Nat → Prop} [DecidablePred P] (h : (List.range N).all (fun i => decide (P i)) = true) {i : Nat} (hi : i < N) : P i := by
  have := List.all_eq_true.mp h i (List.mem_range.mpr hi)
  exact of_decide_eq_true this
theorem co_tab {α : Type} {l : List α} {d : α} {P : α → Prop} (h : ∀ a, a ∈ l → P a) {i : Nat} (hi : i < l.length) : P (l.getD i d) := by
  rw [List.getD_eq_getElem?_getD, List.getElem?_eq_getElem hi]
  exact h _ (List.getElem_mem hi)
theorem pk_mu {x : Int32} {L : Nat} (h0 : ¬ x < 0) (h : ¬ nI L ≤ x) (hL : L < 2 ^ 31) : ∃ j : Nat, j < L ∧ x = nI j ∧ x + 1 = nI (j + 1) ∧ x.toNatClampNeg = j ∧ L - (x + 1).toNatClampNeg < L - x.toNatClampNeg := by
  obtain ⟨j, hj, rfl⟩ := nI_of h0
  have hl : j < L := Nat.not_le.mp fun q => h (nI_le q hj)
  refine ⟨j, hl, rfl, nI_1 j, nI_clamp hj, ?_⟩
  rw [nI_1, nI_clamp (by omega), nI_clamp hj]
  omega
theorem op_s {α : Type} {r : Option α} {A : Prop} {B : α → Prop} {y : α} (h : r = some y) (b : B y) : (r = none → A) ∧ ∀ z, r = some z → B z :=
  ⟨fun e => (by rw [h] at e; cases e), fun z e => (by rw [h] at e; cases e; exact b)⟩
def l_holds {α : Type} (a : Nat → Option Nat) (LP : List Nat) (p : Nat → α) (c : Nat) (b : Nat → α) : Prop :=
  ∀ j, j < c → ∃ y, a j = some y ∧ y ∈ LP ∧ p y = b j
theorem l_holds_0 {α : Type} {a : Nat → Option Nat} {LP : List Nat} {p b : Nat → α} : l_holds a LP p 0 b := fun j h => absurd h (Nat.not_lt_zero j)
theorem l_in_new (LP : List Nat) (q : Nat) : q ∈ LP ++ [q] := List.mem_append.mpr (Or.inr (List.mem_singleton.mpr rfl))
def l_sum (b : Nat → Int32) : Nat → Int32
  | 0 => 0
  | k + 1 => l_sum b k + b k
theorem sb_shr0 (x : Int32) : x >>> ((0 : Int32) &&& 31) = x := by
  rw [show ((0 : Int32) &&& 31) = 0 by decide]
  simp
theorem sb_shl0 (x : Int32) : x <<< ((0 : Int32) &&& 31) = x := by
  rw [show ((0 : Int32) &&& 31) = 0 by decide]
  simp
theorem sb_cl0 : (0 : Int32).toNatClampNeg = 0 := by decide
theorem sb_m1 {p : Nat} (h : 0 < p) : nI p + (-1) = nI (p - 1) := by
  obtain ⟨q, rfl⟩ : ∃ q, p = q + 1 := ⟨p - 1, by omega⟩
  exact pk_m1 q
def sb_b (c : Nat) : Int32 := (nI c).toInt8.toInt32
theorem sb_byte : ∀ c, c < 256 → sb_b c &&& 255 = nI c ∧ ((nI c).toUInt32 % 65536).toInt32 = nI c ∧ nI c ≤ 255 := by decide +kernel
def sb_Fit (a : Nat → Int32) : Prop := ∀ j, fits .byte (.int (a j)) = true
def sb_Lat (t : Nat → Nat) (n : Nat) (a : Nat → Int32) : Prop := ∀ j, j < n → t j < 256 ∧ a j = sb_b (t j)
theorem sb_fitB (c : Nat) : fits .byte (.int (sb_b c)) = true := pk_fb _
theorem sb_fit0 : sb_Fit (fun _ => 0) := fun _ => by
  show fits .byte (.int 0) = true
  decide
theorem sb_fitU {a : Nat → Int32} {k : Nat} {x : Int32} (h : sb_Fit a) (hx : fits .byte (.int x) = true) : sb_Fit (upd a k x) := by
  intro j
  by_cases e : j = k
  · subst e
    rw [pk_us]
    exact hx
  · rw [pk_un e]
    exact h j
def sb_cat (t : Nat → Nat) (n : Nat) (s : Nat → Nat) : Nat → Nat := fun j => if j < n then t j else s (j - n)
theorem sb_cat_lo {t s : Nat → Nat} {n j : Nat} (h : j < n) : sb_cat t n s j = t j := if_pos h
theorem sb_cat_hi {t s : Nat → Nat} {n j : Nat} : sb_cat t n s (n + j) = s j := by
  show (if n + j < n then t (n + j) else s (n + j - n)) = s j
  rw [if_neg (by omega), Nat.add_sub_cancel_left]
theorem sb_latPut {t s : Nat → Nat} {n w : Nat} {a a' : Nat → Int32} (h : sb_Lat t n a) (hk : ∀ j, j < n → a' j = a j) (hs : ∀ i, i < w → s i < 256 ∧ a' (n + i) = sb_b (s i)) : sb_Lat (sb_cat t n s) (n + w) a' := by
  intro j hj
  by_cases e : j < n
  · rw [sb_cat_lo e, hk j e]
    exact h j e
  · obtain ⟨i, rfl⟩ : ∃ i, j = n + i := ⟨j - n, by omega⟩
    rw [sb_cat_hi]
    exact hs i (by omega)
theorem sb_latKeep {t : Nat → Nat} {n : Nat} {a a' : Nat → Int32} (h : sb_Lat t n a) (hk : ∀ j, j < n → a' j = a j) : sb_Lat t n a' := fun j hj => by
  rw [hk j hj]
  exact h j hj
def sb_cap (q m : Nat) : Nat := if q ≤ m then m else if 2 * m + 2 < q then q else 2 * m + 2
def sb_Room (q m mc ms : Nat) : Prop := q ≤ m ∨ (1 ≤ mc ∧ sb_cap q m ≤ ms ∧ sb_cap q m ≤ 65536)
theorem sb_cap_ge (q m : Nat) : q ≤ sb_cap q m := by
  unfold sb_cap
  split
  · omega
  · split <;> omega
theorem sb_cap_gem (q m : Nat) : m ≤ sb_cap q m := by
  unfold sb_cap
  split
  · omega
  · split <;> omega
theorem sb_cap_le {q m mc ms : Nat} (hm : m ≤ 65536) (hr : sb_Room q m mc ms) : sb_cap q m ≤ 65536 := by
  rcases hr with h | h
  · rw [sb_cap, if_pos h]
    exact hm
  · exact h.2.2
theorem sb_at {P : Int32 → Prop} {x y : Int32} (e : x = y) (h : P y) : P x := e ▸ h
def sb_dg (w : Nat) : Nat := if w < 10 then 1 else if w < 100 then 2 else if w < 1000 then 3 else if w < 10000 then 4 else if w < 100000 then 5 else if w < 1000000 then 6 else if w < 10000000 then 7 else if w < 100000000 then 8 else if w < 1000000000 then 9 else 10
def sb_dec (v : Nat) : Nat → Nat := fun i => 48 + v / 10 ^ (sb_dg v - 1 - i) % 10
theorem sb_dg_in (w : Nat) : 1 ≤ sb_dg w ∧ sb_dg w ≤ 10 := by
  unfold sb_dg
  constructor <;> (repeat' split) <;> omega
theorem sb_dg100 {w : Nat} (h : 100 ≤ w) (hw : w < 2 ^ 31) : sb_dg w = sb_dg (w / 100) + 2 := by
  rw [sb_dg, sb_dg, if_neg (show ¬ w < 10 by omega), if_neg (show ¬ w < 100 by omega)]
  by_cases h3 : w < 1000
  · rw [if_pos h3, if_pos (show w / 100 < 10 by omega)]
  rw [if_neg h3, if_neg (show ¬ w / 100 < 10 by omega)]
  by_cases h4 : w < 10000
  · rw [if_pos h4, if_pos (show w / 100 < 100 by omega)]
  rw [if_neg h4, if_neg (show ¬ w / 100 < 100 by omega)]
  by_cases h5 : w < 100000
  · rw [if_pos h5, if_pos (show w / 100 < 1000 by omega)]
  rw [if_neg h5, if_neg (show ¬ w / 100 < 1000 by omega)]
  by_cases h6 : w < 1000000
  · rw [if_pos h6, if_pos (show w / 100 < 10000 by omega)]
  rw [if_neg h6, if_neg (show ¬ w / 100 < 10000 by omega)]
  by_cases h7 : w < 10000000
  · rw [if_pos h7, if_pos (show w / 100 < 100000 by omega)]
  rw [if_neg h7, if_neg (show ¬ w / 100 < 100000 by omega)]
  by_cases h8 : w < 100000000
  · rw [if_pos h8, if_pos (show w / 100 < 1000000 by omega)]
  rw [if_neg h8, if_neg (show ¬ w / 100 < 1000000 by omega)]
  by_cases h9 : w < 1000000000
  · rw [if_pos h9, if_pos (show w / 100 < 10000000 by omega)]
  rw [if_neg h9, if_neg (show ¬ w / 100 < 10000000 by omega)]
  rw [if_pos (show w / 100 < 100000000 by omega)]
theorem sb_negT {w : Nat} (h : w < 2 ^ 31) : (-nI w).toInt = -(w : Int) := by
  rw [Int32.toInt_neg, nI_toInt h]
  exact Int.bmod_eq_of_le (by omega) (by omega)
theorem sb_nle {a b : Nat} (ha : a < 2 ^ 31) (hb : b < 2 ^ 31) : -nI a ≤ -nI b ↔ b ≤ a := by
  rw [Int32.le_iff_toInt_le, sb_negT ha, sb_negT hb]
  omega
theorem sb_nlt {a b : Nat} (ha : a < 2 ^ 31) (hb : b < 2 ^ 31) : -nI a < -nI b ↔ b < a := by
  rw [Int32.lt_iff_toInt_lt, sb_negT ha, sb_negT hb]
  omega
theorem sb_cmp {A B : Prop} {x : Int32} (v c : Nat) (f : c ≤ v → A) (g : v < c → B) (hv : v < 2 ^ 31) (hx : x = -nI c := by rfl) (hc : c < 2 ^ 31 := by omega) : (-nI v ≤ x → A) ∧ (¬ -nI v ≤ x → B) := by
  subst hx
  rw [sb_nle hv hc]
  exact ⟨f, fun z => g (by omega)⟩
theorem sb_ndiv {w : Nat} (hw : w < 2 ^ 31) : (-nI w) / 100 = -nI (w / 100) := by
  apply Int32.toInt_inj.mp
  have h100 : (100 : Int32).toInt = 100 := by decide
  rw [Int32.toInt_div, sb_negT hw, h100, sb_negT (by omega), Int.neg_tdiv, Int.tdiv_eq_ediv_of_nonneg (by omega), Int.bmod_eq_of_le (by omega) (by omega)]
  omega
theorem sb_nrem {w : Nat} (hw : w < 2 ^ 31) : (-nI (w / 100)) * 100 - (-nI w) = nI (w % 100) := by
  have h := pk_rem (a := w) (d := 100) hw (by decide) (by decide)
  rw [pk_div hw (by decide) (by decide)] at h
  rw [← h]
  show (-nI (w / 100)) * nI 100 - (-nI w) = nI w - nI (w / 100) * nI 100
  rw [Int32.neg_mul, Int32.sub_neg, Int32.add_comm, ← Int32.sub_eq_add_neg]
end
section
/-! rows on bits, shifts and unsigned numbers, to paste: each family out of a closed proof of our own, whole with what it rests on; each by itself clean at Lean in its own claim (generation 39, form 5). Take a family whole -/
/-! ===== Int32 by its bits: bt x i ===== -/
def bt (x : Int32) (i : Nat) : Bool := x.toBitVec.getLsbD i
theorem b_ext {x y : Int32} (h : ∀ i, i < 32 → bt x i = bt y i) : x = y := Int32.toBitVec_inj.mp (BitVec.eq_of_getLsbD_eq (fun i hi => h i hi))
theorem b_or (x y : Int32) (i : Nat) : bt (x ||| y) i = (bt x i || bt y i) := by unfold bt; rw [Int32.toBitVec_or, BitVec.getLsbD_or]
theorem b_and (x y : Int32) (i : Nat) : bt (x &&& y) i = (bt x i && bt y i) := by unfold bt; rw [Int32.toBitVec_and, BitVec.getLsbD_and]
theorem b_xor (x y : Int32) (i : Nat) : bt (x ^^^ y) i = (bt x i ^^ bt y i) := by unfold bt; rw [Int32.toBitVec_xor, BitVec.getLsbD_xor]
theorem b_big {x : Int32} {i : Nat} (h : 32 ≤ i) : bt x i = false := BitVec.getLsbD_of_ge _ _ h
theorem b_255 (i : Nat) : bt 255 i = decide (i < 8) := by
  rcases Nat.lt_or_ge i 32 with h | h
  · exact (by decide +kernel : ∀ i, i < 32 → bt 255 i = decide (i < 8)) i h
  · rw [b_big h, decide_eq_false (by omega)]
theorem b_65535 (i : Nat) : bt 65535 i = decide (i < 16) := by
  rcases Nat.lt_or_ge i 32 with h | h
  · exact (by decide +kernel : ∀ i, i < 32 → bt 65535 i = decide (i < 16)) i h
  · rw [b_big h, decide_eq_false (by omega)]
theorem b_m1 : ∀ i, i < 32 → bt (-1) i = true := by decide +kernel
theorem b_0 (i : Nat) : bt 0 i = false := BitVec.getLsbD_zero
theorem s_l : ∀ n, n < 32 → ((nI n &&& 31).toBitVec.smod 32).toNat = n := by decide +kernel
theorem s_u : ∀ n, n < 32 → (((nI n).toUInt32 &&& Int32.toUInt32 31).toBitVec % 32).toNat = n := by decide +kernel
theorem b_shl (n : Nat) (hn : n < 32) (x : Int32) {i : Nat} (hi : i < 32) : bt (x <<< (nI n &&& 31)) i = (decide (n ≤ i) && bt x (i - n)) := by
  unfold bt
  rw [Int32.toBitVec_shiftLeft]
  show (x.toBitVec <<< ((nI n &&& 31).toBitVec.smod 32).toNat).getLsbD i = _
  rw [s_l n hn, BitVec.getLsbD_shiftLeft]
  rcases Nat.lt_or_ge i n with h | h
  · simp [h, Nat.not_le.mpr h]
  · simp [hi, h, Nat.not_lt.mpr h]
theorem b_ushr (n : Nat) (hn : n < 32) (x : Int32) (i : Nat) : bt ((x.toUInt32 >>> ((nI n).toUInt32 &&& Int32.toUInt32 31)).toInt32) i = bt x (n + i) := by
  show (x.toUInt32 >>> ((nI n).toUInt32 &&& Int32.toUInt32 31)).toBitVec.getLsbD i = x.toUInt32.toBitVec.getLsbD (n + i)
  rw [UInt32.toBitVec_shiftRight]
  show (x.toUInt32.toBitVec >>> (((nI n).toUInt32 &&& Int32.toUInt32 31).toBitVec % 32).toNat).getLsbD i = _
  rw [s_u n hn, BitVec.getLsbD_ushiftRight]
theorem b_sshr (n : Nat) (hn : n < 32) (x : Int32) {i : Nat} (hi : i < 32) : bt (x >>> (nI n &&& 31)) i = if n + i < 32 then bt x (n + i) else bt x 31 := by
  unfold bt
  rw [Int32.toBitVec_shiftRight]
  show (x.toBitVec.sshiftRight ((nI n &&& 31).toBitVec.smod 32).toNat).getLsbD i = _
  rw [s_l n hn, BitVec.getLsbD_sshiftRight, BitVec.msb_eq_getLsbD_last]
  simp [hi]
theorem b_shl8 (x : Int32) {i : Nat} (hi : i < 32) : bt (x <<< ((8 : Int32) &&& 31)) i = (decide (8 ≤ i) && bt x (i - 8)) := b_shl 8 (by omega) x hi
theorem b_shl16 (x : Int32) {i : Nat} (hi : i < 32) : bt (x <<< ((16 : Int32) &&& 31)) i = (decide (16 ≤ i) && bt x (i - 16)) := b_shl 16 (by omega) x hi
theorem b_shl24 (x : Int32) {i : Nat} (hi : i < 32) : bt (x <<< ((24 : Int32) &&& 31)) i = (decide (24 ≤ i) && bt x (i - 24)) := b_shl 24 (by omega) x hi
theorem b_sshr8 (x : Int32) {i : Nat} (hi : i < 32) : bt (x >>> ((8 : Int32) &&& 31)) i = if 8 + i < 32 then bt x (8 + i) else bt x 31 := b_sshr 8 (by omega) x hi
/-! ===== nI under and, xor, >>>, one bit, 65535 ===== -/
theorem nx_and (a b : Nat) : nI a &&& nI b = nI (a &&& b) := by
  apply Int32.toBitVec_inj.1
  show BitVec.ofNat 32 a &&& BitVec.ofNat 32 b = BitVec.ofNat 32 (a &&& b)
  apply BitVec.eq_of_getLsbD_eq
  intro i hi
  simp [hi]
theorem nx_xor (a b : Nat) : nI a ^^^ nI b = nI (a ^^^ b) := by
  apply Int32.toBitVec_inj.1
  show BitVec.ofNat 32 a ^^^ BitVec.ofNat 32 b = BitVec.ofNat 32 (a ^^^ b)
  apply BitVec.eq_of_getLsbD_eq
  intro i hi
  simp [hi]
theorem nx_cnt : ∀ j : Fin 32, (UInt32.ofNat j.val &&& Int32.toUInt32 31).toNat % 32 = j.val := by decide +kernel
theorem nx_ush {k j : Nat} (hk : k < 65536) (hj : j < 32) : ((nI k).toUInt32 >>> ((nI j).toUInt32 &&& Int32.toUInt32 31)).toInt32 = nI (k >>> j) := by
  have hs : k >>> j ≤ k := by
    rw [Nat.shiftRight_eq_div_pow]
    exact Nat.div_le_self _ _
  have e2 : UInt32.ofNat k >>> (UInt32.ofNat j &&& Int32.toUInt32 31) = UInt32.ofNat (k >>> j) := by
    apply UInt32.toNat_inj.1
    have h1 : (UInt32.ofNat k).toNat = k := Nat.mod_eq_of_lt (by omega)
    have h2 : (UInt32.ofNat (k >>> j)).toNat = k >>> j := Nat.mod_eq_of_lt (by omega)
    rw [UInt32.toNat_shiftRight, nx_cnt ⟨j, hj⟩, h1, h2]
  show (UInt32.ofNat k >>> (UInt32.ofNat j &&& Int32.toUInt32 31)).toInt32 = _
  rw [e2]
  rfl
theorem nx_bit {k j : Nat} (hk : k < 65536) (hj : j < 16) : (((nI k).toUInt32 >>> ((nI j).toUInt32 &&& Int32.toUInt32 31)).toInt32 &&& 1) = 0 ↔ k.testBit j = false := by
  rw [nx_ush hk (by omega)]
  show nI (k >>> j) &&& nI 1 = 0 ↔ _
  rw [nx_and, Nat.and_one_is_mod, ← nI_0, nI_eq (by omega) (by omega), Nat.testBit_eq_decide_div_mod_eq, Nat.shiftRight_eq_div_pow, decide_eq_false_iff_not]
  generalize k / 2 ^ j = z
  omega
theorem nx_mod (k : Nat) : nI k &&& 65535 = nI (k % 65536) := by
  show nI k &&& nI 65535 = _
  rw [nx_and, show (65535 : Nat) = 2 ^ 16 - 1 from rfl, Nat.and_two_pow_sub_one_eq_mod]
theorem nx_m16 {k : Nat} (h : k < 65536) : nI k &&& 65535 = nI k := by rw [nx_mod, Nat.mod_eq_of_lt h]
theorem nx_mask (x : Int32) : ∃ k, k < 65536 ∧ x &&& 65535 = nI k := by
  have e : x = nI x.toBitVec.toNat := by
    apply Int32.toBitVec_inj.1
    show x.toBitVec = BitVec.ofNat 32 x.toBitVec.toNat
    simp
  refine ⟨x.toBitVec.toNat % 65536, Nat.mod_lt _ (by omega), ?_⟩
  rw [← nx_mod, ← e]
/-! ===== Int32 as a set of bits: test, set ===== -/
def nf_M (m : Int32) : Nat := 4294967296 - m.toBitVec.toNat
theorem nf_sh : ∀ l, l < 32 → ((1 : Int32) <<< (nI l &&& 31)).toBitVec = BitVec.twoPow 32 l := by decide +kernel
theorem nf_sl : ∀ l, l < 32 → (((nI l).toUInt32 &&& Int32.toUInt32 31).toBitVec % 32).toNat = l := by decide +kernel
theorem nf_tp : ∀ l, l < 32 → BitVec.twoPow 32 l ≠ 0#32 := by decide +kernel
theorem nf_bit (m : Int32) (l : Nat) (hl : l < 32) : ((m.toUInt32 >>> ((nI l).toUInt32 &&& Int32.toUInt32 31)).toInt32 &&& 1) = 0 ↔ (m &&& ((1 : Int32) <<< (nI l &&& 31))) = 0 := by
  have e : ((m.toUInt32 >>> ((nI l).toUInt32 &&& Int32.toUInt32 31)).toInt32).toBitVec = m.toBitVec >>> l := by
    show m.toBitVec >>> (((nI l).toUInt32 &&& Int32.toUInt32 31).toBitVec % 32) = m.toBitVec >>> l
    rw [BitVec.ushiftRight_eq', nf_sl l hl]
  rw [← Int32.toBitVec_inj, ← Int32.toBitVec_inj, Int32.toBitVec_and, Int32.toBitVec_and, nf_sh l hl, e, BitVec.and_twoPow]
  show (m.toBitVec >>> l &&& 1#32) = 0#32 ↔ _ = 0#32
  rw [BitVec.and_one_eq_setWidth_ofBool_getLsbD, BitVec.getLsbD_ushiftRight, Nat.add_zero]
  cases hb : m.toBitVec.getLsbD l
  · exact ⟨fun _ => by simp, fun _ => by decide⟩
  · exact ⟨fun z => absurd z (by decide), fun z => absurd ((if_pos rfl).symm.trans z) (nf_tp l hl)⟩
theorem nf_gr (m k : Int32) (h : m &&& k = 0) (hk : k ≠ 0) : nf_M (m ||| k) < nf_M m := by
  have hm := m.toBitVec.isLt
  have hm' := (m ||| k).toBitVec.isLt
  have h1 : m.toBitVec.toNat ≤ (m ||| k).toBitVec.toNat := by
    rw [Int32.toBitVec_or, BitVec.toNat_or]
    exact Nat.left_le_or
  have h2 : m.toBitVec.toNat ≠ (m ||| k).toBitVec.toNat := by
    intro e
    have e2 : m = m ||| k := Int32.toBitVec_inj.mp (BitVec.eq_of_toNat_eq e)
    apply hk
    apply Int32.toBitVec_inj.mp
    show k.toBitVec = 0#32
    apply BitVec.eq_of_getLsbD_eq
    intro i hi
    have a : m.toBitVec.getLsbD i = (m.toBitVec.getLsbD i || k.toBitVec.getLsbD i) := by rw [← BitVec.getLsbD_or, ← Int32.toBitVec_or, ← e2]
    have b : (m.toBitVec.getLsbD i && k.toBitVec.getLsbD i) = false := by
      rw [← BitVec.getLsbD_and, ← Int32.toBitVec_and, h]
      exact BitVec.getLsbD_zero
    rw [BitVec.getLsbD_zero]
    revert a b
    cases m.toBitVec.getLsbD i <;> cases k.toBitVec.getLsbD i <;> simp
  unfold nf_M
  omega
/-! ===== a byte read unsigned ===== -/
theorem bp_b (x : Int32) : x.toInt8.toInt32 &&& 255 = x &&& 255 := by
  apply Int32.toBitVec_inj.mp
  rw [Int32.toBitVec_and, Int32.toBitVec_and, Int8.toBitVec_toInt32, Int32.toBitVec_toInt8]
  apply BitVec.eq_of_getLsbD_eq
  intro i hi
  rw [BitVec.getLsbD_and, BitVec.getLsbD_and]
  have hm : ∀ i < 32, 8 ≤ i → (255 : Int32).toBitVec.getLsbD i = false := by decide
  rcases Nat.lt_or_ge i 8 with z | z
  · rw [BitVec.getLsbD_signExtend, BitVec.getLsbD_signExtend, if_pos z, if_pos hi]
    simp only [z, hi, decide_true, Bool.true_and]
  · rw [hm i hi z]; simp
/-! ===== the char cast and 65535 ===== -/
theorem em_w (v : Int32) : ∃ w : Nat, w < 65536 ∧ (v.toUInt32 % 65536).toInt32 = nI w ∧ v &&& 65535 = nI w := by
  have hr := lw_u16_r v
  have h0 : (0 : Int32).toInt = 0 := by decide
  obtain ⟨w, h1, h2⟩ := nI_of (x := lw_u16 v) (by rw [Int32.lt_iff_toInt_lt]; omega)
  have h3 : (v.toUInt32 % 65536).toInt32 = nI w := h2
  rw [h2, nI_toInt h1] at hr
  exact ⟨w, by omega, h3, by rw [← lg_i2c_mask, ← lg_i2c_nf, h3]⟩
/-! ===== Int64 as a set of bits: test, set, clear ===== -/
theorem ts_nf {x : Bool} (h : ¬ x = false) : x = true := by cases x <;> first | rfl | exact absurd rfl h
theorem ts_nt {x : Bool} (h : ¬ x = true) : x = false := by cases x <;> first | rfl | exact absurd rfl h
theorem ts_bit {w : Int64} {s : UInt64} {j : Nat} (hj : j < 64) (hs : s.toNat = j) : ((w.toUInt64 >>> s).toInt64 &&& 1) = 0 ↔ w.toBitVec.getLsbD j = false := by
  have e : (w.toUInt64 >>> s).toInt64.toBitVec = w.toBitVec >>> j := by
    apply BitVec.eq_of_toNat_eq
    show (w.toUInt64 >>> s).toNat = _
    rw [UInt64.toNat_shiftRight, hs, Nat.mod_eq_of_lt hj, BitVec.toNat_ushiftRight]
    rfl
  rw [← Int64.toBitVec_inj, Int64.toBitVec_and, e]
  show w.toBitVec >>> j &&& 1#64 = 0#64 ↔ _
  constructor
  · intro h
    have t := congrArg (fun x => x.getLsbD 0) h
    simpa using t
  · intro h
    apply BitVec.eq_of_getLsbD_eq
    intro i hi
    cases i with
    | zero => simp [h]
    | succ i => simp
theorem ts_or {w m : Int64} {j : Nat} (hj : j < 64) (hm : m.toBitVec = BitVec.twoPow 64 j) : (w ||| m) = w ↔ w.toBitVec.getLsbD j = true := by
  rw [← Int64.toBitVec_inj, Int64.toBitVec_or, hm]
  constructor
  · intro h
    have t := congrArg (fun x => x.getLsbD j) h
    simp only [BitVec.getLsbD_or, BitVec.getLsbD_twoPow] at t
    simpa [hj] using t.symm
  · intro h
    apply BitVec.eq_of_getLsbD_eq
    intro i hi
    rw [BitVec.getLsbD_or, BitVec.getLsbD_twoPow]
    by_cases e : j = i
    · subst e; rw [h, Bool.true_or]
    · simp [e]
theorem ts_and {w m : Int64} {j : Nat} (hj : j < 64) (hm : m.toBitVec = BitVec.twoPow 64 j) : (w &&& (m ^^^ (-1))) = w ↔ w.toBitVec.getLsbD j = false := by
  have ha : (-1 : Int64).toBitVec = BitVec.allOnes 64 := by decide
  rw [← Int64.toBitVec_inj, Int64.toBitVec_and, Int64.toBitVec_xor, hm, ha]
  constructor
  · intro h
    have t := congrArg (fun x => x.getLsbD j) h
    simp only [BitVec.getLsbD_and, BitVec.getLsbD_xor, BitVec.getLsbD_twoPow, BitVec.getLsbD_allOnes] at t
    simpa [hj] using t.symm
  · intro h
    apply BitVec.eq_of_getLsbD_eq
    intro i hi
    rw [BitVec.getLsbD_and, BitVec.getLsbD_xor, BitVec.getLsbD_twoPow, BitVec.getLsbD_allOnes]
    by_cases e : j = i
    · subst e; rw [h, Bool.false_and]
    · simp [e, hi]
/-! ===== lN n to 2^64: shifts, and, or, masks, one bit ===== -/
theorem wb_tb (n : Nat) : (lN n).toBitVec = BitVec.ofNat 64 n := rfl
theorem wb_inj {a b : Int64} (h : a.toBitVec = b.toBitVec) : a = b := Int64.toBitVec_inj.mp h
theorem wb_tn {n : Nat} (h : n < 2 ^ 64) : (lN n).toBitVec.toNat = n := by rw [wb_tb, BitVec.toNat_ofNat, Nat.mod_eq_of_lt h]
theorem wb_of (x : Int64) : ∃ n, n < 2 ^ 64 ∧ x = lN n := ⟨x.toBitVec.toNat, x.toBitVec.isLt, wb_inj (by rw [wb_tb]; simp)⟩
theorem wb_of32 (x : Int32) : ∃ n, n < 2 ^ 32 ∧ x = nI n := ⟨x.toBitVec.toNat, x.toBitVec.isLt, Int32.toBitVec_inj.mp (by show _ = BitVec.ofNat 32 _; simp)⟩
theorem wb_c : ∀ k, k < 64 → ((nI k).toInt64 &&& 63) = lN k := by decide +kernel
theorem wb_cu : ∀ k, k < 64 → ((nI k).toInt64.toUInt64 &&& Int64.toUInt64 63) = UInt64.ofNat k := by decide +kernel
theorem wb_sm : ∀ k, k < 64 → (BitVec.ofNat 64 k).smod 64 = BitVec.ofNat 64 k := by decide +kernel
theorem wb_pw {a b : Nat} (h : a ≤ b) : 2 ^ b = 2 ^ a * 2 ^ (b - a) := by rw [← Nat.pow_add]; congr 1; omega
theorem wb_lt2 {a b : Nat} (h : a < b) : 2 ^ a < 2 ^ b := Nat.pow_lt_pow_right (by decide) h
theorem wb_mod (n : Nat) : lN n = lN (n % 2 ^ 64) := wb_inj (by rw [wb_tb, wb_tb]; apply BitVec.eq_of_toNat_eq; rw [BitVec.toNat_ofNat, BitVec.toNat_ofNat, Nat.mod_mod])
theorem wb_shr {n k : Nat} (hn : n < 2 ^ 64) (hk : k < 64) : ((lN n).toUInt64 >>> ((nI k).toInt64.toUInt64 &&& Int64.toUInt64 63)).toInt64 = lN (n / 2 ^ k) := by
  rw [wb_cu k hk]
  apply wb_inj
  apply BitVec.eq_of_toNat_eq
  show ((lN n).toUInt64 >>> UInt64.ofNat k).toNat = (BitVec.ofNat 64 _).toNat
  have h1 : (UInt64.ofNat k).toNat = k := by
    show (BitVec.ofNat 64 k).toNat = k
    rw [BitVec.toNat_ofNat, Nat.mod_eq_of_lt (by omega)]
  have h2 : (lN n).toUInt64.toNat = n := wb_tn hn
  rw [UInt64.toNat_shiftRight, h1, h2, Nat.mod_eq_of_lt hk, Nat.shiftRight_eq_div_pow, BitVec.toNat_ofNat, Nat.mod_eq_of_lt (Nat.lt_of_le_of_lt (Nat.div_le_self _ _) hn)]
theorem wb_shl (n : Nat) {k : Nat} (hk : k < 64) : lN n <<< ((nI k).toInt64 &&& 63) = lN (n * 2 ^ k) := by
  rw [wb_c k hk]
  apply wb_inj
  rw [Int64.toBitVec_shiftLeft, wb_tb, wb_tb, wb_tb, wb_sm k hk]
  apply BitVec.eq_of_toNat_eq
  rw [BitVec.shiftLeft_eq', BitVec.toNat_shiftLeft, BitVec.toNat_ofNat, BitVec.toNat_ofNat, BitVec.toNat_ofNat, Nat.mod_eq_of_lt (show k < 2 ^ 64 by omega), Nat.shiftLeft_eq, Nat.mul_mod, Nat.mod_mod, ← Nat.mul_mod]
theorem wb_and {a b : Nat} (ha : a < 2 ^ 64) (hb : b < 2 ^ 64) : lN a &&& lN b = lN (a &&& b) := by
  apply wb_inj
  rw [Int64.toBitVec_and, wb_tb, wb_tb, wb_tb]
  apply BitVec.eq_of_toNat_eq
  rw [BitVec.toNat_and, BitVec.toNat_ofNat, BitVec.toNat_ofNat, BitVec.toNat_ofNat, Nat.mod_eq_of_lt ha, Nat.mod_eq_of_lt hb, Nat.mod_eq_of_lt (Nat.and_lt_two_pow _ hb)]
theorem wb_or {a b : Nat} (ha : a < 2 ^ 64) (hb : b < 2 ^ 64) : lN a ||| lN b = lN (a ||| b) := by
  apply wb_inj
  rw [Int64.toBitVec_or, wb_tb, wb_tb, wb_tb]
  apply BitVec.eq_of_toNat_eq
  rw [BitVec.toNat_or, BitVec.toNat_ofNat, BitVec.toNat_ofNat, BitVec.toNat_ofNat, Nat.mod_eq_of_lt ha, Nat.mod_eq_of_lt hb, Nat.mod_eq_of_lt (Nat.or_lt_two_pow ha hb)]
theorem wb_mask {n k : Nat} (hn : n < 2 ^ 64) (hk : k < 64) : lN n &&& lN (2 ^ k - 1) = lN (n % 2 ^ k) := by
  rw [wb_and hn (by have := wb_lt2 hk; omega), Nat.and_two_pow_sub_one_eq_mod]
theorem wb_a1 {n : Nat} (hn : n < 2 ^ 64) : lN n &&& 1 = lN (n % 2) := wb_mask (k := 1) hn (by decide)
theorem wb_bit {n k : Nat} (hn : n < 2 ^ 64) (hk : k < 64) : ((lN n).toUInt64 >>> ((nI k).toInt64.toUInt64 &&& Int64.toUInt64 63)).toInt64 &&& 1 = lN (n / 2 ^ k % 2) := by
  rw [wb_shr hn hk, wb_a1 (Nat.lt_of_le_of_lt (Nat.div_le_self _ _) hn)]
theorem wb_xor {q k : Nat} (hk : k < 63) (h : 2 ^ k ≤ q) (h2 : q < 2 ^ (k + 1)) : lN q ^^^ lN (2 ^ k) = lN (q - 2 ^ k) := by
  obtain ⟨r, rfl⟩ : ∃ r, q = 2 ^ k + r := ⟨q - 2 ^ k, by omega⟩
  have hr : r < 2 ^ k := by rw [Nat.pow_succ] at h2; omega
  have hx : (2 ^ k + r) ^^^ 2 ^ k = r := by
    apply Nat.eq_of_testBit_eq
    intro i
    rw [Nat.testBit_xor, Nat.testBit_two_pow]
    rcases Nat.lt_trichotomy i k with h | h | h
    · rw [Nat.testBit_two_pow_add_gt h]
      simp [show ¬ k = i by omega]
    · subst h
      rw [Nat.testBit_two_pow_add_eq]
      simp
    · have a1 : 2 ^ (k + 1) ≤ 2 ^ i := Nat.pow_le_pow_right (by decide) h
      rw [Nat.testBit_lt_two_pow (show 2 ^ k + r < 2 ^ i by omega), Nat.testBit_lt_two_pow (show r < 2 ^ i by omega)]
      simp [show ¬ k = i by omega]
  have b1 := wb_lt2 (show k + 1 < 64 by omega)
  have b2 := wb_lt2 (show k < 64 by omega)
  apply wb_inj
  rw [Int64.toBitVec_xor, wb_tb, wb_tb, wb_tb]
  apply BitVec.eq_of_toNat_eq
  rw [BitVec.toNat_xor, BitVec.toNat_ofNat, BitVec.toNat_ofNat, BitVec.toNat_ofNat, Nat.mod_eq_of_lt (by omega : 2 ^ k + r < 2 ^ 64), Nat.mod_eq_of_lt b2, hx, Nat.add_sub_cancel_left, Nat.mod_eq_of_lt (by omega)]
/-! ===== lN: masks, 'or' of parts that don't overlap is a sum ===== -/
theorem u_tn {n : Nat} (h : n < 2 ^ 64) : (UInt64.ofNat n).toNat = n := Nat.mod_eq_of_lt h
theorem g_and {a b c : Nat} (ha : a < 2 ^ 64) (hb : b < 2 ^ 64) (hc : a &&& b = c) : lN a &&& lN b = lN c := by
  subst hc
  have h : UInt64.ofNat a &&& UInt64.ofNat b = UInt64.ofNat (a &&& b) := UInt64.toNat_inj.mp (by rw [UInt64.toNat_and, u_tn ha, u_tn hb, u_tn (Nat.and_lt_two_pow a hb)])
  have h2 := congrArg UInt64.toInt64 h
  exact h2
theorem g_and1 {a : Nat} (ha : a < 2 ^ 64) : lN a &&& 1 = lN (a % 2) := g_and (b := 1) ha (by decide) (Nat.and_two_pow_sub_one_eq_mod a 1)
theorem g_mask {a s p : Nat} (hp : 2 ^ s = p) (hs : s < 64) (ha : a < 2 ^ 64) : lN a &&& lN (p - 1) = lN (a % p) := by
  subst hp
  have := Nat.pow_lt_pow_right (show 1 < 2 by decide) hs
  exact g_and ha (by omega) (Nat.and_two_pow_sub_one_eq_mod a s)
theorem g_or {k p a b : Nat} (hp : 2 ^ k = p) (ha : a < p) (h : b * p + a < 2 ^ 64) : lN (b * p) ||| lN a = lN (b * p + a) := by
  subst hp
  have h1 : b * 2 ^ k ||| a = b * 2 ^ k + a := by rw [← Nat.shiftLeft_eq, Nat.shiftLeft_add_eq_or_of_lt ha]
  have h3 : UInt64.ofNat (b * 2 ^ k) ||| UInt64.ofNat a = UInt64.ofNat (b * 2 ^ k + a) := UInt64.toNat_inj.mp (by rw [UInt64.toNat_or, u_tn (by omega), u_tn (by omega), u_tn h, h1])
  have h2 := congrArg UInt64.toInt64 h3
  exact h2
theorem g_or' {k p a b : Nat} (hp : 2 ^ k = p) (ha : a < p) (h : a + b * p < 2 ^ 64) : lN a ||| lN (b * p) = lN (a + b * p) := by
  rw [Int64.or_comm, g_or hp ha (by omega), Nat.add_comm]
theorem g_ushr {a k p : Nat} {y : UInt64} (hy : y = UInt64.ofNat k) (hk : k < 64) (hp : 2 ^ k = p) (ha : a < 2 ^ 64) : ((lN a).toUInt64 >>> y).toInt64 = lN (a / p) := by
  subst hy hp
  have h : UInt64.ofNat a >>> UInt64.ofNat k = UInt64.ofNat (a / 2 ^ k) := UInt64.toNat_inj.mp (by rw [UInt64.toNat_shiftRight, u_tn ha, u_tn (by omega), u_tn (Nat.lt_of_le_of_lt (Nat.div_le_self _ _) ha), Nat.mod_eq_of_lt hk, Nat.shiftRight_eq_div_pow])
  have h2 := congrArg UInt64.toInt64 h
  exact h2
theorem g_shl {a k p : Nat} {y : Int64} (hy : y.toBitVec.smod 64 = BitVec.ofNat 64 k) (hk : k < 64) (hp : 2 ^ k = p) (ha : a < 2 ^ 64) : lN a <<< y = lN (a * p) := by
  subst hp
  apply Int64.toBitVec_inj.mp
  rw [Int64.toBitVec_shiftLeft, hy]
  apply BitVec.eq_of_toNat_eq
  have hb : (lN a).toBitVec.toNat = a := Nat.mod_eq_of_lt ha
  have hk' : (BitVec.ofNat 64 k).toNat = k := Nat.mod_eq_of_lt (by omega)
  have h : ((lN a).toBitVec <<< BitVec.ofNat 64 k).toNat = (a * 2 ^ k) % 2 ^ 64 := by simp only [BitVec.shiftLeft_eq', BitVec.toNat_shiftLeft, hb, hk', Nat.shiftLeft_eq]
  exact h
/-! ===== lN to 2^62 under >> and >>> ===== -/
theorem pf_lI {a : Nat} (h : a < 2 ^ 63) : (lN a).toInt = (a : Int) := lg_ofNat_toInt h
theorem pf_shr {a d : Nat} {D : Int64} (hD : (D.toBitVec.smod 64).toNat = d) (h : a < 2 ^ 62) : lN a >>> D = lN (a / 2 ^ d) := by
  have hd : a / 2 ^ d ≤ a := Nat.div_le_self _ _
  apply Int64.toInt_inj.mp
  have e : (lN a >>> D).toInt = (lN a).toInt >>> d := by
    rw [← hD]
    exact BitVec.toInt_sshiftRight ..
  rw [e, Int.shiftRight_eq_div_pow, pf_lI (by omega), pf_lI (by omega)]
  rfl
theorem pf_ushr {a d : Nat} {D : UInt64} (hD : D.toNat % 64 = d) (h : a < 2 ^ 62) : ((lN a).toUInt64 >>> D).toInt64 = lN (a / 2 ^ d) := by
  have hd : a / 2 ^ d ≤ a := Nat.div_le_self _ _
  have e : (lN a).toUInt64 >>> D = UInt64.ofNat (a / 2 ^ d) := UInt64.toNat_inj.mp (by
    rw [UInt64.toNat_shiftRight, hD, Nat.shiftRight_eq_div_pow, UInt64.toNat_ofNat']
    show (UInt64.ofNat a).toNat / 2 ^ d = _
    rw [UInt64.toNat_ofNat', Nat.mod_eq_of_lt (by omega), Nat.mod_eq_of_lt (by omega)])
  rw [e]
  rfl
theorem pf_andw (x : Int64) : ∃ m, m < 2 ^ 32 ∧ x &&& 4294967295 = lN m := ⟨x.toBitVec.toNat % 2 ^ 32, Nat.mod_lt _ (by decide), Int64.toBitVec_inj.mp (BitVec.eq_of_toNat_eq (by
  show (x.toBitVec &&& 4294967295#64).toNat = (BitVec.ofNat 64 (x.toBitVec.toNat % 2 ^ 32)).toNat
  rw [BitVec.toNat_and, show (4294967295#64).toNat = 2 ^ 32 - 1 from by decide, Nat.and_two_pow_sub_one_eq_mod, BitVec.toNat_ofNat]
  omega))⟩
/-! ===== Int64 as an unsigned number: uN x ===== -/
def uN (x : Int64) : Nat := x.toUInt64.toNat
theorem uN_lt (x : Int64) : uN x < 18446744073709551616 := x.toUInt64.toNat_lt
theorem uN_inj {x y : Int64} (h : uN x = uN y) : x = y := congrArg UInt64.toInt64 (UInt64.toNat_inj.mp h)
theorem uN_add (x y : Int64) : uN (x + y) = (uN x + uN y) % 18446744073709551616 := by
  show (x.toUInt64 + y.toUInt64).toNat = _
  exact UInt64.toNat_add _ _
theorem uN_mul (x y : Int64) : uN (x * y) = (uN x * uN y) % 18446744073709551616 := by
  show (x.toUInt64 * y.toUInt64).toNat = _
  exact UInt64.toNat_mul _ _
theorem uN_shl (x : Int64) : uN (x <<< ((1 : Int32).toInt64 &&& 63)) = (2 * uN x) % 18446744073709551616 := by
  have h : (((1 : Int32).toInt64 &&& 63).toBitVec.smod 64).toNat = 1 := by decide
  show (x.toBitVec <<< (((1 : Int32).toInt64 &&& 63).toBitVec.smod 64).toNat).toNat = _
  rw [h, BitVec.toNat_shiftLeft, Nat.shiftLeft_eq, Nat.mul_comm]
  rfl
theorem uN_shr (x : Int64) (s : UInt64) : uN (x.toUInt64 >>> s).toInt64 = uN x / 2 ^ (s.toNat % 64) := by
  show (x.toUInt64 >>> s).toNat = _
  rw [UInt64.toNat_shiftRight, Nat.shiftRight_eq_div_pow]
  rfl
theorem uN_s32 (x : Int64) : uN (x.toUInt64 >>> ((32 : Int32).toInt64.toUInt64 &&& Int64.toUInt64 63)).toInt64 = uN x / 4294967296 := by
  have h : ((32 : Int32).toInt64.toUInt64 &&& Int64.toUInt64 63).toNat % 64 = 32 := by decide
  rw [uN_shr, h]
theorem uN_s63 (x : Int64) : uN (x.toUInt64 >>> ((63 : Int32).toInt64.toUInt64 &&& Int64.toUInt64 63)).toInt64 = uN x / 9223372036854775808 := by
  have h : ((63 : Int32).toInt64.toUInt64 &&& Int64.toUInt64 63).toNat % 64 = 63 := by decide
  rw [uN_shr, h]
theorem uN_lo (x : Int64) : uN (x &&& 4294967295) = uN x % 4294967296 := by
  show (x.toUInt64 &&& Int64.toUInt64 4294967295).toNat = _
  rw [UInt64.toNat_and]
  exact Nat.and_two_pow_sub_one_eq_mod _ 32
theorem uN_bit (x : Int64) : (x &&& 1) = 0 ↔ uN x % 2 = 0 := by
  have h : uN (x &&& 1) = uN x % 2 := by
    show (x.toUInt64 &&& Int64.toUInt64 1).toNat = _
    rw [UInt64.toNat_and]
    exact Nat.and_two_pow_sub_one_eq_mod _ 1
  rw [← h]
  exact ⟨fun z => by rw [z]; rfl, fun z => uN_inj (z.trans rfl)⟩
theorem uN_or {x y : Int64} (hy : uN y < 2) : uN ((x <<< ((1 : Int32).toInt64 &&& 63)) ||| y) = (2 * uN x) % 18446744073709551616 + uN y := by
  have h1 : uN ((x <<< ((1 : Int32).toInt64 &&& 63)) ||| y) = uN (x <<< ((1 : Int32).toInt64 &&& 63)) ||| uN y := UInt64.toNat_or _ _
  have h2 : (2 * uN x) % 18446744073709551616 = 2 ^ 1 * (uN x % 9223372036854775808) := by omega
  rw [h1, uN_shl, h2]
  exact (Nat.two_pow_add_eq_or_of_lt (i := 1) hy _).symm
theorem nat_xor {a : Nat} (h : a < 18446744073709551616) : a ^^^ 2 ^ 63 = (a + 9223372036854775808) % 18446744073709551616 := by
  have h1 : (a ^^^ 2 ^ 63) % 2 ^ 63 = a % 2 ^ 63 := by rw [Nat.xor_mod_two_pow, Nat.mod_self, Nat.xor_zero]
  have h2 : (a ^^^ 2 ^ 63) / 2 ^ 63 = (a / 2 ^ 63) ^^^ 1 := by rw [Nat.xor_div_two_pow, Nat.div_self (Nat.two_pow_pos 63)]
  have h3 : a / 2 ^ 63 = 0 ∨ a / 2 ^ 63 = 1 := by omega
  generalize a ^^^ 2 ^ 63 = t at h1 h2
  rcases h3 with h3 | h3
  · rw [h3] at h2
    have h2 : t / 2 ^ 63 = 1 := h2
    omega
  · rw [h3] at h2
    have h2 : t / 2 ^ 63 = 0 := h2
    omega
theorem uN_xor (x : Int64) : uN (x ^^^ (-9223372036854775808)) = (uN x + 9223372036854775808) % 18446744073709551616 := by
  rw [← nat_xor (uN_lt x)]
  exact UInt64.toNat_xor _ _
theorem uN_int (x : Int64) : x.toInt = if 2 * uN x < 18446744073709551616 then (uN x : Int) else (uN x : Int) - 18446744073709551616 := BitVec.toInt_eq_toNat_cond _
theorem uN_le (x y : Int64) : (x ^^^ (-9223372036854775808)) ≤ (y ^^^ (-9223372036854775808)) ↔ uN x ≤ uN y := by
  have hx := uN_lt x
  have hy := uN_lt y
  rw [Int64.le_iff_toInt_le, uN_int, uN_int, uN_xor, uN_xor]
  omega
theorem uN_sk (x : Int64) {k : Nat} (hk : k < 64) : uN (x.toUInt64 >>> ((nI k).toInt64.toUInt64 &&& Int64.toUInt64 63)).toInt64 = uN x / 2 ^ k := by
  have h : ((nI k).toInt64.toUInt64 &&& Int64.toUInt64 63).toNat % 64 = k := by
    rw [nI_l (by omega), UInt64.toNat_and]
    have e : (lN k).toUInt64.toNat = k % 2 ^ 64 := rfl
    have e2 : (Int64.toUInt64 63).toNat = 2 ^ 6 - 1 := by decide
    rw [e, e2, Nat.and_two_pow_sub_one_eq_mod]
    omega
  rw [uN_shr, h]
/-! ===== unsigned comparison by xor with the least ===== -/
theorem lN_bv (n : Nat) : (lN n).toBitVec = BitVec.ofNat 64 n := rfl
theorem lN_nat {n : Nat} (h : n < 2 ^ 64) : (lN n).toBitVec.toNat = n := by rw [lN_bv, BitVec.toNat_ofNat]; exact Nat.mod_eq_of_lt h
theorem lN_xor (a b : Nat) : lN a ^^^ lN b = lN (a ^^^ b) := by
  apply Int64.toBitVec_inj.mp; rw [Int64.toBitVec_xor, lN_bv, lN_bv, lN_bv]; apply BitVec.eq_of_getLsbD_eq; intro i hi; simp [BitVec.getLsbD_ofNat, Nat.testBit_xor, hi]
theorem lN_ti {m : Nat} (h : m < 2 ^ 64) : (lN m).toInt = if m < 2 ^ 63 then (m : Int) else (m : Int) - 2 ^ 64 := by
  have c := BitVec.toInt_eq_toNat_cond (lN m).toBitVec
  rw [lN_nat h] at c
  show (lN m).toBitVec.toInt = _
  rw [c]
  split <;> split <;> omega
theorem xor63 {x : Nat} (h : x < 2 ^ 63) : x ^^^ 2 ^ 63 = 2 ^ 63 + x := by
  apply Nat.eq_of_testBit_eq
  intro i
  rw [Nat.testBit_xor, Nat.testBit_two_pow]
  rcases Nat.lt_trichotomy i 63 with z | z | z
  · rw [Nat.testBit_two_pow_add_gt z, decide_eq_false (by omega)]; simp
  · subst z; rw [Nat.testBit_two_pow_add_eq]; simp
  · have hp : 2 ^ 64 ≤ 2 ^ i := Nat.pow_le_pow_right (by decide) z
    rw [Nat.testBit_lt_two_pow (show x < 2 ^ i by omega), Nat.testBit_lt_two_pow (show 2 ^ 63 + x < 2 ^ i by omega), decide_eq_false (by omega)]; rfl
theorem xorS {a : Nat} (h : a < 2 ^ 64) : (lN a ^^^ (-9223372036854775808)).toInt = (a : Int) - 2 ^ 63 := by
  rw [show (-9223372036854775808 : Int64) = lN (2 ^ 63) from by decide +kernel, lN_xor]
  rcases Nat.lt_or_ge a (2 ^ 63) with z | z
  · rw [xor63 z, lN_ti (by omega), if_neg (by omega)]; omega
  · obtain ⟨x, rfl⟩ : ∃ x, a = 2 ^ 63 + x := ⟨a - 2 ^ 63, by omega⟩
    rw [← xor63 (by omega), Nat.xor_assoc, Nat.xor_self, Nat.xor_zero, lN_ti (by omega), if_pos (by omega), xor63 (by omega)]; omega
theorem ultL {a b : Nat} (ha : a < 2 ^ 64) (hb : b < 2 ^ 64) : ((lN b ^^^ (-9223372036854775808)) ≤ (lN a ^^^ (-9223372036854775808))) ↔ b ≤ a := by
  rw [Int64.le_iff_toInt_le, xorS ha, xorS hb]; omega
/-! ===== Int64 masks of n low bits ===== -/
theorem cr_bits (W U M : BitVec 64) : ((W &&& U) &&& (U &&& (M ^^^ BitVec.allOnes 64))) = 0#64 ↔ (W &&& U) &&& M = W &&& U := by
  constructor
  · intro h
    apply BitVec.eq_of_getLsbD_eq
    intro i hi
    have e := congrArg (fun x => BitVec.getLsbD x i) h
    simp only [BitVec.getLsbD_and, BitVec.getLsbD_xor, BitVec.getLsbD_allOnes, BitVec.getLsbD_zero, hi, decide_true] at e ⊢
    revert e
    cases W.getLsbD i <;> cases U.getLsbD i <;> cases M.getLsbD i <;> decide
  · intro h
    apply BitVec.eq_of_getLsbD_eq
    intro i hi
    have e := congrArg (fun x => BitVec.getLsbD x i) h
    simp only [BitVec.getLsbD_and, BitVec.getLsbD_xor, BitVec.getLsbD_allOnes, BitVec.getLsbD_zero, hi, decide_true] at e ⊢
    revert e
    cases W.getLsbD i <;> cases U.getLsbD i <;> cases M.getLsbD i <;> decide
theorem cr_mask (w U m : Int64) (n : Nat) (hm : m.toBitVec.toNat = 2 ^ n - 1) : ((w &&& U) &&& (U &&& (m ^^^ (-1)))) = 0 ↔ (w &&& U).toBitVec.toNat < 2 ^ n := by
  have e0 : (-1 : Int64).toBitVec = BitVec.allOnes 64 := by decide
  have z0 : (0 : Int64).toBitVec = 0#64 := by decide
  rw [← Int64.toBitVec_inj, z0, Int64.toBitVec_and, Int64.toBitVec_and, Int64.toBitVec_and, Int64.toBitVec_xor, e0, cr_bits]
  generalize w.toBitVec &&& U.toBitVec = T
  rw [← BitVec.toNat_inj, BitVec.toNat_and, hm, Nat.and_two_pow_sub_one_eq_mod]
  constructor
  · intro h
    have t := Nat.mod_lt T.toNat (Nat.two_pow_pos n)
    rw [h] at t
    exact t
  · exact Nat.mod_eq_of_lt
theorem cr_shr (t : Int64) (x : UInt64) (n : Nat) (hx : x.toNat % 64 = n) : (t.toUInt64 >>> x).toInt64 = 0 ↔ t.toBitVec.toNat < 2 ^ n := by
  rw [← Int64.toBitVec_inj, ← BitVec.toNat_inj]
  show (t.toUInt64 >>> x).toNat = 0 ↔ t.toUInt64.toNat < 2 ^ n
  rw [UInt64.toNat_shiftRight, hx, Nat.shiftRight_eq_div_pow]
  constructor
  · intro h
    have d : t.toUInt64.toNat / 2 ^ n < 1 := by
      rw [h]
      decide
    have e := (Nat.div_lt_iff_lt_mul (Nat.two_pow_pos n)).mp d
    rw [Nat.one_mul] at e
    exact e
  · exact Nat.div_eq_of_lt
theorem cr_amt (s : Int64) : ∃ n, n < 64 ∧ s &&& 63 = lN n ∧ (s.toUInt64 &&& Int64.toUInt64 63).toNat % 64 = n := by
  have e : (s.toUInt64 &&& Int64.toUInt64 63).toNat = s.toUInt64.toNat % 2 ^ 6 := by
    rw [UInt64.toNat_and, show (Int64.toUInt64 63).toNat = 2 ^ 6 - 1 from by decide, Nat.and_two_pow_sub_one_eq_mod]
  refine ⟨s.toUInt64.toNat % 2 ^ 6, by omega, ?_, by omega⟩
  rw [← Int64.toBitVec_inj, ← BitVec.toNat_inj]
  show (s.toUInt64 &&& Int64.toUInt64 63).toNat = (BitVec.ofNat 64 (s.toUInt64.toNat % 2 ^ 6)).toNat
  rw [e, BitVec.toNat_ofNat]
  omega
end
section
/-! the relation: names for its groups -/
def tf_oN (f : Nat → Int32) (i : Nat) : Nat := (f i).toNatClampNeg
/-- byte i of a long -/
def tf_pb (x : Int64) (i : Nat) : Nat := x.toBitVec.toNat / 2 ^ (8 * i) % 256
/-- a packed name: c characters 33..126, then zeros -/
def tf_GN (x : Int64) : Prop := ∃ c, c ≤ 8 ∧ ∀ i, i < 8 → (i < c → 33 ≤ tf_pb x i ∧ tf_pb x i ≤ 126) ∧ (c ≤ i → tf_pb x i = 0)
def tf_B (md mr mu mf ll d r w n cd hc oh od : Nat) : Prop := (4 ≤ md ∧ md ≤ 32) ∧ (2 ≤ mr ∧ mr ≤ 32) ∧ (1 ≤ mu ∧ mu ≤ 24) ∧ (1 ≤ mf ∧ mf ≤ 100) ∧ ll ≤ 128 ∧ d ≤ md ∧ r ≤ mr ∧ (51 ≤ w ∧ w ≤ 51 + mu) ∧ n ≤ 96 ∧ cd ≤ 8 ∧ hc ≤ 64 ∧ oh ≤ 32 ∧ (1 ≤ od ∧ od ≤ 4)
def tf_Lc (x : Int32) : Prop := ∃ c : Nat, x = nI c ∧ 32 ≤ c ∧ c ≤ 126
def tf_L (ll : Nat) (li : Nat → Int32) : Prop := ∀ i, i < ll → tf_Lc (li i)
/-- how many cells a built-in word takes and gives -/
def tf_tk (k : Nat) : Nat := if (2 ≤ k ∧ k ≤ 10) ∨ k = 17 then 2 else if k ≤ 1 ∨ k = 12 ∨ k = 16 ∨ k = 18 ∨ (20 ≤ k ∧ k ≤ 23) ∨ k = 30 ∨ k = 31 ∨ k = 48 then 1 else 0
def tf_gr (k : Nat) : Bool := decide (k = 0 ∨ k = 3 ∨ k = 11 ∨ (13 ≤ k ∧ k ≤ 15) ∨ k = 19 ∨ k = 24)
def tf_gv (k : Nat) : Nat := if k = 0 then 2 else if k = 1 then 0 else if k = 2 then 2 else if k = 3 then 3 else if k ≤ 11 then 1 else if k = 12 then 0 else if k ≤ 16 then 1 else if k ≤ 18 then 0 else if k = 19 then 1 else if k = 22 ∨ k = 24 then 1 else 0
def tf_T (tk gv : Nat → Int32) : Prop := ∀ k, k < 51 → tk k = nI (tf_tk k) ∧ gv k = nI (tf_gv k)
def tf_O (od : Nat) (ox oz : Nat → Int32) : Prop := ∀ i, i < od → ox i = oz i ∧ ∃ y : Nat, y < 4 ∧ oz i = nI y
def tf_N (w : Nat) (nm : Nat → Int64) (kd im ad : Nat → Int32) : Prop := (∀ k, k < w → tf_GN (nm k)) ∧ (∀ k, k < w → im k = 0 ∨ im k = 1) ∧ (∀ k, k < 51 → kd k = 0) ∧ (∀ k, 51 ≤ k → k < w → (kd k = 1 ∨ kd k = 2 ∨ kd k = 3 ∨ kd k = 4) ∧ ∃ a : Nat, a ≤ 64 ∧ ad k = nI a)
/-- the bits of a packed search order -/
def tf_ub (x : Int32) (i : Nat) : Int32 := (((x.toUInt32 >>> ((4 + (2 * nI i)).toUInt32 &&& Int32.toUInt32 31)).toInt32) &&& 3)
def tf_Q (w : Nat) (wo oo ol : Nat → Int32) : Prop := ∀ k, 51 ≤ k → k < w → ∃ m : Nat, 1 ≤ m ∧ m ≤ 4 ∧ oo k = nI m ∧ wo k &&& 15 = nI m ∧ ∀ i, i < m → tf_ub (wo k) i = ol (4 * k + i) ∧ ∃ y : Nat, y < 4 ∧ ol (4 * k + i) = nI y
/-- a place in a body: X's (i, e), Y's (owner o, place j) -/
def tf_FR (w : Nat) (kd st we : Nat → Int32) (i e o j : Nat) : Prop := 51 ≤ o ∧ o < w ∧ kd o = 1 ∧ we o = nI e ∧ (∃ s : Nat, st o = nI s ∧ s ≤ i) ∧ i ≤ e ∧ (i = j ∨ (i = e ∧ e ≤ j)) ∧ e ≤ 96 ∧ j ≤ 96
def tf_S1 (n k : Nat) (st we ow : Nat → Int32) : Prop := ∃ s e : Nat, st k = nI s ∧ we k = nI e ∧ s ≤ e ∧ e ≤ n ∧ ∀ i, i < n → (i < s ↔ tf_oN ow i < k) ∧ (i < e ↔ tf_oN ow i ≤ k)
def tf_S4 (n k : Nat) (st ow : Nat → Int32) : Prop := ∃ s : Nat, st k = nI s ∧ s ≤ n ∧ ∀ i, i < n → (i < s ↔ tf_oN ow i < k)
def tf_S3 (k : Nat) (kd st we ao ap : Nat → Int32) : Prop := ∃ i e o j : Nat, st k = nI i ∧ we k = nI e ∧ ao k = nI o ∧ ap k = nI j ∧ tf_FR k kd st we i e o j
def tf_S (w n : Nat) (kd st we ao ap ow : Nat → Int32) : Prop := ∀ k, 51 ≤ k → k < w → (kd k = 1 → tf_S1 n k st we ow) ∧ (kd k = 4 → tf_S4 n k st ow) ∧ (kd k = 3 → tf_S3 k kd st we ao ap)
def tf_I1 (i : Nat) (io ia ik iv ow : Nat → Int32) : Prop := (ik i = 1 ∧ io i = 0 ∧ ia i = iv i) ∨ (ik i = 3 ∧ io i = 1 ∧ ia i = iv i ∧ ∃ c : Nat, c ≤ tf_oN ow i ∧ iv i = nI c) ∨ (ik i = 2 ∧ io i = 2 ∧ ia i = iv i ∧ ∃ c : Nat, c < tf_oN ow i ∧ iv i = nI c) ∨ (io i = ik i ∧ ∃ c : Nat, ik i = nI c ∧ ((36 ≤ c ∧ c ≤ 46) ∨ c = 50))
def tf_I (n w : Nat) (io ia ik iv ow : Nat → Int32) : Prop := ∀ i, i < n → (ow i = nI (tf_oN ow i) ∧ 51 ≤ tf_oN ow i ∧ tf_oN ow i ≤ w) ∧ tf_I1 i io ia ik iv ow
def tf_P (w n mu : Nat) (op co oy : Int32) (onm : Int64) (os cd : Nat) (ow : Nat → Int32) : Prop := (op = 0 ∧ oy = 0 ∧ cd = 0 ∧ ∀ i, i < n → tf_oN ow i < w) ∨ (op = 1 ∧ ((co = 0 ∧ oy = 1) ∨ (co = 1 ∧ oy = 2)) ∧ w < 51 + mu ∧ os ≤ n ∧ tf_GN onm ∧ ∀ i, i < n → (i < os ↔ tf_oN ow i < w))
/-- one item seen by a scan for the end of a structure that o opens: the level behind it, none where the scan ends -/
def tf_cl (o k : Int32) : Bool := if o = 36 then decide (k = 38) else if o = 39 then decide (k = 40 ∨ k = 42) else decide (k = 44)
def tf_sf (o k : Int32) (l : Nat) : Option Nat := if tf_cl o k = true then (if l = 0 then none else some (l - 1)) else if o = 36 ∧ k = 37 ∧ l = 0 then none else if k = o then some (l + 1) else some l
/-- the level behind c items from place p + 1 on -/
def tf_fs (o : Int32) (ik : Nat → Int32) (p : Nat) : Nat → Option Nat
  | 0 => some 0
  | c + 1 => (tf_fs o ik p c).bind (fun l => tf_sf o (ik (p + 1 + c)) l)
/-- whether a control entry of kind k counts for opener o -/
def tf_ty (o k : Int32) : Nat := if o = 36 then (if k = 36 ∨ k = 37 then 1 else 0) else if k = o then 1 else 0
/-- how many of the entries above j (and below m) count for o -/
def tf_cc (o : Int32) (ck : Nat → Int32) (j : Nat) : Nat → Nat
  | 0 => 0
  | m + 1 => tf_cc o ck j m + (if j < m then tf_ty o (ck m) else 0)
def tf_ot (o : Int32) : Prop := o = 36 ∨ o = 39 ∨ o = 43
def tf_K1 (n os cd j : Nat) (ck ci ik : Nat → Int32) : Prop := ∃ c : Nat, ci j = nI c ∧ os ≤ c ∧ c < n ∧ ik c = ck j ∧ (ck j = 36 ∨ ck j = 37 ∨ ck j = 39 ∨ ck j = 41 ∨ ck j = 43) ∧ (∀ o, tf_ot o → tf_fs o ik c (n - 1 - c) = some (tf_cc o ck j cd)) ∧ (ck j = 41 → ∃ i, j = i + 1 ∧ ck i = 39)
def tf_K (cd n os : Nat) (ck ci ik : Nat → Int32) : Prop := (∀ j, j < cd → tf_K1 n os cd j ck ci ik) ∧ ∀ i j, i < cd → j < cd → ci i = ci j → i = j
def tf_FT (n : Nat) (ow ia ik : Nat → Int32) (o : Int32) (i : Nat) : Prop := ∃ q : Nat, ia i = nI (q + 1) ∧ i < q ∧ q < n ∧ ow q = ow i ∧ tf_fs o ik i (q - 1 - i) = some 0 ∧ tf_sf o (ik q) 0 = none
def tf_BT (ow ia ik : Nat → Int32) (o : Int32) (i : Nat) : Prop := ∃ c : Nat, ia i = nI (c + 1) ∧ c < i ∧ ow c = ow i ∧ ik c = o ∧ tf_fs o ik c (i - 1 - c) = some 0
def tf_TG (n : Nat) (ow ia ik : Nat → Int32) (i : Nat) : Prop := (ik i = 36 ∨ ik i = 37 → tf_FT n ow ia ik 36 i) ∧ (ik i = 41 → tf_FT n ow ia ik 39 i) ∧ (ik i = 45 → tf_FT n ow ia ik 43 i) ∧ (ik i = 40 ∨ ik i = 42 → tf_BT ow ia ik 39 i) ∧ (ik i = 44 → tf_BT ow ia ik 43 i)
def tf_PD (n cd : Nat) (ia ik ck ci : Nat → Int32) (i : Nat) : Prop := ((ik i = 36 ∨ ik i = 37 ∨ ik i = 41) ∧ ∃ j, j < cd ∧ ci j = nI i) ∨ (ik i = 45 ∧ ∃ j c, j < cd ∧ ck j = 43 ∧ ci j = nI c ∧ ia i = nI c ∧ c < i ∧ tf_fs 43 ik i (n - 1 - i) = some (tf_cc 43 ck j cd))
def tf_G (n cd : Nat) (ow ia ik ck ci : Nat → Int32) : Prop := ∀ i, i < n → tf_TG n ow ia ik i ∨ tf_PD n cd ia ik ck ci i
/-- the return stacks -/
def tf_RS (md : Nat) (FR : Nat → Nat → Nat → Nat → Prop) (rk ra rb rc yk ya yb : Nat → Int32) : Nat → Int32 → Int32 → Nat → Prop
  | 0, ip, _, _ => ip = -1
  | r + 1, ip, ie, p =>
    (rk r = 1 ∧ yk r = 4 ∧ ra r = ya r ∧ 0 < r ∧ tf_RS md FR rk ra rb rc yk ya yb r ip ie p) ∨
    (rk r = 2 ∧ yk r = 5 ∧ ra r = ya r ∧ rb r = yb r ∧ 0 < r ∧ tf_RS md FR rk ra rb rc yk ya yb r ip ie p) ∨
    (rk r = 3 ∧ yk r = 3 ∧ ∃ i e o j q : Nat, ip = nI i ∧ ie = nI e ∧ ya r = nI o ∧ yb r = nI j ∧ FR i e o j ∧ tf_RS md FR rk ra rb rc yk ya yb r (ra r) (rb r) q ∧ q + 67 * (e - i) + 1 ≤ p) ∨
    (rk r = 4 ∧ yk r = 6 ∧ ip = -2 ∧ ∃ c q : Nat, c < md ∧ rc r = nI c ∧ ya r = nI c ∧ tf_RS md FR rk ra rb rc yk ya yb r (ra r) (rb r) q ∧ q + 1 ≤ p)
abbrev tf_C (md mr mu mf ll d r w n os cd hc oh od : Nat) (op co oy : Int32) (onm : Int64) (li : Nat → Int32) (nm : Nat → Int64) (kd im ad st we wo oo ol ao ap tk gv io ia ik iv ow ck ci ox oz : Nat → Int32) : Prop :=
  tf_B md mr mu mf ll d r w n cd hc oh od ∧ tf_L ll li ∧ tf_T tk gv ∧ tf_O od ox oz ∧ tf_N w nm kd im ad ∧ tf_Q w wo oo ol ∧ tf_S w n kd st we ao ap ow ∧ tf_I n w io ia ik iv ow ∧ tf_P w n mu op co oy onm os cd ow ∧ tf_K cd n os ck ci ik ∧ tf_G n cd ow ia ik ck ci
abbrev tf_R (p md ll lp fu r : Nat) (ip ie : Int32) (w : Nat) (kd st we rk ra rb rc yk ya yb : Nat → Int32) (lo : Nat) : Prop :=
  lp ≤ ll ∧ fu ≤ 100 ∧ ∃ q : Nat, tf_RS md (tf_FR w kd st we) rk ra rb rc yk ya yb r ip ie q ∧ q + 6433 * fu + 67 * (ll - lp) ≤ p ∧ lo ≤ lp
abbrev tf_F (p md mr mu mf ll d r w n os cd hc oh od : Nat) (op co oy : Int32) (onm : Int64) (li : Nat → Int32) (nm : Nat → Int64) (kd im ad st we wo oo ol ao ap tk gv io ia ik iv ow ck ci ox oz : Nat → Int32) (lp fu : Nat) (ip ie : Int32) (rk ra rb rc yk ya yb : Nat → Int32) (lo : Nat) : Prop :=
  (tf_C md mr mu mf ll d r w n os cd hc oh od op co oy onm li nm kd im ad st we wo oo ol ao ap tk gv io ia ik iv ow ck ci ox oz) ∧ (tf_R p md ll lp fu r ip ie w kd st we rk ra rb rc yk ya yb lo)
/-- X and Y are ready to go on: no word waits -/
def tf_MR (lo p : Nat) (u : SX) (v : SY) : Prop := ∃ (md mr mu mf ll lp d r w n os cd hc oh od fu : Nat) (k1 k2 k3 k4 k5 k6 k7 k8 k9 tS tE en op co cu ip ie pe ab re oy sv : Int32) (tN onm : Int64) (li da rk ra rb rc kd ls im sr st we ad wo tk gv io ia ck ci ce ou ox yk ya yb oo ol ao ap ik iv ow oz : Nat → Int32) (nm : Nat → Int64), u = (k1, k2, k3, k4, k5, k6, k7, k8, k9, (nI md), (nI mr), (nI mu), (nI mf), (nI ll), (nI lp), tS, tE, tN, (nI d), (nI r), (nI w), en, (nI n), op, co, onm, (nI os), (nI cd), (nI hc), (nI oh), (nI od), cu, (nI fu), ip, ie, (-1), 0, re, li, da, rk, ra, rb, rc, nm, kd, ls, im, sr, st, we, ad, wo, tk, gv, io, ia, ck, ci, ce, ou, ox) ∧ v = ((nI md), (nI mr), (nI mu), (nI mf), (nI ll), (nI lp), sv, (nI d), (nI r), (nI w), en, (nI n), (nI hc), (nI od), cu, oy, onm, (nI cd), (nI oh), (nI fu), (-1), re, 0, li, da, yk, ya, yb, nm, kd, ls, im, sr, ad, oo, ol, ao, ap, ik, iv, ow, ce, oz, ck, ou) ∧ (tf_F p md mr mu mf ll d r w n os cd hc oh od op co oy onm li nm kd im ad st we wo oo ol ao ap tk gv io ia ik iv ow ck ci ox oz lp fu ip ie rk ra rb rc yk ya yb lo)
/-- word c waits -/
def tf_MP (lo p : Nat) (u : SX) (v : SY) : Prop := ∃ c q : Nat, ∃ (md mr mu mf ll lp d r w n os cd hc oh od fu : Nat) (k1 k2 k3 k4 k5 k6 k7 k8 k9 tS tE en op co cu ip ie pe ab re oy sv : Int32) (tN onm : Int64) (li da rk ra rb rc kd ls im sr st we ad wo tk gv io ia ck ci ce ou ox yk ya yb oo ol ao ap ik iv ow oz : Nat → Int32) (nm : Nat → Int64), u = (k1, k2, k3, k4, k5, k6, k7, k8, k9, (nI md), (nI mr), (nI mu), (nI mf), (nI ll), (nI lp), tS, tE, tN, (nI d), (nI r), (nI w), en, (nI n), op, co, onm, (nI os), (nI cd), (nI hc), (nI oh), (nI od), cu, (nI fu), ip, ie, (nI c), 0, re, li, da, rk, ra, rb, rc, nm, kd, ls, im, sr, st, we, ad, wo, tk, gv, io, ia, ck, ci, ce, ou, ox) ∧ v = ((nI md), (nI mr), (nI mu), (nI mf), (nI ll), (nI lp), sv, (nI d), (nI r), (nI w), en, (nI n), (nI hc), (nI od), cu, oy, onm, (nI cd), (nI oh), (nI fu), (nI c), re, 0, li, da, yk, ya, yb, nm, kd, ls, im, sr, ad, oo, ol, ao, ap, ik, iv, ow, ce, oz, ck, ou) ∧ (tf_F q md mr mu mf ll d r w n os cd hc oh od op co oy onm li nm kd im ad st we wo oo ol ao ap tk gv io ia ik iv ow ck ci ox oz lp fu ip ie rk ra rb rc yk ya yb lo) ∧ c < w ∧ q + 2 * (d + 1) ≤ p
/-- the line is aborted -/
def tf_MD (u : SX) (v : SY) : Prop := ∃ (md mr mu mf ll lp d r w n os cd hc oh od fu : Nat) (k1 k2 k3 k4 k5 k6 k7 k8 k9 tS tE en op co cu ip ie pe ab re oy sv : Int32) (tN onm : Int64) (li da rk ra rb rc kd ls im sr st we ad wo tk gv io ia ck ci ce ou ox yk ya yb oo ol ao ap ik iv ow oz : Nat → Int32) (nm : Nat → Int64), u = (k1, k2, k3, k4, k5, k6, k7, k8, k9, (nI md), (nI mr), (nI mu), (nI mf), (nI 0), (nI 0), tS, tE, tN, (nI d), (nI 0), (nI w), en, (nI n), op, co, onm, (nI os), (nI cd), (nI hc), (nI oh), (nI od), cu, (nI fu), (-1), ie, (-1), 1, re, li, da, rk, ra, rb, rc, nm, kd, ls, im, sr, st, we, ad, wo, tk, gv, io, ia, ck, ci, ce, ou, ox) ∧ v = ((nI md), (nI mr), (nI mu), (nI mf), (nI 0), (nI lp), sv, (nI d), (nI 0), (nI w), en, (nI n), (nI hc), (nI od), cu, oy, onm, (nI cd), (nI oh), (nI fu), (-1), re, 1, li, da, yk, ya, yb, nm, kd, ls, im, sr, ad, oo, ol, ao, ap, ik, iv, ow, ce, oz, ck, ou) ∧ (tf_C md mr mu mf 0 d 0 w n os cd hc oh od op co oy onm li nm kd im ad st we wo oo ol ao ap tk gv io ia ik iv ow ck ci ox oz)
def tf_M (lo p : Nat) (u : SX) (v : SY) : Prop := tf_MR lo p u v ∨ tf_MP lo p u v ∨ tf_MD u v
theorem tf_MR_el {lo p : Nat} {u : SX} {v : SY} {P : SX → SY → Prop} (H : ∀ (md mr mu mf ll lp d r w n os cd hc oh od fu : Nat) (k1 k2 k3 k4 k5 k6 k7 k8 k9 tS tE en op co cu ip ie pe ab re oy sv : Int32) (tN onm : Int64) (li da rk ra rb rc kd ls im sr st we ad wo tk gv io ia ck ci ce ou ox yk ya yb oo ol ao ap ik iv ow oz : Nat → Int32) (nm : Nat → Int64), (tf_F p md mr mu mf ll d r w n os cd hc oh od op co oy onm li nm kd im ad st we wo oo ol ao ap tk gv io ia ik iv ow ck ci ox oz lp fu ip ie rk ra rb rc yk ya yb lo) → P (k1, k2, k3, k4, k5, k6, k7, k8, k9, (nI md), (nI mr), (nI mu), (nI mf), (nI ll), (nI lp), tS, tE, tN, (nI d), (nI r), (nI w), en, (nI n), op, co, onm, (nI os), (nI cd), (nI hc), (nI oh), (nI od), cu, (nI fu), ip, ie, (-1), 0, re, li, da, rk, ra, rb, rc, nm, kd, ls, im, sr, st, we, ad, wo, tk, gv, io, ia, ck, ci, ce, ou, ox) ((nI md), (nI mr), (nI mu), (nI mf), (nI ll), (nI lp), sv, (nI d), (nI r), (nI w), en, (nI n), (nI hc), (nI od), cu, oy, onm, (nI cd), (nI oh), (nI fu), (-1), re, 0, li, da, yk, ya, yb, nm, kd, ls, im, sr, ad, oo, ol, ao, ap, ik, iv, ow, ce, oz, ck, ou)) (h : tf_MR lo p u v) : P u v :=
  Exists.elim h fun md h => Exists.elim h fun mr h => Exists.elim h fun mu h => Exists.elim h fun mf h => Exists.elim h fun ll h => Exists.elim h fun lp h => Exists.elim h fun d h => Exists.elim h fun r h => Exists.elim h fun w h => Exists.elim h fun n h => Exists.elim h fun os h => Exists.elim h fun cd h => Exists.elim h fun hc h => Exists.elim h fun oh h => Exists.elim h fun od h => Exists.elim h fun fu h => Exists.elim h fun k1 h => Exists.elim h fun k2 h => Exists.elim h fun k3 h => Exists.elim h fun k4 h => Exists.elim h fun k5 h => Exists.elim h fun k6 h => Exists.elim h fun k7 h => Exists.elim h fun k8 h => Exists.elim h fun k9 h => Exists.elim h fun tS h => Exists.elim h fun tE h => Exists.elim h fun en h => Exists.elim h fun op h => Exists.elim h fun co h => Exists.elim h fun cu h => Exists.elim h fun ip h => Exists.elim h fun ie h => Exists.elim h fun pe h => Exists.elim h fun ab h => Exists.elim h fun re h => Exists.elim h fun oy h => Exists.elim h fun sv h => Exists.elim h fun tN h => Exists.elim h fun onm h => Exists.elim h fun li h => Exists.elim h fun da h => Exists.elim h fun rk h => Exists.elim h fun ra h => Exists.elim h fun rb h => Exists.elim h fun rc h => Exists.elim h fun kd h => Exists.elim h fun ls h => Exists.elim h fun im h => Exists.elim h fun sr h => Exists.elim h fun st h => Exists.elim h fun we h => Exists.elim h fun ad h => Exists.elim h fun wo h => Exists.elim h fun tk h => Exists.elim h fun gv h => Exists.elim h fun io h => Exists.elim h fun ia h => Exists.elim h fun ck h => Exists.elim h fun ci h => Exists.elim h fun ce h => Exists.elim h fun ou h => Exists.elim h fun ox h => Exists.elim h fun yk h => Exists.elim h fun ya h => Exists.elim h fun yb h => Exists.elim h fun oo h => Exists.elim h fun ol h => Exists.elim h fun ao h => Exists.elim h fun ap h => Exists.elim h fun ik h => Exists.elim h fun iv h => Exists.elim h fun ow h => Exists.elim h fun oz h => Exists.elim h fun nm h => Eq.subst (motive := fun u => P u v) h.1.symm (Eq.subst (motive := fun v => P (k1, k2, k3, k4, k5, k6, k7, k8, k9, (nI md), (nI mr), (nI mu), (nI mf), (nI ll), (nI lp), tS, tE, tN, (nI d), (nI r), (nI w), en, (nI n), op, co, onm, (nI os), (nI cd), (nI hc), (nI oh), (nI od), cu, (nI fu), ip, ie, (-1), 0, re, li, da, rk, ra, rb, rc, nm, kd, ls, im, sr, st, we, ad, wo, tk, gv, io, ia, ck, ci, ce, ou, ox) v) h.2.1.symm (H md mr mu mf ll lp d r w n os cd hc oh od fu k1 k2 k3 k4 k5 k6 k7 k8 k9 tS tE en op co cu ip ie pe ab re oy sv tN onm li da rk ra rb rc kd ls im sr st we ad wo tk gv io ia ck ci ce ou ox yk ya yb oo ol ao ap ik iv ow oz nm h.2.2))
theorem tf_MP_el {lo p : Nat} {u : SX} {v : SY} {P : SX → SY → Prop} (H : ∀ (c q : Nat) (md mr mu mf ll lp d r w n os cd hc oh od fu : Nat) (k1 k2 k3 k4 k5 k6 k7 k8 k9 tS tE en op co cu ip ie pe ab re oy sv : Int32) (tN onm : Int64) (li da rk ra rb rc kd ls im sr st we ad wo tk gv io ia ck ci ce ou ox yk ya yb oo ol ao ap ik iv ow oz : Nat → Int32) (nm : Nat → Int64), (tf_F q md mr mu mf ll d r w n os cd hc oh od op co oy onm li nm kd im ad st we wo oo ol ao ap tk gv io ia ik iv ow ck ci ox oz lp fu ip ie rk ra rb rc yk ya yb lo) → c < w → q + 2 * (d + 1) ≤ p → P (k1, k2, k3, k4, k5, k6, k7, k8, k9, (nI md), (nI mr), (nI mu), (nI mf), (nI ll), (nI lp), tS, tE, tN, (nI d), (nI r), (nI w), en, (nI n), op, co, onm, (nI os), (nI cd), (nI hc), (nI oh), (nI od), cu, (nI fu), ip, ie, (nI c), 0, re, li, da, rk, ra, rb, rc, nm, kd, ls, im, sr, st, we, ad, wo, tk, gv, io, ia, ck, ci, ce, ou, ox) ((nI md), (nI mr), (nI mu), (nI mf), (nI ll), (nI lp), sv, (nI d), (nI r), (nI w), en, (nI n), (nI hc), (nI od), cu, oy, onm, (nI cd), (nI oh), (nI fu), (nI c), re, 0, li, da, yk, ya, yb, nm, kd, ls, im, sr, ad, oo, ol, ao, ap, ik, iv, ow, ce, oz, ck, ou)) (h : tf_MP lo p u v) : P u v :=
  Exists.elim h fun c h => Exists.elim h fun q h => Exists.elim h fun md h => Exists.elim h fun mr h => Exists.elim h fun mu h => Exists.elim h fun mf h => Exists.elim h fun ll h => Exists.elim h fun lp h => Exists.elim h fun d h => Exists.elim h fun r h => Exists.elim h fun w h => Exists.elim h fun n h => Exists.elim h fun os h => Exists.elim h fun cd h => Exists.elim h fun hc h => Exists.elim h fun oh h => Exists.elim h fun od h => Exists.elim h fun fu h => Exists.elim h fun k1 h => Exists.elim h fun k2 h => Exists.elim h fun k3 h => Exists.elim h fun k4 h => Exists.elim h fun k5 h => Exists.elim h fun k6 h => Exists.elim h fun k7 h => Exists.elim h fun k8 h => Exists.elim h fun k9 h => Exists.elim h fun tS h => Exists.elim h fun tE h => Exists.elim h fun en h => Exists.elim h fun op h => Exists.elim h fun co h => Exists.elim h fun cu h => Exists.elim h fun ip h => Exists.elim h fun ie h => Exists.elim h fun pe h => Exists.elim h fun ab h => Exists.elim h fun re h => Exists.elim h fun oy h => Exists.elim h fun sv h => Exists.elim h fun tN h => Exists.elim h fun onm h => Exists.elim h fun li h => Exists.elim h fun da h => Exists.elim h fun rk h => Exists.elim h fun ra h => Exists.elim h fun rb h => Exists.elim h fun rc h => Exists.elim h fun kd h => Exists.elim h fun ls h => Exists.elim h fun im h => Exists.elim h fun sr h => Exists.elim h fun st h => Exists.elim h fun we h => Exists.elim h fun ad h => Exists.elim h fun wo h => Exists.elim h fun tk h => Exists.elim h fun gv h => Exists.elim h fun io h => Exists.elim h fun ia h => Exists.elim h fun ck h => Exists.elim h fun ci h => Exists.elim h fun ce h => Exists.elim h fun ou h => Exists.elim h fun ox h => Exists.elim h fun yk h => Exists.elim h fun ya h => Exists.elim h fun yb h => Exists.elim h fun oo h => Exists.elim h fun ol h => Exists.elim h fun ao h => Exists.elim h fun ap h => Exists.elim h fun ik h => Exists.elim h fun iv h => Exists.elim h fun ow h => Exists.elim h fun oz h => Exists.elim h fun nm h => Eq.subst (motive := fun u => P u v) h.1.symm (Eq.subst (motive := fun v => P (k1, k2, k3, k4, k5, k6, k7, k8, k9, (nI md), (nI mr), (nI mu), (nI mf), (nI ll), (nI lp), tS, tE, tN, (nI d), (nI r), (nI w), en, (nI n), op, co, onm, (nI os), (nI cd), (nI hc), (nI oh), (nI od), cu, (nI fu), ip, ie, (nI c), 0, re, li, da, rk, ra, rb, rc, nm, kd, ls, im, sr, st, we, ad, wo, tk, gv, io, ia, ck, ci, ce, ou, ox) v) h.2.1.symm (H c q md mr mu mf ll lp d r w n os cd hc oh od fu k1 k2 k3 k4 k5 k6 k7 k8 k9 tS tE en op co cu ip ie pe ab re oy sv tN onm li da rk ra rb rc kd ls im sr st we ad wo tk gv io ia ck ci ce ou ox yk ya yb oo ol ao ap ik iv ow oz nm h.2.2.1 h.2.2.2.1 h.2.2.2.2))
theorem tf_MD_el {u : SX} {v : SY} {P : SX → SY → Prop} (H : ∀ (md mr mu mf ll lp d r w n os cd hc oh od fu : Nat) (k1 k2 k3 k4 k5 k6 k7 k8 k9 tS tE en op co cu ip ie pe ab re oy sv : Int32) (tN onm : Int64) (li da rk ra rb rc kd ls im sr st we ad wo tk gv io ia ck ci ce ou ox yk ya yb oo ol ao ap ik iv ow oz : Nat → Int32) (nm : Nat → Int64), (tf_C md mr mu mf 0 d 0 w n os cd hc oh od op co oy onm li nm kd im ad st we wo oo ol ao ap tk gv io ia ik iv ow ck ci ox oz) → P (k1, k2, k3, k4, k5, k6, k7, k8, k9, (nI md), (nI mr), (nI mu), (nI mf), (nI 0), (nI 0), tS, tE, tN, (nI d), (nI 0), (nI w), en, (nI n), op, co, onm, (nI os), (nI cd), (nI hc), (nI oh), (nI od), cu, (nI fu), (-1), ie, (-1), 1, re, li, da, rk, ra, rb, rc, nm, kd, ls, im, sr, st, we, ad, wo, tk, gv, io, ia, ck, ci, ce, ou, ox) ((nI md), (nI mr), (nI mu), (nI mf), (nI 0), (nI lp), sv, (nI d), (nI 0), (nI w), en, (nI n), (nI hc), (nI od), cu, oy, onm, (nI cd), (nI oh), (nI fu), (-1), re, 1, li, da, yk, ya, yb, nm, kd, ls, im, sr, ad, oo, ol, ao, ap, ik, iv, ow, ce, oz, ck, ou)) (h : tf_MD u v) : P u v :=
  Exists.elim h fun md h => Exists.elim h fun mr h => Exists.elim h fun mu h => Exists.elim h fun mf h => Exists.elim h fun ll h => Exists.elim h fun lp h => Exists.elim h fun d h => Exists.elim h fun r h => Exists.elim h fun w h => Exists.elim h fun n h => Exists.elim h fun os h => Exists.elim h fun cd h => Exists.elim h fun hc h => Exists.elim h fun oh h => Exists.elim h fun od h => Exists.elim h fun fu h => Exists.elim h fun k1 h => Exists.elim h fun k2 h => Exists.elim h fun k3 h => Exists.elim h fun k4 h => Exists.elim h fun k5 h => Exists.elim h fun k6 h => Exists.elim h fun k7 h => Exists.elim h fun k8 h => Exists.elim h fun k9 h => Exists.elim h fun tS h => Exists.elim h fun tE h => Exists.elim h fun en h => Exists.elim h fun op h => Exists.elim h fun co h => Exists.elim h fun cu h => Exists.elim h fun ip h => Exists.elim h fun ie h => Exists.elim h fun pe h => Exists.elim h fun ab h => Exists.elim h fun re h => Exists.elim h fun oy h => Exists.elim h fun sv h => Exists.elim h fun tN h => Exists.elim h fun onm h => Exists.elim h fun li h => Exists.elim h fun da h => Exists.elim h fun rk h => Exists.elim h fun ra h => Exists.elim h fun rb h => Exists.elim h fun rc h => Exists.elim h fun kd h => Exists.elim h fun ls h => Exists.elim h fun im h => Exists.elim h fun sr h => Exists.elim h fun st h => Exists.elim h fun we h => Exists.elim h fun ad h => Exists.elim h fun wo h => Exists.elim h fun tk h => Exists.elim h fun gv h => Exists.elim h fun io h => Exists.elim h fun ia h => Exists.elim h fun ck h => Exists.elim h fun ci h => Exists.elim h fun ce h => Exists.elim h fun ou h => Exists.elim h fun ox h => Exists.elim h fun yk h => Exists.elim h fun ya h => Exists.elim h fun yb h => Exists.elim h fun oo h => Exists.elim h fun ol h => Exists.elim h fun ao h => Exists.elim h fun ap h => Exists.elim h fun ik h => Exists.elim h fun iv h => Exists.elim h fun ow h => Exists.elim h fun oz h => Exists.elim h fun nm h => Eq.subst (motive := fun u => P u v) h.1.symm (Eq.subst (motive := fun v => P (k1, k2, k3, k4, k5, k6, k7, k8, k9, (nI md), (nI mr), (nI mu), (nI mf), (nI 0), (nI 0), tS, tE, tN, (nI d), (nI 0), (nI w), en, (nI n), op, co, onm, (nI os), (nI cd), (nI hc), (nI oh), (nI od), cu, (nI fu), (-1), ie, (-1), 1, re, li, da, rk, ra, rb, rc, nm, kd, ls, im, sr, st, we, ad, wo, tk, gv, io, ia, ck, ci, ce, ou, ox) v) h.2.1.symm (H md mr mu mf ll lp d r w n os cd hc oh od fu k1 k2 k3 k4 k5 k6 k7 k8 k9 tS tE en op co cu ip ie pe ab re oy sv tN onm li da rk ra rb rc kd ls im sr st we ad wo tk gv io ia ck ci ce ou ox yk ya yb oo ol ao ap ik iv ow oz nm h.2.2))
section
variable {md mr mu mf ll lp d r w n os cd hc oh od fu : Nat} {k1 k2 k3 k4 k5 k6 k7 k8 k9 tS tE en op co cu ip ie pe ab re oy sv : Int32} {tN onm : Int64} {li da rk ra rb rc kd ls im sr st we ad wo tk gv io ia ck ci ce ou ox yk ya yb oo ol ao ap ik iv ow oz : Nat → Int32} {nm : Nat → Int64} {lo : Nat}
theorem tf_MR_in {p : Nat} (h : (tf_F p md mr mu mf ll d r w n os cd hc oh od op co oy onm li nm kd im ad st we wo oo ol ao ap tk gv io ia ik iv ow ck ci ox oz lp fu ip ie rk ra rb rc yk ya yb lo)) : tf_MR lo p (k1, k2, k3, k4, k5, k6, k7, k8, k9, (nI md), (nI mr), (nI mu), (nI mf), (nI ll), (nI lp), tS, tE, tN, (nI d), (nI r), (nI w), en, (nI n), op, co, onm, (nI os), (nI cd), (nI hc), (nI oh), (nI od), cu, (nI fu), ip, ie, (-1), 0, re, li, da, rk, ra, rb, rc, nm, kd, ls, im, sr, st, we, ad, wo, tk, gv, io, ia, ck, ci, ce, ou, ox) ((nI md), (nI mr), (nI mu), (nI mf), (nI ll), (nI lp), sv, (nI d), (nI r), (nI w), en, (nI n), (nI hc), (nI od), cu, oy, onm, (nI cd), (nI oh), (nI fu), (-1), re, 0, li, da, yk, ya, yb, nm, kd, ls, im, sr, ad, oo, ol, ao, ap, ik, iv, ow, ce, oz, ck, ou) := Exists.intro md ( Exists.intro mr ( Exists.intro mu ( Exists.intro mf ( Exists.intro ll ( Exists.intro lp ( Exists.intro d ( Exists.intro r ( Exists.intro w ( Exists.intro n ( Exists.intro os ( Exists.intro cd ( Exists.intro hc ( Exists.intro oh ( Exists.intro od ( Exists.intro fu ( Exists.intro k1 ( Exists.intro k2 ( Exists.intro k3 ( Exists.intro k4 ( Exists.intro k5 ( Exists.intro k6 ( Exists.intro k7 ( Exists.intro k8 ( Exists.intro k9 ( Exists.intro tS ( Exists.intro tE ( Exists.intro en ( Exists.intro op ( Exists.intro co ( Exists.intro cu ( Exists.intro ip ( Exists.intro ie ( Exists.intro 0 ( Exists.intro 0 ( Exists.intro re ( Exists.intro oy ( Exists.intro sv ( Exists.intro tN ( Exists.intro onm ( Exists.intro li ( Exists.intro da ( Exists.intro rk ( Exists.intro ra ( Exists.intro rb ( Exists.intro rc ( Exists.intro kd ( Exists.intro ls ( Exists.intro im ( Exists.intro sr ( Exists.intro st ( Exists.intro we ( Exists.intro ad ( Exists.intro wo ( Exists.intro tk ( Exists.intro gv ( Exists.intro io ( Exists.intro ia ( Exists.intro ck ( Exists.intro ci ( Exists.intro ce ( Exists.intro ou ( Exists.intro ox ( Exists.intro yk ( Exists.intro ya ( Exists.intro yb ( Exists.intro oo ( Exists.intro ol ( Exists.intro ao ( Exists.intro ap ( Exists.intro ik ( Exists.intro iv ( Exists.intro ow ( Exists.intro oz ( Exists.intro nm ( ⟨rfl, rfl, h⟩)))))))))))))))))))))))))))))))))))))))))))))))))))))))))))))))))))))))))))
theorem tf_MP_in {p q c : Nat} (h : (tf_F q md mr mu mf ll d r w n os cd hc oh od op co oy onm li nm kd im ad st we wo oo ol ao ap tk gv io ia ik iv ow ck ci ox oz lp fu ip ie rk ra rb rc yk ya yb lo)) (hc' : c < w) (hp : q + 2 * (d + 1) ≤ p) : tf_MP lo p (k1, k2, k3, k4, k5, k6, k7, k8, k9, (nI md), (nI mr), (nI mu), (nI mf), (nI ll), (nI lp), tS, tE, tN, (nI d), (nI r), (nI w), en, (nI n), op, co, onm, (nI os), (nI cd), (nI hc), (nI oh), (nI od), cu, (nI fu), ip, ie, (nI c), 0, re, li, da, rk, ra, rb, rc, nm, kd, ls, im, sr, st, we, ad, wo, tk, gv, io, ia, ck, ci, ce, ou, ox) ((nI md), (nI mr), (nI mu), (nI mf), (nI ll), (nI lp), sv, (nI d), (nI r), (nI w), en, (nI n), (nI hc), (nI od), cu, oy, onm, (nI cd), (nI oh), (nI fu), (nI c), re, 0, li, da, yk, ya, yb, nm, kd, ls, im, sr, ad, oo, ol, ao, ap, ik, iv, ow, ce, oz, ck, ou) := Exists.intro c (Exists.intro q (Exists.intro md ( Exists.intro mr ( Exists.intro mu ( Exists.intro mf ( Exists.intro ll ( Exists.intro lp ( Exists.intro d ( Exists.intro r ( Exists.intro w ( Exists.intro n ( Exists.intro os ( Exists.intro cd ( Exists.intro hc ( Exists.intro oh ( Exists.intro od ( Exists.intro fu ( Exists.intro k1 ( Exists.intro k2 ( Exists.intro k3 ( Exists.intro k4 ( Exists.intro k5 ( Exists.intro k6 ( Exists.intro k7 ( Exists.intro k8 ( Exists.intro k9 ( Exists.intro tS ( Exists.intro tE ( Exists.intro en ( Exists.intro op ( Exists.intro co ( Exists.intro cu ( Exists.intro ip ( Exists.intro ie ( Exists.intro 0 ( Exists.intro 0 ( Exists.intro re ( Exists.intro oy ( Exists.intro sv ( Exists.intro tN ( Exists.intro onm ( Exists.intro li ( Exists.intro da ( Exists.intro rk ( Exists.intro ra ( Exists.intro rb ( Exists.intro rc ( Exists.intro kd ( Exists.intro ls ( Exists.intro im ( Exists.intro sr ( Exists.intro st ( Exists.intro we ( Exists.intro ad ( Exists.intro wo ( Exists.intro tk ( Exists.intro gv ( Exists.intro io ( Exists.intro ia ( Exists.intro ck ( Exists.intro ci ( Exists.intro ce ( Exists.intro ou ( Exists.intro ox ( Exists.intro yk ( Exists.intro ya ( Exists.intro yb ( Exists.intro oo ( Exists.intro ol ( Exists.intro ao ( Exists.intro ap ( Exists.intro ik ( Exists.intro iv ( Exists.intro ow ( Exists.intro oz ( Exists.intro nm ( ⟨rfl, rfl, h, hc', hp⟩)))))))))))))))))))))))))))))))))))))))))))))))))))))))))))))))))))))))))))))
theorem tf_MD_in (h : (tf_C md mr mu mf 0 d 0 w n os cd hc oh od op co oy onm li nm kd im ad st we wo oo ol ao ap tk gv io ia ik iv ow ck ci ox oz)) : tf_MD (k1, k2, k3, k4, k5, k6, k7, k8, k9, (nI md), (nI mr), (nI mu), (nI mf), (nI 0), (nI 0), tS, tE, tN, (nI d), (nI 0), (nI w), en, (nI n), op, co, onm, (nI os), (nI cd), (nI hc), (nI oh), (nI od), cu, (nI fu), (-1), ie, (-1), 1, re, li, da, rk, ra, rb, rc, nm, kd, ls, im, sr, st, we, ad, wo, tk, gv, io, ia, ck, ci, ce, ou, ox) ((nI md), (nI mr), (nI mu), (nI mf), (nI 0), (nI lp), sv, (nI d), (nI 0), (nI w), en, (nI n), (nI hc), (nI od), cu, oy, onm, (nI cd), (nI oh), (nI fu), (-1), re, 1, li, da, yk, ya, yb, nm, kd, ls, im, sr, ad, oo, ol, ao, ap, ik, iv, ow, ce, oz, ck, ou) := Exists.intro md ( Exists.intro mr ( Exists.intro mu ( Exists.intro mf ( Exists.intro 0 ( Exists.intro lp ( Exists.intro d ( Exists.intro 0 ( Exists.intro w ( Exists.intro n ( Exists.intro os ( Exists.intro cd ( Exists.intro hc ( Exists.intro oh ( Exists.intro od ( Exists.intro fu ( Exists.intro k1 ( Exists.intro k2 ( Exists.intro k3 ( Exists.intro k4 ( Exists.intro k5 ( Exists.intro k6 ( Exists.intro k7 ( Exists.intro k8 ( Exists.intro k9 ( Exists.intro tS ( Exists.intro tE ( Exists.intro en ( Exists.intro op ( Exists.intro co ( Exists.intro cu ( Exists.intro 0 ( Exists.intro ie ( Exists.intro 0 ( Exists.intro 0 ( Exists.intro re ( Exists.intro oy ( Exists.intro sv ( Exists.intro tN ( Exists.intro onm ( Exists.intro li ( Exists.intro da ( Exists.intro rk ( Exists.intro ra ( Exists.intro rb ( Exists.intro rc ( Exists.intro kd ( Exists.intro ls ( Exists.intro im ( Exists.intro sr ( Exists.intro st ( Exists.intro we ( Exists.intro ad ( Exists.intro wo ( Exists.intro tk ( Exists.intro gv ( Exists.intro io ( Exists.intro ia ( Exists.intro ck ( Exists.intro ci ( Exists.intro ce ( Exists.intro ou ( Exists.intro ox ( Exists.intro yk ( Exists.intro ya ( Exists.intro yb ( Exists.intro oo ( Exists.intro ol ( Exists.intro ao ( Exists.intro ap ( Exists.intro ik ( Exists.intro iv ( Exists.intro ow ( Exists.intro oz ( Exists.intro nm ( ⟨rfl, rfl, h⟩)))))))))))))))))))))))))))))))))))))))))))))))))))))))))))))))))))))))))))
end
end
section
/-! plain facts: scans over items, counts over control entries -/
theorem tf_fs_congr {o : Int32} {f g : Nat → Int32} {p : Nat} : ∀ {c : Nat}, (∀ t, p < t → t ≤ p + c → f t = g t) → tf_fs o f p c = tf_fs o g p c
  | 0, _ => rfl
  | c + 1, h => by
    have ih := tf_fs_congr (o := o) (f := f) (g := g) (p := p) (c := c) (fun t a b => h t a (by omega))
    show (tf_fs o f p c).bind _ = (tf_fs o g p c).bind _
    rw [ih, h (p + 1 + c) (by omega) (by omega)]
theorem tf_fs_upd {o : Int32} {f : Nat → Int32} {p c n : Nat} {x : Int32} (h : p + c < n) : tf_fs o (upd f n x) p c = tf_fs o f p c :=
  tf_fs_congr (fun t _ b => pk_un (by omega))
theorem tf_fs_ext {o : Int32} {f : Nat → Int32} {c n : Nat} {x : Int32} {l : Nat} (h : c < n) (e : tf_fs o f c (n - 1 - c) = some l) : tf_fs o (upd f n x) c (n + 1 - 1 - c) = tf_sf o x l := by
  have e1 : n + 1 - 1 - c = (n - 1 - c) + 1 := by omega
  rw [e1]
  show (tf_fs o (upd f n x) c (n - 1 - c)).bind _ = _
  rw [tf_fs_upd (by omega), e]
  show tf_sf o (upd f n x (c + 1 + (n - 1 - c))) l = _
  have e2 : c + 1 + (n - 1 - c) = n := by omega
  rw [e2, pk_us]
theorem tf_fs_pre {o : Int32} {f : Nat → Int32} {p : Nat} : ∀ {c l : Nat}, tf_fs o f p c = some l → ∀ b, b ≤ c → ∃ m, tf_fs o f p b = some m
  | 0, l, h, b, hb => ⟨l, by have e : b = 0 := by omega
                             rw [e]; exact h⟩
  | c + 1, l, h, b, hb => by
    rcases Nat.lt_or_ge b (c + 1) with z | z
    · cases e : tf_fs o f p c with
      | none =>
        have h2 : (tf_fs o f p c).bind (fun l => tf_sf o (f (p + 1 + c)) l) = some l := h
        rw [e] at h2
        exact absurd h2 (by simp)
      | some m => exact tf_fs_pre e b (by omega)
    · have e : b = c + 1 := by omega
      exact ⟨l, by rw [e]; exact h⟩
theorem tf_fs_step {o : Int32} {f : Nat → Int32} {p c l m : Nat} (h : tf_fs o f p c = some l) (h2 : tf_fs o f p (c + 1) = some m) : tf_sf o (f (p + 1 + c)) l = some m := by
  have h3 : (tf_fs o f p c).bind (fun l => tf_sf o (f (p + 1 + c)) l) = some m := h2
  rw [h] at h3
  exact h3
theorem tf_sf_n {o x : Int32} {l : Nat} (h1 : tf_cl o x = false) (h2 : x ≠ 37) (h3 : x ≠ o) : tf_sf o x l = some l := by
  unfold tf_sf
  rw [h1, if_neg (by decide), if_neg (fun z => h2 z.2.1), if_neg h3]
theorem tf_sf_o {o : Int32} {l : Nat} (h1 : tf_cl o o = false) (h2 : o ≠ 37) : tf_sf o o l = some (l + 1) := by
  unfold tf_sf
  rw [h1, if_neg (by decide), if_neg (fun z => h2 z.2.1), if_pos rfl]
theorem tf_sf_c {o x : Int32} {l : Nat} (h1 : tf_cl o x = true) : tf_sf o x (l + 1) = some l := by
  unfold tf_sf
  rw [h1, if_pos rfl, if_neg (by omega)]
  rfl
theorem tf_sf_c0 {o x : Int32} (h1 : tf_cl o x = true) : tf_sf o x 0 = none := by
  unfold tf_sf
  rw [h1, if_pos rfl, if_pos rfl]
theorem tf_sf_e {l : Nat} : tf_sf 36 37 (l + 1) = some (l + 1) := by
  unfold tf_sf
  rw [if_neg (by decide), if_neg (fun z => by have := z.2.2; omega), if_neg (by decide)]
theorem tf_sf_e0 : tf_sf 36 37 0 = none := by decide
theorem tf_sf_e9 {l : Nat} : tf_sf 39 37 l = some l := by
  unfold tf_sf
  rw [if_neg (by decide), if_neg (fun z => absurd z.1 (by decide)), if_neg (by decide)]
theorem tf_sf_e3 {l : Nat} : tf_sf 43 37 l = some l := by
  unfold tf_sf
  rw [if_neg (by decide), if_neg (fun z => absurd z.1 (by decide)), if_neg (by decide)]
theorem tf_cc_0 {o : Int32} {ck : Nat → Int32} {j : Nat} : ∀ {m : Nat}, m ≤ j + 1 → tf_cc o ck j m = 0
  | 0, _ => rfl
  | m + 1, h => by
    show tf_cc o ck j m + _ = 0
    rw [tf_cc_0 (by omega), if_neg (by omega)]
theorem tf_cc_s {o : Int32} {ck : Nat → Int32} {j m : Nat} (h : j < m) : tf_cc o ck j (m + 1) = tf_cc o ck j m + tf_ty o (ck m) := by
  show tf_cc o ck j m + _ = _
  rw [if_pos h]
theorem tf_cc_congr {o : Int32} {f g : Nat → Int32} {j : Nat} : ∀ {m : Nat}, (∀ t, j < t → t < m → tf_ty o (f t) = tf_ty o (g t)) → tf_cc o f j m = tf_cc o g j m
  | 0, _ => rfl
  | m + 1, h => by
    show tf_cc o f j m + _ = tf_cc o g j m + _
    rw [tf_cc_congr (m := m) (fun t a b => h t a (by omega))]
    by_cases z : j < m
    · rw [if_pos z, if_pos z, h m z (by omega)]
    · rw [if_neg z, if_neg z]
theorem tf_cc_upd {o : Int32} {f : Nat → Int32} {j m k : Nat} {x : Int32} (h : m ≤ k ∨ k ≤ j) : tf_cc o (upd f k x) j m = tf_cc o f j m :=
  tf_cc_congr (fun t a b => by rw [pk_un (by omega)])
theorem tf_oN_s {f : Nat → Int32} {n w : Nat} (h : w < 2 ^ 31) : tf_oN (upd f n (nI w)) n = w := by
  unfold tf_oN
  rw [pk_us, nI_clamp h]
theorem tf_oN_n {f : Nat → Int32} {n i : Nat} {x : Int32} (h : i ≠ n) : tf_oN (upd f n x) i = tf_oN f i := by
  unfold tf_oN
  rw [pk_un h]
/-! the items group under a new item -/
theorem tf_S_app {w n : Nat} {kd st we ao ap ow : Nat → Int32} (hw : w ≤ 75) (h : tf_S w n kd st we ao ap ow) : tf_S w (n + 1) kd st we ao ap (upd ow n (nI w)) := by
  intro k h1 h2
  obtain ⟨a, b, c⟩ := h k h1 h2
  refine ⟨fun z => ?_, fun z => ?_, c⟩
  · obtain ⟨s, e, q1, q2, q3, q4, q5⟩ := a z
    refine ⟨s, e, q1, q2, q3, by omega, fun i hi => ?_⟩
    rcases Nat.lt_or_ge i n with g | g
    · rw [tf_oN_n (by omega)]; exact q5 i g
    · have e1 : i = n := by omega
      rw [e1, tf_oN_s (by omega)]
      constructor <;> constructor <;> intro _ <;> omega
  · obtain ⟨s, q1, q2, q5⟩ := b z
    refine ⟨s, q1, by omega, fun i hi => ?_⟩
    rcases Nat.lt_or_ge i n with g | g
    · rw [tf_oN_n (by omega)]; exact q5 i g
    · have e1 : i = n := by omega
      rw [e1, tf_oN_s (by omega)]
      constructor <;> intro _ <;> omega
theorem tf_I_app {w n : Nat} {io ia ik iv ow : Nat → Int32} {a b c e : Int32} (hw : 51 ≤ w ∧ w ≤ 75) (h : tf_I n w io ia ik iv ow) (h1 : tf_I1 n (upd io n a) (upd ia n b) (upd ik n c) (upd iv n e) (upd ow n (nI w))) : tf_I (n + 1) w (upd io n a) (upd ia n b) (upd ik n c) (upd iv n e) (upd ow n (nI w)) := by
  intro i hi
  rcases Nat.lt_or_ge i n with g | g
  · obtain ⟨q, z⟩ := h i g
    have e0 : i ≠ n := by omega
    refine ⟨by rw [tf_oN_n e0, pk_un e0]; exact q, ?_⟩
    unfold tf_I1 at z ⊢
    rw [tf_oN_n e0, pk_un e0, pk_un e0, pk_un e0, pk_un e0]
    exact z
  · have e1 : i = n := by omega
    refine ⟨by rw [e1, tf_oN_s (by omega), pk_us]; exact ⟨rfl, hw.1, Nat.le_refl _⟩, by rw [e1]; exact h1⟩
theorem tf_P_app {w n mu : Nat} {co oy : Int32} {onm : Int64} {os cd cd' : Nat} {ow : Nat → Int32} (hw : w ≤ 75) (h : tf_P w n mu 1 co oy onm os cd ow) : tf_P w (n + 1) mu 1 co oy onm os cd' (upd ow n (nI w)) := by
  rcases h with ⟨a, _⟩ | ⟨_, a, b, c, d, e⟩
  · exact absurd a (by decide)
  · refine Or.inr ⟨rfl, a, b, by omega, d, fun i hi => ?_⟩
    rcases Nat.lt_or_ge i n with g | g
    · rw [tf_oN_n (by omega)]; exact e i g
    · have e1 : i = n := by omega
      rw [e1, tf_oN_s (by omega)]
      constructor <;> intro _ <;> omega
theorem tf_K1_app {n os cd cd' j : Nat} {ck ck' ci ci' ik : Nat → Int32} {x : Int32} (h : tf_K1 n os cd j ck ci ik) (hc : ck' j = ck j) (hi : ci' j = ci j) (hp : ck j = 41 → ∀ i, j = i + 1 → ck' i = ck i) (hs : ∀ o, tf_ot o → tf_sf o x (tf_cc o ck j cd) = some (tf_cc o ck' j cd')) : tf_K1 (n + 1) os cd' j ck' ci' (upd ik n x) := by
  obtain ⟨c, a1, a2, a3, a4, a5, a6, a7⟩ := h
  refine ⟨c, by rw [hi]; exact a1, a2, by omega, by rw [pk_un (by omega), hc]; exact a4, by rw [hc]; exact a5, fun o ho => ?_, fun z => ?_⟩
  · rw [tf_fs_ext a3 (a6 o ho)]
    exact hs o ho
  · rw [hc] at z
    obtain ⟨i, e1, e2⟩ := a7 z
    exact ⟨i, e1, by rw [hp z i e1]; exact e2⟩
theorem tf_K1_new {n os cd : Nat} {ck ci ik : Nat → Int32} {x : Int32} (ho : os ≤ n) (h5 : x = 36 ∨ x = 37 ∨ x = 39 ∨ x = 41 ∨ x = 43) (h7 : x = 41 → ∃ i, cd = i + 1 ∧ ck i = 39) : tf_K1 (n + 1) os (cd + 1) cd (upd ck cd x) (upd ci cd (nI n)) (upd ik n x) := by
  refine ⟨n, pk_us, ho, by omega, by rw [pk_us, pk_us], by rw [pk_us]; exact h5, fun o _ => ?_, fun z => ?_⟩
  · have e : n + 1 - 1 - n = 0 := by omega
    rw [e, tf_cc_0 (by omega)]
    rfl
  · rw [pk_us] at z
    obtain ⟨i, e1, e2⟩ := h7 z
    exact ⟨i, e1, by rw [pk_un (by omega)]; exact e2⟩
/-! targets under a new item -/
theorem tf_FT_app {n : Nat} {ow ia ia' ik : Nat → Int32} {o : Int32} {i : Nat} {x y : Int32} (hi : i < n) (ha : ia' i = ia i) (h : tf_FT n ow ia ik o i) : tf_FT (n + 1) (upd ow n y) ia' (upd ik n x) o i := by
  obtain ⟨q, a1, a2, a3, a4, a5, a6⟩ := h
  exact ⟨q, by rw [ha]; exact a1, a2, by omega, by rw [pk_un (by omega), pk_un (by omega)]; exact a4, by rw [tf_fs_upd (by omega)]; exact a5, by rw [pk_un (by omega)]; exact a6⟩
theorem tf_BT_app {n : Nat} {ow ia ia' ik : Nat → Int32} {o : Int32} {i : Nat} {x y : Int32} (hi : i < n) (ha : ia' i = ia i) (h : tf_BT ow ia ik o i) : tf_BT (upd ow n y) ia' (upd ik n x) o i := by
  obtain ⟨c, a1, a2, a3, a4, a5⟩ := h
  exact ⟨c, by rw [ha]; exact a1, a2, by rw [pk_un (by omega), pk_un (by omega)]; exact a3, by rw [pk_un (by omega)]; exact a4, by rw [tf_fs_upd (by omega)]; exact a5⟩
theorem tf_TG_app {n : Nat} {ow ia ia' ik : Nat → Int32} {i : Nat} {x y : Int32} (hi : i < n) (ha : ia' i = ia i) (h : tf_TG n ow ia ik i) : tf_TG (n + 1) (upd ow n y) ia' (upd ik n x) i := by
  obtain ⟨a1, a2, a3, a4, a5⟩ := h
  unfold tf_TG
  rw [pk_un (show i ≠ n by omega)]
  exact ⟨fun z => tf_FT_app hi ha (a1 z), fun z => tf_FT_app hi ha (a2 z), fun z => tf_FT_app hi ha (a3 z), fun z => tf_BT_app hi ha (a4 z), fun z => tf_BT_app hi ha (a5 z)⟩
/-- an item of no structure needs no target -/
theorem tf_TG_no {n : Nat} {ow ia ik : Nat → Int32} {i : Nat} (h : ik i ≠ 36 ∧ ik i ≠ 37 ∧ ik i ≠ 41 ∧ ik i ≠ 45 ∧ ik i ≠ 40 ∧ ik i ≠ 42 ∧ ik i ≠ 44) : tf_TG n ow ia ik i :=
  ⟨fun z => z.elim (fun z => absurd z h.1) (fun z => absurd z h.2.1), fun z => absurd z h.2.2.1, fun z => absurd z h.2.2.2.1, fun z => z.elim (fun z => absurd z h.2.2.2.2.1) (fun z => absurd z h.2.2.2.2.2.1), fun z => absurd z h.2.2.2.2.2.2⟩
theorem tf_PD_app {n os cd cd' : Nat} {ia ia' ik ck ck' ci ci' : Nat → Int32} {i : Nat} {x : Int32} (hi : i < n) (ha : ik i = 45 → ia' i = ia i) (hk : ∀ j, j < cd → (ck j = 36 ∨ ck j = 37 ∨ ck j = 41 ∨ ck j = 43) → ci j = nI i ∨ ck j = 43 → j < cd' ∧ ck' j = ck j ∧ ci' j = ci j ∧ tf_sf 43 x (tf_cc 43 ck j cd) = some (tf_cc 43 ck' j cd')) (hn : n ≤ 96) (hK : tf_K cd n os ck ci ik) (h : tf_PD n cd ia ik ck ci i) : tf_PD (n + 1) cd' ia' (upd ik n x) ck' ci' i := by
  unfold tf_PD
  rw [pk_un (show i ≠ n by omega)]
  rcases h with ⟨a1, j, a2, a3⟩ | ⟨a1, j, c, a2, a3, a4, a5, a6, a7⟩
  · left
    obtain ⟨c, b1, b2, b3, b4, b5, _⟩ := hK.1 j a2
    have ec : c = i := by
      have := b1.symm.trans a3
      exact (nI_eq (by omega) (by omega)).mp this
    subst ec
    obtain ⟨g1, g2, g3, g4⟩ := hk j a2 (by
      rw [← b4]
      rcases a1 with z | z | z
      · exact Or.inl z
      · exact Or.inr (Or.inl z)
      · exact Or.inr (Or.inr (Or.inl z))) (Or.inl a3)
    exact ⟨a1, j, g1, by rw [g3]; exact a3⟩
  · right
    obtain ⟨g1, g2, g3, g4⟩ := hk j a2 (Or.inr (Or.inr (Or.inr a3))) (Or.inr a3)
    refine ⟨a1, j, c, g1, by rw [g2]; exact a3, by rw [g3]; exact a4, by rw [ha a1]; exact a5, a6, ?_⟩
    rw [tf_fs_ext hi a7]
    exact g4
end
section
/-! the items group under each compiling word; no program in sight -/
abbrev tf_Z (w n mu : Nat) (op co oy : Int32) (onm : Int64) (os cd : Nat) (kd st we ao ap io ia ik iv ow ck ci : Nat → Int32) : Prop :=
  tf_S w n kd st we ao ap ow ∧ tf_I n w io ia ik iv ow ∧ tf_P w n mu op co oy onm os cd ow ∧ tf_K cd n os ck ci ik ∧ tf_G n cd ow ia ik ck ci
theorem tf_ot_el {P : Int32 → Prop} (a : P 36) (b : P 39) (c : P 43) : ∀ o, tf_ot o → P o := by
  intro o h
  rcases h with h | h | h
  · rw [h]; exact a
  · rw [h]; exact b
  · rw [h]; exact c
theorem tf_cc_none {o : Int32} {ck : Nat → Int32} {j : Nat} : ∀ {m : Nat}, (∀ t, j < t → t < m → tf_ty o (ck t) = 0) → tf_cc o ck j m = 0
  | 0, _ => rfl
  | m + 1, h => by
    show tf_cc o ck j m + _ = 0
    rw [tf_cc_none (m := m) (fun t a b => h t a (by omega))]
    by_cases z : j < m
    · rw [if_pos z, h m z (by omega)]
    · rw [if_neg z]
/-- an item of the open body belongs to the open word -/
theorem tf_own {w n mu : Nat} {co oy : Int32} {onm : Int64} {os cd : Nat} {io ia ik iv ow : Nat → Int32} (hI : tf_I n w io ia ik iv ow) (hP : tf_P w n mu 1 co oy onm os cd ow) {c : Nat} (h1 : os ≤ c) (h2 : c < n) : ow c = nI w := by
  obtain ⟨⟨a, _, b⟩, _⟩ := hI c h2
  rcases hP with ⟨z, _⟩ | ⟨_, _, _, _, _, e⟩
  · exact absurd z (by decide)
  · have q := (e c h2)
    have e1 : tf_oN ow c = w := by
      rcases Nat.lt_or_ge (tf_oN ow c) w with z | z
      · have := q.mpr z; omega
      · omega
    rw [a, e1]
/-- a place in the arguments may change where a control item stands -/
theorem tf_I1_ctl {i : Nat} {io ia ia' ik iv ow : Nat → Int32} (hk : ik i ≠ 1 ∧ ik i ≠ 2 ∧ ik i ≠ 3) (h : tf_I1 i io ia ik iv ow) : tf_I1 i io ia' ik iv ow := by
  rcases h with z | z | z | z
  · exact absurd z.1 hk.1
  · exact absurd z.1 hk.2.2
  · exact absurd z.1 hk.2.1
  · exact Or.inr (Or.inr (Or.inr z))
theorem tf_I_arg {n w : Nat} {io ia ia' ik iv ow : Nat → Int32} (h : tf_I n w io ia ik iv ow) (ha : ∀ i, i < n → ia' i = ia i ∨ (ik i ≠ 1 ∧ ik i ≠ 2 ∧ ik i ≠ 3)) : tf_I n w io ia' ik iv ow := by
  intro i hi
  obtain ⟨a, b⟩ := h i hi
  refine ⟨a, ?_⟩
  rcases ha i hi with e | e
  · unfold tf_I1 at b ⊢
    rw [e]; exact b
  · exact tf_I1_ctl e b
theorem tf_ckn {x : Int32} (h : x = 36 ∨ x = 37 ∨ x = 39 ∨ x = 41 ∨ x = 43) : x ≠ 1 ∧ x ≠ 2 ∧ x ≠ 3 := by
  rcases h with h | h | h | h | h <;> subst h <;> decide
theorem tf_inj {a b : Nat} (ha : a ≤ 96) (hb : b ≤ 96) (h : nI a = nI b) : a = b := (nI_eq (by omega) (by omega)).mp h
theorem tf_neut {x : Int32} (hx : x = 1 ∨ x = 2 ∨ x = 3 ∨ x = 45 ∨ x = 46 ∨ x = 50) {l : Nat} : ∀ o, tf_ot o → tf_sf o x l = some l := by
  rcases hx with h | h | h | h | h | h <;> subst h <;> exact tf_ot_el (tf_sf_n (by decide) (by decide) (by decide)) (tf_sf_n (by decide) (by decide) (by decide)) (tf_sf_n (by decide) (by decide) (by decide))
theorem tf_K_neut {cd n os : Nat} {ck ci ik : Nat → Int32} {x : Int32} (hx : x = 1 ∨ x = 2 ∨ x = 3 ∨ x = 45 ∨ x = 46 ∨ x = 50) (h : tf_K cd n os ck ci ik) : tf_K cd (n + 1) os ck ci (upd ik n x) :=
  ⟨fun j hj => tf_K1_app (h.1 j hj) rfl rfl (fun _ _ _ => rfl) (fun o ho => tf_neut hx o ho), h.2⟩
/-- an item that is no control item of a structure -/
theorem tf_Z_neut {w n mu : Nat} {co oy : Int32} {onm : Int64} {os cd : Nat} {kd st we ao ap io ia ik iv ow ck ci : Nat → Int32} {a b x e : Int32} (hw : 51 ≤ w ∧ w ≤ 75) (hn : n < 96) (hx : x = 1 ∨ x = 2 ∨ x = 3 ∨ x = 46 ∨ x = 50) (h1 : tf_I1 n (upd io n a) (upd ia n b) (upd ik n x) (upd iv n e) (upd ow n (nI w))) (Z : tf_Z w n mu 1 co oy onm os cd kd st we ao ap io ia ik iv ow ck ci) : tf_Z w (n + 1) mu 1 co oy onm os cd kd st we ao ap (upd io n a) (upd ia n b) (upd ik n x) (upd iv n e) (upd ow n (nI w)) ck ci := by
  obtain ⟨hS, hI, hP, hK, hG⟩ := Z
  have hx' : x = 1 ∨ x = 2 ∨ x = 3 ∨ x = 45 ∨ x = 46 ∨ x = 50 := by
    rcases hx with h | h | h | h | h
    · exact Or.inl h
    · exact Or.inr (Or.inl h)
    · exact Or.inr (Or.inr (Or.inl h))
    · exact Or.inr (Or.inr (Or.inr (Or.inr (Or.inl h))))
    · exact Or.inr (Or.inr (Or.inr (Or.inr (Or.inr h))))
  refine ⟨tf_S_app hw.2 hS, tf_I_app hw hI h1, tf_P_app hw.2 hP, tf_K_neut hx' hK, fun i hi => ?_⟩
  rcases Nat.lt_or_ge i n with g | g
  · have ha : upd ia n b i = ia i := pk_un (by omega)
    rcases hG i g with z | z
    · exact Or.inl (tf_TG_app g ha z)
    · exact Or.inr (tf_PD_app g (fun _ => ha) (fun j hj _ _ => ⟨hj, rfl, rfl, tf_neut hx' 43 (Or.inr (Or.inr rfl))⟩) (by omega) hK z)
  · have e1 : i = n := by omega
    subst e1
    refine Or.inl (tf_TG_no ?_)
    rw [pk_us]
    rcases hx with h | h | h | h | h <;> subst h <;> decide
theorem tf_I1_ctl_new {n : Nat} {io ia ik iv : Nat → Int32} {x b e : Int32} {c : Nat} (hx : x = nI c) (hc : (36 ≤ c ∧ c ≤ 46) ∨ c = 50) {ow' : Nat → Int32} : tf_I1 n (upd io n x) (upd ia n b) (upd ik n x) (upd iv n e) ow' :=
  Or.inr (Or.inr (Or.inr ⟨by rw [pk_us, pk_us], c, by rw [pk_us]; exact hx, hc⟩))
/-- LEAVE: e is the topmost DO -/
theorem tf_Z_leave {w n mu : Nat} {co oy : Int32} {onm : Int64} {os cd : Nat} {kd st we ao ap io ia ik iv ow ck ci : Nat → Int32} {e : Nat} (hw : 51 ≤ w ∧ w ≤ 75) (hn : n < 96) (he : e < cd) (h43 : ck e = 43) (htop : ∀ t, e < t → t < cd → ck t ≠ 43) (Z : tf_Z w n mu 1 co oy onm os cd kd st we ao ap io ia ik iv ow ck ci) : tf_Z w (n + 1) mu 1 co oy onm os cd kd st we ao ap (upd io n 45) (upd (upd ia n 0) n (ci e)) (upd ik n 45) (upd iv n 0) (upd ow n (nI w)) ck ci := by
  obtain ⟨hS, hI, hP, hK, hG⟩ := Z
  have hx' : (45 : Int32) = 1 ∨ (45 : Int32) = 2 ∨ (45 : Int32) = 3 ∨ (45 : Int32) = 45 ∨ (45 : Int32) = 46 ∨ (45 : Int32) = 50 := Or.inr (Or.inr (Or.inr (Or.inl rfl)))
  have hA : tf_I (n + 1) w (upd io n 45) (upd ia n 0) (upd ik n 45) (upd iv n 0) (upd ow n (nI w)) := tf_I_app hw hI (tf_I1_ctl_new (c := 45) rfl (by omega))
  refine ⟨tf_S_app hw.2 hS, tf_I_arg hA (fun i hi => ?_), tf_P_app hw.2 hP, tf_K_neut hx' hK, fun i hi => ?_⟩
  · rcases Nat.lt_or_ge i n with g | g
    · left; rw [pk_un (show i ≠ n by omega)]
    · right
      have e1 : i = n := by omega
      rw [e1, pk_us]; decide
  · rcases Nat.lt_or_ge i n with g | g
    · have ha : upd (upd ia n 0) n (ci e) i = ia i := by rw [pk_un (show i ≠ n by omega), pk_un (show i ≠ n by omega)]
      rcases hG i g with z | z
      · exact Or.inl (tf_TG_app g ha z)
      · exact Or.inr (tf_PD_app g (fun _ => ha) (fun j hj _ _ => ⟨hj, rfl, rfl, tf_neut hx' 43 (Or.inr (Or.inr rfl))⟩) (by omega) hK z)
    · have e1 : i = n := by omega
      subst e1
      obtain ⟨c, b1, b2, b3, _⟩ := hK.1 e he
      refine Or.inr (Or.inr ⟨pk_us, e, c, he, h43, b1, by rw [pk_us]; exact b1, b3, ?_⟩)
      have e2 : i + 1 - 1 - i = 0 := by omega
      rw [e2, tf_cc_none (fun t a b => by unfold tf_ty; rw [if_neg (by decide), if_neg (htop t a b)])]
      rfl
theorem tf_pushK {x : Int32} (hx : x = 36 ∨ x = 39 ∨ x = 41 ∨ x = 43) {ck : Nat → Int32} {j cd : Nat} (hj : j < cd) : ∀ o, tf_ot o → tf_sf o x (tf_cc o ck j cd) = some (tf_cc o (upd ck cd x) j (cd + 1)) := by
  intro o ho
  rw [tf_cc_s hj, tf_cc_upd (Or.inl (Nat.le_refl _)), pk_us]
  revert o
  rcases hx with h | h | h | h <;> subst h <;> refine tf_ot_el ?_ ?_ ?_ <;> first
    | exact tf_sf_o (by decide) (by decide)
    | exact tf_sf_n (by decide) (by decide) (by decide)
/-- IF, BEGIN, WHILE, DO -/
theorem tf_Z_push {w n mu : Nat} {co oy : Int32} {onm : Int64} {os cd : Nat} {kd st we ao ap io ia ik iv ow ck ci : Nat → Int32} {x : Int32} (hw : 51 ≤ w ∧ w ≤ 75) (hn : n < 96) (hx : x = 36 ∨ x = 39 ∨ x = 41 ∨ x = 43) (hcd : cd < 8) (h41 : x = 41 → ∃ i, cd = i + 1 ∧ ck i = 39) (Z : tf_Z w n mu 1 co oy onm os cd kd st we ao ap io ia ik iv ow ck ci) : tf_Z w (n + 1) mu 1 co oy onm os (cd + 1) kd st we ao ap (upd io n x) (upd ia n 0) (upd ik n x) (upd iv n 0) (upd ow n (nI w)) (upd ck cd x) (upd ci cd (nI n)) := by
  obtain ⟨hS, hI, hP, hK, hG⟩ := Z
  have hos : os ≤ n := by
    rcases hP with ⟨z, _⟩ | ⟨_, _, _, z, _⟩
    · exact absurd z (by decide)
    · exact z
  have hxc : ∃ c : Nat, x = nI c ∧ ((36 ≤ c ∧ c ≤ 46) ∨ c = 50) := by
    rcases hx with h | h | h | h
    · exact ⟨36, h, by omega⟩
    · exact ⟨39, h, by omega⟩
    · exact ⟨41, h, by omega⟩
    · exact ⟨43, h, by omega⟩
  obtain ⟨xc, hxc1, hxc2⟩ := hxc
  have hx5 : x = 36 ∨ x = 37 ∨ x = 39 ∨ x = 41 ∨ x = 43 := by
    rcases hx with h | h | h | h
    · exact Or.inl h
    · exact Or.inr (Or.inr (Or.inl h))
    · exact Or.inr (Or.inr (Or.inr (Or.inl h)))
    · exact Or.inr (Or.inr (Or.inr (Or.inr h)))
  refine ⟨tf_S_app hw.2 hS, tf_I_app hw hI (tf_I1_ctl_new hxc1 hxc2), tf_P_app hw.2 hP, ⟨fun j hj => ?_, fun i j hi hj e => ?_⟩, fun i hi => ?_⟩
  · rcases Nat.lt_or_ge j cd with g | g
    · exact tf_K1_app (hK.1 j g) (pk_un (by omega)) (pk_un (by omega)) (fun _ i e => pk_un (by omega)) (tf_pushK hx g)
    · have e1 : j = cd := by omega
      subst e1
      exact tf_K1_new hos hx5 h41
  · rcases Nat.lt_or_ge i cd with g | g <;> rcases Nat.lt_or_ge j cd with g2 | g2
    · rw [pk_un (show i ≠ cd by omega), pk_un (show j ≠ cd by omega)] at e
      exact hK.2 i j g g2 e
    · have e1 : j = cd := by omega
      obtain ⟨c, b1, _, b3, _⟩ := hK.1 i g
      rw [e1, pk_us, pk_un (show i ≠ cd by omega), b1] at e
      have := tf_inj (by omega) (by omega) e
      omega
    · have e1 : i = cd := by omega
      obtain ⟨c, b1, _, b3, _⟩ := hK.1 j g2
      rw [e1, pk_us, pk_un (show j ≠ cd by omega), b1] at e
      have := tf_inj (by omega) (by omega) e
      omega
    · omega
  · rcases Nat.lt_or_ge i n with g | g
    · have ha : upd ia n 0 i = ia i := pk_un (by omega)
      rcases hG i g with z | z
      · exact Or.inl (tf_TG_app g ha z)
      · exact Or.inr (tf_PD_app g (fun _ => ha) (fun j hj _ _ => ⟨by omega, pk_un (by omega), pk_un (by omega), tf_pushK hx hj 43 (Or.inr (Or.inr rfl))⟩) (by omega) hK z)
    · have e1 : i = n := by omega
      subst e1
      rcases hx with h | h | h | h
      · exact Or.inr (Or.inl ⟨Or.inl (by rw [pk_us]; exact h), cd, by omega, pk_us⟩)
      · refine Or.inl (tf_TG_no ?_)
        rw [pk_us, h]; decide
      · exact Or.inr (Or.inl ⟨Or.inr (Or.inr (by rw [pk_us]; exact h)), cd, by omega, pk_us⟩)
      · refine Or.inl (tf_TG_no ?_)
        rw [pk_us, h]; decide
end
section
/-! closing words: ELSE THEN UNTIL REPEAT LOOP -/
theorem tf_ty_eq {o a b : Int32} (h : tf_ty o a = tf_ty o b) {ck : Nat → Int32} {j m : Nat} (hm : ck m = a) : tf_cc o (upd ck m b) j (m + 1) = tf_cc o ck j (m + 1) := by
  refine tf_cc_congr (fun t _ h2 => ?_)
  rcases Nat.lt_or_ge t m with g | g
  · rw [pk_un (by omega)]
  · have e : t = m := by omega
    rw [e, pk_us, hm, h]
theorem tf_elseK {ck : Nat → Int32} {j m : Nat} (hj : j < m) (hm : ck m = 36) : ∀ o, tf_ot o → tf_sf o 37 (tf_cc o ck j (m + 1)) = some (tf_cc o (upd ck m 37) j (m + 1)) := by
  refine tf_ot_el ?_ ?_ ?_
  · rw [tf_ty_eq (a := 36) (by decide) hm, tf_cc_s hj, hm]
    exact tf_sf_e
  · rw [tf_ty_eq (a := 36) (by decide) hm]
    exact tf_sf_e9
  · rw [tf_ty_eq (a := 36) (by decide) hm]
    exact tf_sf_e3
/-- ELSE; m is the top entry, an IF at place c -/
theorem tf_Z_else {w n mu : Nat} {co oy : Int32} {onm : Int64} {os m c : Nat} {kd st we ao ap io ia ik iv ow ck ci : Nat → Int32} (hw : 51 ≤ w ∧ w ≤ 75) (hn : n < 96) (hcd : m < 8) (h36 : ck m = 36) (hc : ci m = nI c) (hcn : c < n) (Z : tf_Z w n mu 1 co oy onm os (m + 1) kd st we ao ap io ia ik iv ow ck ci) : tf_Z w (n + 1) mu 1 co oy onm os (m + 1) kd st we ao ap (upd io n 37) (upd (upd ia n 0) c (nI (n + 1))) (upd ik n 37) (upd iv n 0) (upd ow n (nI w)) (upd ck m 37) (upd ci m (nI n)) := by
  obtain ⟨hS, hI, hP, hK, hG⟩ := Z
  have hos : os ≤ n := by
    rcases hP with ⟨z, _⟩ | ⟨_, _, _, z, _⟩
    · exact absurd z (by decide)
    · exact z
  obtain ⟨c', b1, b2, b3, b4, b5, b6, b7⟩ := hK.1 m (by omega)
  have ec : c' = c := tf_inj (by omega) (by omega) (b1.symm.trans hc)
  subst ec
  have hA : tf_I (n + 1) w (upd io n 37) (upd ia n 0) (upd ik n 37) (upd iv n 0) (upd ow n (nI w)) := tf_I_app hw hI (tf_I1_ctl_new (c := 37) rfl (by omega))
  refine ⟨tf_S_app hw.2 hS, tf_I_arg hA (fun i hi => ?_), tf_P_app hw.2 hP, ⟨fun j hj => ?_, fun i j hi hj e => ?_⟩, fun i hi => ?_⟩
  · by_cases z : i = c'
    · right
      rw [z, pk_un (show c' ≠ n by omega), b4]
      exact tf_ckn b5
    · left; rw [pk_un z]
  · rcases Nat.lt_or_ge j m with g | g
    · exact tf_K1_app (hK.1 j (by omega)) (pk_un (by omega)) (pk_un (by omega)) (fun _ i e => pk_un (by omega)) (tf_elseK g h36)
    · have e1 : j = m := by omega
      subst e1
      exact tf_K1_new hos (Or.inr (Or.inl rfl)) (fun z => absurd z (by decide))
  · rcases Nat.lt_or_ge i m with g | g <;> rcases Nat.lt_or_ge j m with g2 | g2
    · rw [pk_un (show i ≠ m by omega), pk_un (show j ≠ m by omega)] at e
      exact hK.2 i j (by omega) (by omega) e
    · have e1 : j = m := by omega
      obtain ⟨c2, d1, _, d3, _⟩ := hK.1 i (by omega)
      rw [e1, pk_us, pk_un (show i ≠ m by omega), d1] at e
      have := tf_inj (by omega) (by omega) e
      omega
    · have e1 : i = m := by omega
      obtain ⟨c2, d1, _, d3, _⟩ := hK.1 j (by omega)
      rw [e1, pk_us, pk_un (show j ≠ m by omega), d1] at e
      have := tf_inj (by omega) (by omega) e
      omega
    · omega
  · rcases Nat.lt_or_ge i n with g | g
    · by_cases z : i = c'
      · left
        subst z
        have F : tf_FT (n + 1) (upd ow n (nI w)) (upd (upd ia n 0) i (nI (n + 1))) (upd ik n 37) 36 i := by
          refine ⟨n, pk_us, g, by omega, ?_, ?_, ?_⟩
          · rw [pk_us, pk_un (show i ≠ n by omega), tf_own hI hP b2 b3]
          · rw [tf_fs_upd (by omega), b6 36 (Or.inl rfl), tf_cc_0 (by omega)]
          · rw [pk_us]; exact tf_sf_e0
        unfold tf_TG
        rw [pk_un (show i ≠ n by omega), b4, h36]
        exact ⟨fun _ => F, fun z => absurd z (by decide), fun z => absurd z (by decide), fun z => absurd z (by decide), fun z => absurd z (by decide)⟩
      · have ha : upd (upd ia n 0) c' (nI (n + 1)) i = ia i := by rw [pk_un z, pk_un (show i ≠ n by omega)]
        rcases hG i g with y | y
        · exact Or.inl (tf_TG_app g ha y)
        · refine Or.inr (tf_PD_app g (fun _ => ha) (fun j hj h1 h2 => ?_) (by omega) hK y)
          have hjm : j ≠ m := by
            intro e
            rcases h2 with h2 | h2
            · rw [e, b1] at h2
              exact z (tf_inj (by omega) (by omega) h2).symm
            · rw [e, h36] at h2
              exact absurd h2 (by decide)
          exact ⟨hj, pk_un hjm, pk_un hjm, tf_elseK (by omega) h36 43 (Or.inr (Or.inr rfl))⟩
    · have e1 : i = n := by omega
      subst e1
      exact Or.inr (Or.inl ⟨Or.inr (Or.inl pk_us), m, by omega, pk_us⟩)
theorem tf_popK {x k : Int32} {ck : Nat → Int32} {j m : Nat} (hj : j < m) (hm : ck m = k) (h : ∀ o, tf_ot o → (tf_cl o x = true ∧ tf_ty o k = 1) ∨ (tf_cl o x = false ∧ x ≠ 37 ∧ x ≠ o ∧ tf_ty o k = 0)) : ∀ o, tf_ot o → tf_sf o x (tf_cc o ck j (m + 1)) = some (tf_cc o ck j m) := by
  intro o ho
  rw [tf_cc_s hj, hm]
  rcases h o ho with ⟨a, b⟩ | ⟨a, b, c, e⟩
  · rw [b]; exact tf_sf_c a
  · rw [e]; exact tf_sf_n a b c
theorem tf_K_pop {n os m : Nat} {ck ci ik : Nat → Int32} {x : Int32} (h : tf_K (m + 1) n os ck ci ik) (hs : ∀ j, j < m → ∀ o, tf_ot o → tf_sf o x (tf_cc o ck j (m + 1)) = some (tf_cc o ck j m)) : tf_K m (n + 1) os ck ci (upd ik n x) :=
  ⟨fun j hj => tf_K1_app (h.1 j (by omega)) rfl rfl (fun _ _ _ => rfl) (hs j hj), fun i j hi hj e => h.2 i j (by omega) (by omega) e⟩
theorem tf_pop38 {k : Int32} (hk : k = 36 ∨ k = 37) : ∀ o, tf_ot o → (tf_cl o 38 = true ∧ tf_ty o k = 1) ∨ (tf_cl o 38 = false ∧ (38 : Int32) ≠ 37 ∧ (38 : Int32) ≠ o ∧ tf_ty o k = 0) := by
  rcases hk with h | h <;> subst h <;> exact tf_ot_el (Or.inl (by decide)) (Or.inr (by decide)) (Or.inr (by decide))
theorem tf_pop40 : ∀ o, tf_ot o → (tf_cl o 40 = true ∧ tf_ty o 39 = 1) ∨ (tf_cl o 40 = false ∧ (40 : Int32) ≠ 37 ∧ (40 : Int32) ≠ o ∧ tf_ty o 39 = 0) :=
  tf_ot_el (Or.inr (by decide)) (Or.inl (by decide)) (Or.inr (by decide))
theorem tf_pop44 : ∀ o, tf_ot o → (tf_cl o 44 = true ∧ tf_ty o 43 = 1) ∨ (tf_cl o 44 = false ∧ (44 : Int32) ≠ 37 ∧ (44 : Int32) ≠ o ∧ tf_ty o 43 = 0) :=
  tf_ot_el (Or.inr (by decide)) (Or.inr (by decide)) (Or.inl (by decide))
/-- THEN; m is the top entry, IF or ELSE at place c -/
theorem tf_Z_then {w n mu : Nat} {co oy : Int32} {onm : Int64} {os m c : Nat} {kd st we ao ap io ia ik iv ow ck ci : Nat → Int32} (hw : 51 ≤ w ∧ w ≤ 75) (hn : n < 96) (h36 : ck m = 36 ∨ ck m = 37) (hc : ci m = nI c) (hcn : c < n) (Z : tf_Z w n mu 1 co oy onm os (m + 1) kd st we ao ap io ia ik iv ow ck ci) : tf_Z w (n + 1) mu 1 co oy onm os m kd st we ao ap (upd io n 38) (upd (upd ia n 0) c (nI (n + 1))) (upd ik n 38) (upd iv n 0) (upd ow n (nI w)) ck ci := by
  obtain ⟨hS, hI, hP, hK, hG⟩ := Z
  obtain ⟨c', b1, b2, b3, b4, b5, b6, b7⟩ := hK.1 m (by omega)
  have ec : c' = c := tf_inj (by omega) (by omega) (b1.symm.trans hc)
  subst ec
  have hs : ∀ j, j < m → ∀ o, tf_ot o → tf_sf o 38 (tf_cc o ck j (m + 1)) = some (tf_cc o ck j m) := fun j hj => tf_popK hj rfl (tf_pop38 h36)
  have hA : tf_I (n + 1) w (upd io n 38) (upd ia n 0) (upd ik n 38) (upd iv n 0) (upd ow n (nI w)) := tf_I_app hw hI (tf_I1_ctl_new (c := 38) rfl (by omega))
  refine ⟨tf_S_app hw.2 hS, tf_I_arg hA (fun i hi => ?_), tf_P_app hw.2 hP, tf_K_pop hK hs, fun i hi => ?_⟩
  · by_cases z : i = c'
    · right
      rw [z, pk_un (show c' ≠ n by omega), b4]
      exact tf_ckn b5
    · left; rw [pk_un z]
  · rcases Nat.lt_or_ge i n with g | g
    · by_cases z : i = c'
      · left
        subst z
        have F : tf_FT (n + 1) (upd ow n (nI w)) (upd (upd ia n 0) i (nI (n + 1))) (upd ik n 38) 36 i := by
          refine ⟨n, pk_us, g, by omega, ?_, ?_, ?_⟩
          · rw [pk_us, pk_un (show i ≠ n by omega), tf_own hI hP b2 b3]
          · rw [tf_fs_upd (by omega), b6 36 (Or.inl rfl), tf_cc_0 (by omega)]
          · rw [pk_us]; exact tf_sf_c0 (by decide)
        unfold tf_TG
        rw [pk_un (show i ≠ n by omega), b4]
        refine ⟨fun _ => F, fun z => ?_, fun z => ?_, fun z => ?_, fun z => ?_⟩ <;> rcases h36 with h | h <;> rw [h] at z <;> exact absurd z (by decide)
      · have ha : upd (upd ia n 0) c' (nI (n + 1)) i = ia i := by rw [pk_un z, pk_un (show i ≠ n by omega)]
        rcases hG i g with y | y
        · exact Or.inl (tf_TG_app g ha y)
        · refine Or.inr (tf_PD_app g (fun _ => ha) (fun j hj h1 h2 => ?_) (by omega) hK y)
          have hjm : j ≠ m := by
            intro e
            rcases h2 with h2 | h2
            · rw [e, b1] at h2
              exact z (tf_inj (by omega) (by omega) h2).symm
            · rw [e] at h2
              rcases h36 with h | h <;> rw [h] at h2 <;> exact absurd h2 (by decide)
          exact ⟨by omega, rfl, rfl, hs j (by omega) 43 (Or.inr (Or.inr rfl))⟩
    · have e1 : i = n := by omega
      subst e1
      refine Or.inl (tf_TG_no ?_)
      rw [pk_us]; decide
/-- UNTIL; m is the top entry, a BEGIN at place c -/
theorem tf_Z_until {w n mu : Nat} {co oy : Int32} {onm : Int64} {os m c : Nat} {kd st we ao ap io ia ik iv ow ck ci : Nat → Int32} (hw : 51 ≤ w ∧ w ≤ 75) (hn : n < 96) (h39 : ck m = 39) (hc : ci m = nI c) (hcn : c < n) (Z : tf_Z w n mu 1 co oy onm os (m + 1) kd st we ao ap io ia ik iv ow ck ci) : tf_Z w (n + 1) mu 1 co oy onm os m kd st we ao ap (upd io n 40) (upd (upd ia n 0) n (nI (c + 1))) (upd ik n 40) (upd iv n 0) (upd ow n (nI w)) ck ci := by
  obtain ⟨hS, hI, hP, hK, hG⟩ := Z
  obtain ⟨c', b1, b2, b3, b4, b5, b6, b7⟩ := hK.1 m (by omega)
  have ec : c' = c := tf_inj (by omega) (by omega) (b1.symm.trans hc)
  subst ec
  have hs : ∀ j, j < m → ∀ o, tf_ot o → tf_sf o 40 (tf_cc o ck j (m + 1)) = some (tf_cc o ck j m) := fun j hj => tf_popK hj h39 tf_pop40
  have hA : tf_I (n + 1) w (upd io n 40) (upd ia n 0) (upd ik n 40) (upd iv n 0) (upd ow n (nI w)) := tf_I_app hw hI (tf_I1_ctl_new (c := 40) rfl (by omega))
  refine ⟨tf_S_app hw.2 hS, tf_I_arg hA (fun i hi => ?_), tf_P_app hw.2 hP, tf_K_pop hK hs, fun i hi => ?_⟩
  · by_cases z : i = n
    · right
      rw [z, pk_us]; decide
    · left; rw [pk_un z]
  · rcases Nat.lt_or_ge i n with g | g
    · have ha : upd (upd ia n 0) n (nI (c' + 1)) i = ia i := by rw [pk_un (show i ≠ n by omega), pk_un (show i ≠ n by omega)]
      rcases hG i g with y | y
      · exact Or.inl (tf_TG_app g ha y)
      · refine Or.inr (tf_PD_app g (fun _ => ha) (fun j hj h1 h2 => ?_) (by omega) hK y)
        have hjm : j ≠ m := by
          intro e
          rw [e, h39] at h1
          exact absurd h1 (by decide)
        exact ⟨by omega, rfl, rfl, hs j (by omega) 43 (Or.inr (Or.inr rfl))⟩
    · have e1 : i = n := by omega
      subst e1
      left
      have F : tf_BT (upd ow i (nI w)) (upd (upd ia i 0) i (nI (c' + 1))) (upd ik i 40) 39 i := by
        refine ⟨c', pk_us, b3, ?_, ?_, ?_⟩
        · rw [pk_us, pk_un (show c' ≠ i by omega), tf_own hI hP b2 b3]
        · rw [pk_un (show c' ≠ i by omega), b4, h39]
        · rw [tf_fs_upd (by omega), b6 39 (Or.inr (Or.inl rfl)), tf_cc_0 (by omega)]
      unfold tf_TG
      rw [pk_us]
      exact ⟨fun z => absurd z (by decide), fun z => absurd z (by decide), fun z => absurd z (by decide), fun _ => F, fun z => absurd z (by decide)⟩
/-- REPEAT; m + 1 is the top entry, a WHILE at place c; m a BEGIN at place b -/
theorem tf_Z_repeat {w n mu : Nat} {co oy : Int32} {onm : Int64} {os m c b : Nat} {kd st we ao ap io ia ik iv ow ck ci : Nat → Int32} (hw : 51 ≤ w ∧ w ≤ 75) (hn : n < 96) (h41 : ck (m + 1) = 41) (h39 : ck m = 39) (hc : ci (m + 1) = nI c) (hcn : c < n) (hb : ci m = nI b) (hbn : b < n) (Z : tf_Z w n mu 1 co oy onm os (m + 1 + 1) kd st we ao ap io ia ik iv ow ck ci) : tf_Z w (n + 1) mu 1 co oy onm os m kd st we ao ap (upd io n 42) (upd (upd (upd ia n 0) c (nI (n + 1))) n (nI (b + 1))) (upd ik n 42) (upd iv n 0) (upd ow n (nI w)) ck ci := by
  obtain ⟨hS, hI, hP, hK, hG⟩ := Z
  obtain ⟨c', b1, b2, b3, b4, b5, b6, b7⟩ := hK.1 (m + 1) (by omega)
  have ec : c' = c := tf_inj (by omega) (by omega) (b1.symm.trans hc)
  subst ec
  obtain ⟨c2, d1, d2, d3, d4, d5, d6, d7⟩ := hK.1 m (by omega)
  have ec : c2 = b := tf_inj (by omega) (by omega) (d1.symm.trans hb)
  subst ec
  have hs : ∀ j, j < m → ∀ o, tf_ot o → tf_sf o 42 (tf_cc o ck j (m + 1 + 1)) = some (tf_cc o ck j m) := by
    intro j hj o ho
    rw [tf_cc_s (show j < m + 1 by omega), tf_cc_s hj, h41, h39]
    revert o
    refine tf_ot_el ?_ ?_ ?_
    · exact tf_sf_n (by decide) (by decide) (by decide)
    · exact tf_sf_c (by decide)
    · exact tf_sf_n (by decide) (by decide) (by decide)
  have hA : tf_I (n + 1) w (upd io n 42) (upd ia n 0) (upd ik n 42) (upd iv n 0) (upd ow n (nI w)) := tf_I_app hw hI (tf_I1_ctl_new (c := 42) rfl (by omega))
  refine ⟨tf_S_app hw.2 hS, tf_I_arg hA (fun i hi => ?_), tf_P_app hw.2 hP, ⟨fun j hj => tf_K1_app (hK.1 j (by omega)) rfl rfl (fun _ _ _ => rfl) (hs j hj), fun i j hi hj e => hK.2 i j (by omega) (by omega) e⟩, fun i hi => ?_⟩
  · by_cases z : i = n
    · right
      rw [z, pk_us]; decide
    · by_cases z2 : i = c'
      · right
        rw [z2, pk_un (show c' ≠ n by omega), b4]
        exact tf_ckn b5
      · left; rw [pk_un z, pk_un z2]
  · rcases Nat.lt_or_ge i n with g | g
    · by_cases z : i = c'
      · left
        subst z
        have F : tf_FT (n + 1) (upd ow n (nI w)) (upd (upd (upd ia n 0) i (nI (n + 1))) n (nI (c2 + 1))) (upd ik n 42) 39 i := by
          refine ⟨n, by rw [pk_un (show i ≠ n by omega), pk_us], g, by omega, ?_, ?_, ?_⟩
          · rw [pk_us, pk_un (show i ≠ n by omega), tf_own hI hP b2 b3]
          · rw [tf_fs_upd (by omega), b6 39 (Or.inr (Or.inl rfl)), tf_cc_0 (by omega)]
          · rw [pk_us]; exact tf_sf_c0 (by decide)
        unfold tf_TG
        rw [pk_un (show i ≠ n by omega), b4, h41]
        exact ⟨fun z => absurd z (by decide), fun _ => F, fun z => absurd z (by decide), fun z => absurd z (by decide), fun z => absurd z (by decide)⟩
      · have ha : upd (upd (upd ia n 0) c' (nI (n + 1))) n (nI (c2 + 1)) i = ia i := by rw [pk_un (show i ≠ n by omega), pk_un z, pk_un (show i ≠ n by omega)]
        rcases hG i g with y | y
        · exact Or.inl (tf_TG_app g ha y)
        · refine Or.inr (tf_PD_app g (fun _ => ha) (fun j hj h1 h2 => ?_) (by omega) hK y)
          have hjm : j ≠ m + 1 := by
            intro e
            rcases h2 with h2 | h2
            · rw [e, b1] at h2
              exact z (tf_inj (by omega) (by omega) h2).symm
            · rw [e, h41] at h2
              exact absurd h2 (by decide)
          have hjm2 : j ≠ m := by
            intro e
            rw [e, h39] at h1
            exact absurd h1 (by decide)
          exact ⟨by omega, rfl, rfl, hs j (by omega) 43 (Or.inr (Or.inr rfl))⟩
    · have e1 : i = n := by omega
      subst e1
      left
      have F : tf_BT (upd ow i (nI w)) (upd (upd (upd ia i 0) c' (nI (i + 1))) i (nI (c2 + 1))) (upd ik i 42) 39 i := by
        refine ⟨c2, pk_us, d3, ?_, ?_, ?_⟩
        · rw [pk_us, pk_un (show c2 ≠ i by omega), tf_own hI hP d2 d3]
        · rw [pk_un (show c2 ≠ i by omega), d4, h39]
        · rw [tf_fs_upd (by omega), d6 39 (Or.inr (Or.inl rfl)), tf_cc_s (show m < m + 1 by omega), tf_cc_0 (by omega), h41]
          rfl
      unfold tf_TG
      rw [pk_us]
      exact ⟨fun z => absurd z (by decide), fun z => absurd z (by decide), fun z => absurd z (by decide), fun _ => F, fun z => absurd z (by decide)⟩
/-- what X's resolveLeaves makes of the arguments -/
def tf_rl (io ia : Nat → Int32) (c n m : Nat) : Nat → Int32 := fun i => if c < i ∧ i < m ∧ io i = 45 ∧ ia i = nI c then nI (n + 1) else ia i
/-- LOOP; m is the top entry, a DO at place c -/
theorem tf_Z_loop {w n mu : Nat} {co oy : Int32} {onm : Int64} {os m c : Nat} {kd st we ao ap io ia ik iv ow ck ci : Nat → Int32} (hw : 51 ≤ w ∧ w ≤ 75) (hn : n < 96) (h43 : ck m = 43) (hc : ci m = nI c) (hcn : c < n) (Z : tf_Z w n mu 1 co oy onm os (m + 1) kd st we ao ap io ia ik iv ow ck ci) : tf_Z w (n + 1) mu 1 co oy onm os m kd st we ao ap (upd io n 44) (tf_rl (upd io n 44) (upd (upd ia n 0) n (nI (c + 1))) c n n) (upd ik n 44) (upd iv n 0) (upd ow n (nI w)) ck ci := by
  obtain ⟨hS, hI, hP, hK, hG⟩ := Z
  obtain ⟨c', b1, b2, b3, b4, b5, b6, b7⟩ := hK.1 m (by omega)
  have ec : c' = c := tf_inj (by omega) (by omega) (b1.symm.trans hc)
  subst ec
  have hs : ∀ j, j < m → ∀ o, tf_ot o → tf_sf o 44 (tf_cc o ck j (m + 1)) = some (tf_cc o ck j m) := fun j hj => tf_popK hj h43 tf_pop44
  have hA : tf_I (n + 1) w (upd io n 44) (upd ia n 0) (upd ik n 44) (upd iv n 0) (upd ow n (nI w)) := tf_I_app hw hI (tf_I1_ctl_new (c := 44) rfl (by omega))
  have e45 : ∀ i, i < n → io i = 45 → ik i = 45 := by
    intro i hi h
    rcases (hI i hi).2 with y | y | y | y
    · rw [y.2.1] at h; exact absurd h (by decide)
    · rw [y.2.1] at h; exact absurd h (by decide)
    · rw [y.2.1] at h; exact absurd h (by decide)
    · rw [← y.1]; exact h
  have e45' : ∀ i, i < n → ik i = 45 → io i = 45 := by
    intro i hi h
    rcases (hI i hi).2 with y | y | y | y
    · rw [y.1] at h; exact absurd h (by decide)
    · rw [y.1] at h; exact absurd h (by decide)
    · rw [y.1] at h; exact absurd h (by decide)
    · rw [y.1]; exact h
  have rlk : ∀ i, i < n → (ik i = 45 → c' < i → ia i ≠ nI c') → tf_rl (upd io n 44) (upd (upd ia n 0) n (nI (c' + 1))) c' n n i = ia i := by
    intro i hi h
    unfold tf_rl
    rw [if_neg, pk_un (show i ≠ n by omega), pk_un (show i ≠ n by omega)]
    intro z
    obtain ⟨z1, z2, z3, z4⟩ := z
    rw [pk_un (show i ≠ n by omega)] at z3
    rw [pk_un (show i ≠ n by omega), pk_un (show i ≠ n by omega)] at z4
    exact h (e45 i hi z3) z1 z4
  have rln : tf_rl (upd io n 44) (upd (upd ia n 0) n (nI (c' + 1))) c' n n n = nI (c' + 1) := by
    unfold tf_rl
    rw [if_neg (fun z => by have := z.2.1; omega), pk_us]
  refine ⟨tf_S_app hw.2 hS, tf_I_arg hA (fun i hi => ?_), tf_P_app hw.2 hP, tf_K_pop hK hs, fun i hi => ?_⟩
  · by_cases z : i = n
    · right
      rw [z, pk_us]; decide
    · have hi' : i < n := by omega
      by_cases z2 : ik i = 45
      · right
        rw [pk_un z, z2]; decide
      · left
        rw [rlk i hi' (fun y => absurd y z2), pk_un z]
  · rcases Nat.lt_or_ge i n with g | g
    · rcases hG i g with y | y
      · refine Or.inl (tf_TG_app g (rlk i g (fun h45 hci h => ?_)) y)
        obtain ⟨q, q1, q2, q3, _⟩ := y.2.2.1 h45
        have := tf_inj (by omega) (by omega) (q1.symm.trans h)
        omega
      · by_cases z : ik i = 45 ∧ ia i = nI c' ∧ c' < i
        · left
          obtain ⟨z1, z2, z3⟩ := z
          rcases y with ⟨y1, _⟩ | ⟨y1, j, c2, y2, y3, y4, y5, y6, y7⟩
          · rw [z1] at y1; exact absurd y1 (by decide)
          · have e1 : c2 = c' := tf_inj (by omega) (by omega) (y5.symm.trans z2)
            have e2 : j = m := hK.2 j m y2 (by omega) (by rw [y4, b1, e1])
            have F : tf_FT (n + 1) (upd ow n (nI w)) (tf_rl (upd io n 44) (upd (upd ia n 0) n (nI (c' + 1))) c' n n) (upd ik n 44) 43 i := by
              refine ⟨n, ?_, g, by omega, ?_, ?_, ?_⟩
              · unfold tf_rl
                rw [if_pos]
                refine ⟨z3, g, ?_, ?_⟩
                · rw [pk_un (show i ≠ n by omega)]; exact e45' i g z1
                · rw [pk_un (show i ≠ n by omega), pk_un (show i ≠ n by omega)]; exact z2
              · rw [pk_us, pk_un (show i ≠ n by omega), tf_own hI hP (show os ≤ i by omega) g]
              · rw [tf_fs_upd (by omega), y7, e2, tf_cc_0 (by omega)]
              · rw [pk_us]; exact tf_sf_c0 (by decide)
            unfold tf_TG
            rw [pk_un (show i ≠ n by omega), z1]
            exact ⟨fun z => absurd z (by decide), fun z => absurd z (by decide), fun _ => F, fun z => absurd z (by decide), fun z => absurd z (by decide)⟩
        · right
          have ha : ik i = 45 → tf_rl (upd io n 44) (upd (upd ia n 0) n (nI (c' + 1))) c' n n i = ia i := fun _ => rlk i g (fun h45 hci h => z ⟨h45, h, hci⟩)
          rcases y with ⟨y1, j, y2, y3⟩ | ⟨y1, j, c2, y2, y3, y4, y5, y6, y7⟩
          · obtain ⟨c3, f1, f2, f3, f4, _⟩ := hK.1 j y2
            have e3 : c3 = i := tf_inj (by omega) (by omega) (f1.symm.trans y3)
            have hjm : j ≠ m := by
              intro e
              rw [e, h43] at f4
              rw [e3] at f4
              rw [f4] at y1
              exact absurd y1 (by decide)
            unfold tf_PD
            rw [pk_un (show i ≠ n by omega)]
            exact Or.inl ⟨y1, j, by omega, y3⟩
          · have hjm : j ≠ m := by
              intro e
              rw [e, b1] at y4
              have := tf_inj (by omega) (by omega) y4
              exact z ⟨y1, by rw [y5, this], by omega⟩
            unfold tf_PD
            rw [pk_un (show i ≠ n by omega)]
            refine Or.inr ⟨y1, j, c2, by omega, y3, y4, by rw [ha y1]; exact y5, y6, ?_⟩
            rw [tf_fs_ext g y7]
            exact hs j (by omega) 43 (Or.inr (Or.inr rfl))
    · have e1 : i = n := by omega
      subst e1
      left
      have F : tf_BT (upd ow i (nI w)) (tf_rl (upd io i 44) (upd (upd ia i 0) i (nI (c' + 1))) c' i i) (upd ik i 44) 43 i := by
        refine ⟨c', rln, b3, ?_, ?_, ?_⟩
        · rw [pk_us, pk_un (show c' ≠ i by omega), tf_own hI hP b2 b3]
        · rw [pk_un (show c' ≠ i by omega), b4, h43]
        · rw [tf_fs_upd (by omega), b6 43 (Or.inr (Or.inr rfl)), tf_cc_0 (by omega)]
      unfold tf_TG
      rw [pk_us]
      exact ⟨fun z => absurd z (by decide), fun z => absurd z (by decide), fun z => absurd z (by decide), fun z => absurd z (by decide), fun _ => F⟩
end
section
/-! the return stacks -/
def tf_NE (rk ra rb yk ya yb : Nat → Int32) (t : Nat) : Prop := (rk t = 1 ∧ yk t = 4 ∧ ra t = ya t) ∨ (rk t = 2 ∧ yk t = 5 ∧ ra t = ya t ∧ rb t = yb t)
def tf_TC (FR : Nat → Nat → Nat → Nat → Prop) (md : Nat) (rk ra rb rc yk ya yb : Nat → Int32) (f : Nat) (ip ie : Int32) (p : Nat) : Prop :=
  rk f = 3 ∧ yk f = 3 ∧ ∃ i e o j q : Nat, ip = nI i ∧ ie = nI e ∧ ya f = nI o ∧ yb f = nI j ∧ FR i e o j ∧ tf_RS md FR rk ra rb rc yk ya yb f (ra f) (rb f) q ∧ q + 67 * (e - i) + 1 ≤ p
def tf_TK (FR : Nat → Nat → Nat → Nat → Prop) (md : Nat) (rk ra rb rc yk ya yb : Nat → Int32) (f : Nat) (p : Nat) : Prop :=
  rk f = 4 ∧ yk f = 6 ∧ ∃ c q : Nat, c < md ∧ rc f = nI c ∧ ya f = nI c ∧ tf_RS md FR rk ra rb rc yk ya yb f (ra f) (rb f) q ∧ q + 1 ≤ p
section
variable {md : Nat} {FR : Nat → Nat → Nat → Nat → Prop} {rk ra rb rc yk ya yb rk' ra' rb' rc' yk' ya' yb' : Nat → Int32}
theorem tf_RS_mono : ∀ {r p q : Nat} {ip ie : Int32}, p ≤ q → tf_RS md FR rk ra rb rc yk ya yb r ip ie p → tf_RS md FR rk ra rb rc yk ya yb r ip ie q
  | 0, _, _, _, _, _, h => h
  | r + 1, p, q, ip, ie, hq, h => by
    rcases h with ⟨a, b, c, d, e⟩ | ⟨a, b, c, d, e, f⟩ | ⟨a, b, i, e, o, j, t, c1, c2, c3, c4, c5, c6, c7⟩ | ⟨a, b, c, x, t, c1, c2, c3, c4, c5⟩
    · exact Or.inl ⟨a, b, c, d, tf_RS_mono hq e⟩
    · exact Or.inr (Or.inl ⟨a, b, c, d, e, tf_RS_mono hq f⟩)
    · exact Or.inr (Or.inr (Or.inl ⟨a, b, i, e, o, j, t, c1, c2, c3, c4, c5, c6, by omega⟩))
    · exact Or.inr (Or.inr (Or.inr ⟨a, b, c, x, t, c1, c2, c3, c4, by omega⟩))
theorem tf_RS_map {md' : Nat} {FR' : Nat → Nat → Nat → Nat → Prop} (hm : md ≤ md') (hF : ∀ i e o j, FR i e o j → FR' i e o j) : ∀ {r p : Nat} {ip ie : Int32}, (∀ t, t < r → rk' t = rk t ∧ ra' t = ra t ∧ rb' t = rb t ∧ rc' t = rc t ∧ yk' t = yk t ∧ ya' t = ya t ∧ yb' t = yb t) → tf_RS md FR rk ra rb rc yk ya yb r ip ie p → tf_RS md' FR' rk' ra' rb' rc' yk' ya' yb' r ip ie p
  | 0, _, _, _, _, h => h
  | r + 1, p, ip, ie, ht, h => by
    have hr : ∀ t, t < r → rk' t = rk t ∧ ra' t = ra t ∧ rb' t = rb t ∧ rc' t = rc t ∧ yk' t = yk t ∧ ya' t = ya t ∧ yb' t = yb t := fun t z => ht t (by omega)
    obtain ⟨e1, e2, e3, e4, e5, e6, e7⟩ := ht r (by omega)
    unfold tf_RS
    rw [e1, e2, e3, e4, e5, e6, e7]
    rcases h with ⟨a, b, c, d, e⟩ | ⟨a, b, c, d, e, f⟩ | ⟨a, b, i, e, o, j, t, c1, c2, c3, c4, c5, c6, c7⟩ | ⟨a, b, c, x, t, c1, c2, c3, c4, c5⟩
    · exact Or.inl ⟨a, b, c, d, tf_RS_map hm hF hr e⟩
    · exact Or.inr (Or.inl ⟨a, b, c, d, e, tf_RS_map hm hF hr f⟩)
    · exact Or.inr (Or.inr (Or.inl ⟨a, b, i, e, o, j, t, c1, c2, c3, c4, hF _ _ _ _ c5, tf_RS_map hm hF hr c6, c7⟩))
    · exact Or.inr (Or.inr (Or.inr ⟨a, b, c, x, t, by omega, c2, c3, tf_RS_map hm hF hr c4, c5⟩))
/-- the topmost call or catch entry -/
theorem tf_RS_top : ∀ {r p : Nat} {ip ie : Int32}, 0 < r → tf_RS md FR rk ra rb rc yk ya yb r ip ie p → ∃ f, f < r ∧ (∀ t, f < t → t < r → tf_NE rk ra rb yk ya yb t) ∧ (tf_TC FR md rk ra rb rc yk ya yb f ip ie p ∨ (ip = -2 ∧ tf_TK FR md rk ra rb rc yk ya yb f p))
  | 0, _, _, _, h, _ => absurd h (by omega)
  | r + 1, p, ip, ie, _, h => by
    rcases h with ⟨a, b, c, d, e⟩ | ⟨a, b, c, d, e, f⟩ | ⟨a, b, i, e, o, j, t, c1, c2, c3, c4, c5, c6, c7⟩ | ⟨a, b, c, x, t, c1, c2, c3, c4, c5⟩
    · obtain ⟨f, f1, f2, f3⟩ := tf_RS_top d e
      refine ⟨f, by omega, fun t h1 h2 => ?_, f3⟩
      rcases Nat.lt_or_ge t r with g | g
      · exact f2 t h1 g
      · have e1 : t = r := by omega
        rw [e1]; exact Or.inl ⟨a, b, c⟩
    · obtain ⟨g, f1, f2, f3⟩ := tf_RS_top e f
      refine ⟨g, by omega, fun t h1 h2 => ?_, f3⟩
      rcases Nat.lt_or_ge t r with g | g
      · exact f2 t h1 g
      · have e1 : t = r := by omega
        rw [e1]; exact Or.inr ⟨a, b, c, d⟩
    · exact ⟨r, by omega, fun t h1 h2 => by omega, Or.inl ⟨a, b, i, e, o, j, t, c1, c2, c3, c4, c5, c6, c7⟩⟩
    · exact ⟨r, by omega, fun t h1 h2 => by omega, Or.inr ⟨c, a, b, x, t, c1, c2, c3, c4, c5⟩⟩
/-- a stack from its topmost call entry and what stands above it -/
theorem tf_RS_mk {f p : Nat} {ip ie : Int32} (hT : tf_TC FR md rk ra rb rc yk ya yb f ip ie p) : ∀ {r : Nat}, f < r → (∀ t, f < t → t < r → tf_NE rk ra rb yk ya yb t) → tf_RS md FR rk ra rb rc yk ya yb r ip ie p
  | 0, h, _ => absurd h (by omega)
  | r + 1, h, hn => by
    rcases Nat.lt_or_ge f r with g | g
    · have ih := tf_RS_mk hT g (fun t a b => hn t a (by omega))
      rcases hn r g (by omega) with ⟨a, b, c⟩ | ⟨a, b, c, d⟩
      · exact Or.inl ⟨a, b, c, by omega, ih⟩
      · exact Or.inr (Or.inl ⟨a, b, c, d, by omega, ih⟩)
    · have e1 : f = r := by omega
      subst e1
      exact Or.inr (Or.inr (Or.inl hT))
/-- the topmost catch entry -/
theorem tf_RS_catch : ∀ {r p : Nat} {ip ie : Int32}, tf_RS md FR rk ra rb rc yk ya yb r ip ie p → (∀ t, t < r → rk t ≠ 4 ∧ yk t ≠ 6) ∨ ∃ f, f < r ∧ (∀ t, f < t → t < r → rk t ≠ 4 ∧ yk t ≠ 6) ∧ tf_TK FR md rk ra rb rc yk ya yb f p
  | 0, _, _, _, _ => Or.inl (fun t h => absurd h (by omega))
  | r + 1, p, ip, ie, h => by
    have key : ∀ {q : Nat} {ip ie : Int32}, q ≤ p → rk r ≠ 4 ∧ yk r ≠ 6 → tf_RS md FR rk ra rb rc yk ya yb r ip ie q → (∀ t, t < r + 1 → rk t ≠ 4 ∧ yk t ≠ 6) ∨ ∃ f, f < r + 1 ∧ (∀ t, f < t → t < r + 1 → rk t ≠ 4 ∧ yk t ≠ 6) ∧ tf_TK FR md rk ra rb rc yk ya yb f p := by
      intro q ip ie hq hr h
      rcases tf_RS_catch h with z | ⟨f, f1, f2, f3, f4, c, t, g1, g2, g3, g4, g5⟩
      · left
        intro t ht
        rcases Nat.lt_or_ge t r with g | g
        · exact z t g
        · have e1 : t = r := by omega
          rw [e1]; exact hr
      · right
        refine ⟨f, by omega, fun t h1 h2 => ?_, f3, f4, c, t, g1, g2, g3, g4, by omega⟩
        rcases Nat.lt_or_ge t r with g | g
        · exact f2 t h1 g
        · have e1 : t = r := by omega
          rw [e1]; exact hr
    rcases h with ⟨a, b, c, d, e⟩ | ⟨a, b, c, d, e, f⟩ | ⟨a, b, i, e, o, j, t, c1, c2, c3, c4, c5, c6, c7⟩ | ⟨a, b, c, x, t, c1, c2, c3, c4, c5⟩
    · exact key (Nat.le_refl _) (by rw [a, b]; decide) e
    · exact key (Nat.le_refl _) (by rw [a, b]; decide) f
    · exact key (by omega) (by rw [a, b]; decide) c6
    · exact Or.inr ⟨r, by omega, fun t h1 h2 => by omega, a, b, x, t, c1, c2, c3, c4, c5⟩
theorem tf_NE_no {t : Nat} (h : tf_NE rk ra rb yk ya yb t) : rk t ≠ 3 ∧ rk t ≠ 4 ∧ yk t ≠ 3 ∧ yk t ≠ 6 := by
  rcases h with ⟨a, b, _⟩ | ⟨a, b, _⟩ <;> rw [a, b] <;> decide
/-- the top entry -/
theorem tf_RS_kinds {r p : Nat} {ip ie : Int32} (h : tf_RS md FR rk ra rb rc yk ya yb (r + 1) ip ie p) : (rk r = 1 ∧ yk r = 4 ∧ ra r = ya r ∧ 0 < r ∧ tf_RS md FR rk ra rb rc yk ya yb r ip ie p) ∨ (rk r = 2 ∧ yk r = 5 ∧ ra r = ya r ∧ rb r = yb r ∧ 0 < r ∧ tf_RS md FR rk ra rb rc yk ya yb r ip ie p) ∨ (rk r ≠ 1 ∧ rk r ≠ 2 ∧ yk r ≠ 4 ∧ yk r ≠ 5) := by
  rcases h with ⟨a, b, c, d, e⟩ | ⟨a, b, c, d, e, f⟩ | ⟨a, b, _⟩ | ⟨a, b, _⟩
  · exact Or.inl ⟨a, b, c, d, e⟩
  · exact Or.inr (Or.inl ⟨a, b, c, d, e, f⟩)
  · exact Or.inr (Or.inr (by rw [a, b]; decide))
  · exact Or.inr (Or.inr (by rw [a, b]; decide))
theorem tf_nIm1 {i : Nat} (h : i ≤ 96) : nI i ≠ -1 := by
  intro z
  have h1 : (nI i).toInt = (i : Int) := nI_toInt (by omega)
  rw [z] at h1
  have h2 : (-1 : Int32).toInt = -1 := by decide
  omega
theorem tf_nIm2 {i : Nat} (h : i ≤ 96) : nI i ≠ -2 := by
  intro z
  have h1 : (nI i).toInt = (i : Int) := nI_toInt (by omega)
  rw [z] at h1
  have h2 : (-2 : Int32).toInt = -2 := by decide
  omega
theorem tf_RS_pos (hF : ∀ i e o j, FR i e o j → i ≤ 96) {r p : Nat} {ip ie : Int32} (hr : 0 < r) (h : tf_RS md FR rk ra rb rc yk ya yb r ip ie p) : ip ≠ -1 ∧ 0 < p := by
  obtain ⟨f, _, _, hf⟩ := tf_RS_top hr h
  rcases hf with ⟨_, _, i, e, o, j, q, c1, _, _, _, c5, _, c7⟩ | ⟨c, _, _, x, q, _, _, _, _, c5⟩
  · refine ⟨?_, by omega⟩
    rw [c1]
    exact tf_nIm1 (hF _ _ _ _ c5)
  · refine ⟨?_, by omega⟩
    rw [c]; decide
/-- pushing one entry -/
theorem tf_agree {r : Nat} {a b c e x y z : Int32} : ∀ t, t < r → upd rk r a t = rk t ∧ upd ra r b t = ra t ∧ upd rb r c t = rb t ∧ upd rc r e t = rc t ∧ upd yk r x t = yk t ∧ upd ya r y t = ya t ∧ upd yb r z t = yb t := by
  intro t h
  have e1 : t ≠ r := by omega
  exact ⟨pk_un e1, pk_un e1, pk_un e1, pk_un e1, pk_un e1, pk_un e1, pk_un e1⟩
theorem tf_RS_value {r p : Nat} {ip ie x b c z : Int32} (hr : 0 < r) (h : tf_RS md FR rk ra rb rc yk ya yb r ip ie p) : tf_RS md FR (upd rk r 1) (upd ra r x) (upd rb r b) (upd rc r c) (upd yk r 4) (upd ya r x) (upd yb r z) (r + 1) ip ie p :=
  Or.inl ⟨pk_us, pk_us, by rw [pk_us, pk_us], hr, tf_RS_map (Nat.le_refl _) (fun _ _ _ _ h => h) tf_agree h⟩
theorem tf_RS_loop {r p : Nat} {ip ie x b c : Int32} (hr : 0 < r) (h : tf_RS md FR rk ra rb rc yk ya yb r ip ie p) : tf_RS md FR (upd rk r 2) (upd ra r x) (upd rb r b) (upd rc r c) (upd yk r 5) (upd ya r x) (upd yb r b) (r + 1) ip ie p :=
  Or.inr (Or.inl ⟨pk_us, pk_us, by rw [pk_us, pk_us], by rw [pk_us, pk_us], hr, tf_RS_map (Nat.le_refl _) (fun _ _ _ _ h => h) tf_agree h⟩)
theorem tf_RS_call {r p q i e o j : Nat} {ip ie c : Int32} (hF : FR i e o j) (hq : p + 67 * (e - i) + 1 ≤ q) (h : tf_RS md FR rk ra rb rc yk ya yb r ip ie p) : tf_RS md FR (upd rk r 3) (upd ra r ip) (upd rb r ie) (upd rc r c) (upd yk r 3) (upd ya r (nI o)) (upd yb r (nI j)) (r + 1) (nI i) (nI e) q :=
  Or.inr (Or.inr (Or.inl ⟨pk_us, pk_us, i, e, o, j, p, rfl, rfl, pk_us, pk_us, hF, by rw [pk_us, pk_us]; exact tf_RS_map (Nat.le_refl _) (fun _ _ _ _ h => h) tf_agree h, hq⟩))
theorem tf_RS_ctch {r p q c : Nat} {ip ie z z2 : Int32} (hc : c < md) (hq : p + 1 ≤ q) (h : tf_RS md FR rk ra rb rc yk ya yb r ip ie p) : tf_RS md FR (upd rk r 4) (upd ra r ip) (upd rb r ie) (upd rc r (nI c)) (upd yk r 6) (upd ya r (nI c)) (upd yb r z) (r + 1) (-2) z2 q :=
  Or.inr (Or.inr (Or.inr ⟨pk_us, pk_us, rfl, c, p, hc, pk_us, pk_us, by rw [pk_us, pk_us]; exact tf_RS_map (Nat.le_refl _) (fun _ _ _ _ h => h) tf_agree h, hq⟩))
end
end
section
/-! X's small methods, each with a general post -/
theorem tf_uc {f : Nat → Int32} {k : Nat} {x : Int32} (h : k < 2 ^ 31) : upd f (nI k).toNatClampNeg x = upd f k x := by rw [nI_clamp h]
theorem tf_ucL {f : Nat → Int64} {k : Nat} {x : Int64} (h : k < 2 ^ 31) : vp_updL f (nI k).toNatClampNeg x = vp_updL f k x := by rw [nI_clamp h]
theorem tf_rc {f : Nat → Int32} {k : Nat} (h : k < 2 ^ 31) : f (nI k).toNatClampNeg = f k := by rw [nI_clamp h]
theorem tf_rcL {f : Nat → Int64} {k : Nat} (h : k < 2 ^ 31) : f (nI k).toNatClampNeg = f k := by rw [nI_clamp h]
theorem tf_am (x : Int32) : x + (-1) = x - 1 := by rw [Int32.sub_eq_add_neg]
theorem tf_m0 : nI 0 - 1 = -1 := by decide
theorem tf_neg1 : (-1 : Int32) < 0 := by decide
theorem tf_upd2 {f : Nat → Int32} {k : Nat} {x y : Int32} : upd (upd f k x) k y = upd f k y := by
  funext j
  by_cases h : j = k
  · rw [h, pk_us, pk_us]
  · rw [pk_un h, pk_un h, pk_un h]
/-- zeros from a to c -/
def tf_zf (g : Nat → Int32) (a c : Nat) : Nat → Int32 := fun i => if a ≤ i ∧ i < c then 0 else g i
theorem tf_zf_e {g : Nat → Int32} {a c : Nat} (h : c ≤ a) : tf_zf g a c = g := by
  funext i
  unfold tf_zf
  rw [if_neg (by omega)]
theorem tf_zf_s {g : Nat → Int32} {a c : Nat} (h : a < c) : tf_zf (upd g a 0) (a + 1) c = tf_zf g a c := by
  funext i
  unfold tf_zf
  by_cases e : i = a
  · rw [if_neg (by omega), if_pos (by omega), e, pk_us]
  · rw [pk_un e]
    by_cases z : a ≤ i ∧ i < c
    · rw [if_pos (by omega), if_pos z]
    · rw [if_neg (by omega), if_neg z]
section
variable {md mr mu mf ll lp d r w n os cd hc oh od fu : Nat} {k1 k2 k3 k4 k5 k6 k7 k8 k9 tS tE en op co cu ip ie pe ab re oy sv : Int32} {tN onm : Int64} {li da rk ra rb rc kd ls im sr st we ad wo tk gv io ia ck ci ce ou ox yk ya yb oo ol ao ap ik iv ow oz : Nat → Int32} {nm : Nat → Int64} {lo : Nat}
theorem tx_push {post : SX → Prop} {x : Int32} (h1 : d < md) (h2 : md ≤ 32) (k : post (k1, k2, k3, k4, k5, k6, k7, k8, k9, (nI md), (nI mr), (nI mu), (nI mf), (nI ll), (nI lp), tS, tE, tN, (nI (d+1)), (nI r), (nI w), en, (nI n), op, co, onm, (nI os), (nI cd), (nI hc), (nI oh), (nI od), cu, (nI fu), ip, ie, pe, ab, re, li, (upd da d x), rk, ra, rb, rc, nm, kd, ls, im, sr, st, we, ad, wo, tk, gv, io, ia, ck, ci, ce, ou, ox)) : wpX_push post (k1, k2, k3, k4, k5, k6, k7, k8, k9, (nI md), (nI mr), (nI mu), (nI mf), (nI ll), (nI lp), tS, tE, tN, (nI d), (nI r), (nI w), en, (nI n), op, co, onm, (nI os), (nI cd), (nI hc), (nI oh), (nI od), cu, (nI fu), ip, ie, pe, ab, re, li, da, rk, ra, rb, rc, nm, kd, ls, im, sr, st, we, ad, wo, tk, gv, io, ia, ck, ci, ce, ou, ox) x :=
  br_f (nI_ge h1 (by omega)) (And.intro (vp_in_nI (by omega) (by omega)) (nm_r (tf_uc (by omega)) (nm_r (nI_1 d) k)))
theorem tx_pushR {post : SX → Prop} {x y z t : Int32} (h1 : r < mr) (h2 : mr ≤ 32) (k : post (k1, k2, k3, k4, k5, k6, k7, k8, k9, (nI md), (nI mr), (nI mu), (nI mf), (nI ll), (nI lp), tS, tE, tN, (nI d), (nI (r+1)), (nI w), en, (nI n), op, co, onm, (nI os), (nI cd), (nI hc), (nI oh), (nI od), cu, (nI fu), ip, ie, pe, ab, re, li, da, (upd rk r x), (upd ra r y), (upd rb r z), (upd rc r t), nm, kd, ls, im, sr, st, we, ad, wo, tk, gv, io, ia, ck, ci, ce, ou, ox)) : wpX_pushReturn post (k1, k2, k3, k4, k5, k6, k7, k8, k9, (nI md), (nI mr), (nI mu), (nI mf), (nI ll), (nI lp), tS, tE, tN, (nI d), (nI r), (nI w), en, (nI n), op, co, onm, (nI os), (nI cd), (nI hc), (nI oh), (nI od), cu, (nI fu), ip, ie, pe, ab, re, li, da, rk, ra, rb, rc, nm, kd, ls, im, sr, st, we, ad, wo, tk, gv, io, ia, ck, ci, ce, ou, ox) x y z t :=
  have hi : vp_in (nI r) 32 := vp_in_nI (by omega) (by omega)
  br_f (nI_ge h1 (by omega)) (And.intro hi (nm_r (tf_uc (by omega)) (And.intro hi (nm_r (tf_uc (by omega)) (And.intro hi (nm_r (tf_uc (by omega)) (And.intro hi (nm_r (tf_uc (by omega)) (nm_r (nI_1 r) k)))))))))
theorem tx_te7 {post : Int32 → Prop} {x : Int32} {f : Nat} (hf : rk f = x) (k : post (nI f)) : ∀ m, m ≤ 32 → f < m → (∀ t, f < t → t < m → rk t ≠ x) → wX_topmostEntry_7 post x k1 k2 k3 k4 k5 k6 k7 k8 k9 (nI md) (nI mr) (nI mu) (nI mf) (nI ll) (nI lp) tS tE tN (nI d) (nI r) (nI w) en (nI n) op co onm (nI os) (nI cd) (nI hc) (nI oh) (nI od) cu (nI fu) ip ie pe ab re li da rk ra rb rc nm kd ls im sr st we ad wo tk gv io ia ck ci ce ou ox (m + 1) (nI m - 1)
  | 0, _, h, _ => absurd h (by omega)
  | m + 1, hm, h, hn => by
    rw [nI_pred]
    have h0 : ¬ nI m < 0 := nI_pos (by omega)
    have hi : vp_in (nI m) 32 := vp_in_nI (by omega) (by omega)
    rcases Nat.lt_or_ge f m with g | g
    · have hx : ¬ rk (nI m).toNatClampNeg = x := by rw [nI_clamp (show m < 2 ^ 31 by omega)]; exact hn m g (by omega)
      exact br_f h0 (And.intro hi (br_f hx (nm_r (tf_am _) (tx_te7 hf k m (by omega) g (fun t a b => hn t a (by omega))))))
    · have e : f = m := by omega
      subst e
      have hx : rk (nI f).toNatClampNeg = x := by rw [nI_clamp (show f < 2 ^ 31 by omega)]; exact hf
      exact br_f h0 (And.intro hi (br_t hx k))
theorem tx_te7n {post : Int32 → Prop} {x : Int32} (k : post (-1)) : ∀ m, m ≤ 32 → (∀ t, t < m → rk t ≠ x) → wX_topmostEntry_7 post x k1 k2 k3 k4 k5 k6 k7 k8 k9 (nI md) (nI mr) (nI mu) (nI mf) (nI ll) (nI lp) tS tE tN (nI d) (nI r) (nI w) en (nI n) op co onm (nI os) (nI cd) (nI hc) (nI oh) (nI od) cu (nI fu) ip ie pe ab re li da rk ra rb rc nm kd ls im sr st we ad wo tk gv io ia ck ci ce ou ox (m + 1) (nI m - 1)
  | 0, _, _ => by
    rw [tf_m0]
    exact br_t tf_neg1 k
  | m + 1, hm, hn => by
    rw [nI_pred]
    have h0 : ¬ nI m < 0 := nI_pos (by omega)
    have hi : vp_in (nI m) 32 := vp_in_nI (by omega) (by omega)
    have hx : ¬ rk (nI m).toNatClampNeg = x := by rw [nI_clamp (show m < 2 ^ 31 by omega)]; exact hn m (by omega)
    exact br_f h0 (And.intro hi (br_f hx (nm_r (tf_am _) (tx_te7n k m (by omega) (fun t a => hn t (by omega))))))
theorem tx_te {post : Int32 → Prop} {x : Int32} {f : Nat} (hf : rk f = x) (hr : r ≤ 32) (h : f < r) (hn : ∀ t, f < t → t < r → rk t ≠ x) (k : post (nI f)) : wpX_topmostEntry post (k1, k2, k3, k4, k5, k6, k7, k8, k9, (nI md), (nI mr), (nI mu), (nI mf), (nI ll), (nI lp), tS, tE, tN, (nI d), (nI r), (nI w), en, (nI n), op, co, onm, (nI os), (nI cd), (nI hc), (nI oh), (nI od), cu, (nI fu), ip, ie, pe, ab, re, li, da, rk, ra, rb, rc, nm, kd, ls, im, sr, st, we, ad, wo, tk, gv, io, ia, ck, ci, ce, ou, ox) x :=
  nm_e (Exists.intro (r + 1) (tx_te7 hf k r hr h hn))
theorem tx_ten {post : Int32 → Prop} {x : Int32} (hr : r ≤ 32) (hn : ∀ t, t < r → rk t ≠ x) (k : post (-1)) : wpX_topmostEntry post (k1, k2, k3, k4, k5, k6, k7, k8, k9, (nI md), (nI mr), (nI mu), (nI mf), (nI ll), (nI lp), tS, tE, tN, (nI d), (nI r), (nI w), en, (nI n), op, co, onm, (nI os), (nI cd), (nI hc), (nI oh), (nI od), cu, (nI fu), ip, ie, pe, ab, re, li, da, rk, ra, rb, rc, nm, kd, ls, im, sr, st, we, ad, wo, tk, gv, io, ia, ck, ci, ce, ou, ox) x :=
  nm_e (Exists.intro (r + 1) (tx_te7n k r hr hn))
theorem tx_trk0 {post : Int32 → Prop} (k : post 0) : wpX_topReturnKind post (k1, k2, k3, k4, k5, k6, k7, k8, k9, (nI md), (nI mr), (nI mu), (nI mf), (nI ll), (nI lp), tS, tE, tN, (nI d), (nI 0), (nI w), en, (nI n), op, co, onm, (nI os), (nI cd), (nI hc), (nI oh), (nI od), cu, (nI fu), ip, ie, pe, ab, re, li, da, rk, ra, rb, rc, nm, kd, ls, im, sr, st, we, ad, wo, tk, gv, io, ia, ck, ci, ce, ou, ox) := br_t (by decide) k
theorem tx_trk {post : Int32 → Prop} (hr : r < 32) (k : post (rk r)) : wpX_topReturnKind post (k1, k2, k3, k4, k5, k6, k7, k8, k9, (nI md), (nI mr), (nI mu), (nI mf), (nI ll), (nI lp), tS, tE, tN, (nI d), (nI (r+1)), (nI w), en, (nI n), op, co, onm, (nI os), (nI cd), (nI hc), (nI oh), (nI od), cu, (nI fu), ip, ie, pe, ab, re, li, da, rk, ra, rb, rc, nm, kd, ls, im, sr, st, we, ad, wo, tk, gv, io, ia, ck, ci, ce, ou, ox) :=
  br_f (nI_nle (by omega) (by omega)) (And.intro (by rw [nI_pred]; exact vp_in_nI (by omega) (by omega)) (by rw [nI_pred, nI_clamp (show r < 2 ^ 31 by omega)]; exact k))
theorem tx_append {post : SX → Prop} {x : Int32} (h1 : ll < 128) (k : post (k1, k2, k3, k4, k5, k6, k7, k8, k9, (nI md), (nI mr), (nI mu), (nI mf), (nI (ll+1)), (nI lp), tS, tE, tN, (nI d), (nI r), (nI w), en, (nI n), op, co, onm, (nI os), (nI cd), (nI hc), (nI oh), (nI od), cu, (nI fu), ip, ie, pe, ab, re, (upd li ll x), da, rk, ra, rb, rc, nm, kd, ls, im, sr, st, we, ad, wo, tk, gv, io, ia, ck, ci, ce, ou, ox)) : wpX_append post (k1, k2, k3, k4, k5, k6, k7, k8, k9, (nI md), (nI mr), (nI mu), (nI mf), (nI ll), (nI lp), tS, tE, tN, (nI d), (nI r), (nI w), en, (nI n), op, co, onm, (nI os), (nI cd), (nI hc), (nI oh), (nI od), cu, (nI fu), ip, ie, pe, ab, re, li, da, rk, ra, rb, rc, nm, kd, ls, im, sr, st, we, ad, wo, tk, gv, io, ia, ck, ci, ce, ou, ox) x :=
  br_f (nI_ge (b := 128) h1 (by decide)) (And.intro (vp_in_nI (by omega) (by omega)) (nm_r (tf_uc (by omega)) (nm_r (nI_1 ll) k)))
theorem tx_abort0 {post : SX → Prop} {x : Int32} (k : post (k1, k2, k3, k4, k5, k6, k7, k8, k9, (nI md), (nI mr), (nI mu), (nI mf), (nI 0), (nI 0), tS, tE, tN, (nI 0), (nI 0), (nI w), en, (nI n), 0, 0, onm, (nI os), (nI 0), (nI hc), (nI oh), (nI od), cu, (nI fu), (-1), ie, (-1), 1, x, li, da, rk, ra, rb, rc, nm, kd, ls, im, sr, st, we, ad, wo, tk, gv, io, ia, ck, ci, ce, ou, ox)) : wpX_abort post (k1, k2, k3, k4, k5, k6, k7, k8, k9, (nI md), (nI mr), (nI mu), (nI mf), (nI ll), (nI lp), tS, tE, tN, (nI d), (nI r), (nI w), en, (nI n), 0, co, onm, (nI os), (nI cd), (nI hc), (nI oh), (nI od), cu, (nI fu), ip, ie, pe, ab, re, li, da, rk, ra, rb, rc, nm, kd, ls, im, sr, st, we, ad, wo, tk, gv, io, ia, ck, ci, ce, ou, ox) x := br_t rfl k
theorem tx_abort1 {post : SX → Prop} {x : Int32} (k : post (k1, k2, k3, k4, k5, k6, k7, k8, k9, (nI md), (nI mr), (nI mu), (nI mf), (nI 0), (nI 0), tS, tE, tN, (nI 0), (nI 0), (nI w), en, (nI os), 0, 0, onm, (nI os), (nI 0), (nI hc), (nI oh), (nI od), cu, (nI fu), (-1), ie, (-1), 1, x, li, da, rk, ra, rb, rc, nm, kd, ls, im, sr, st, we, ad, wo, tk, gv, io, ia, ck, ci, ce, ou, ox)) : wpX_abort post (k1, k2, k3, k4, k5, k6, k7, k8, k9, (nI md), (nI mr), (nI mu), (nI mf), (nI ll), (nI lp), tS, tE, tN, (nI d), (nI r), (nI w), en, (nI n), 1, co, onm, (nI os), (nI cd), (nI hc), (nI oh), (nI od), cu, (nI fu), ip, ie, pe, ab, re, li, da, rk, ra, rb, rc, nm, kd, ls, im, sr, st, we, ad, wo, tk, gv, io, ia, ck, ci, ce, ou, ox) x := br_f (by decide) k
theorem tx_raise34 {post : SX → Prop} {x : Int32} {f c : Nat} (hf : f < 32) (hcl : c < md) (hmd : md ≤ 32) : ∀ m a (g : Nat → Int32), c - a < m → a ≤ 32 → post (k1, k2, k3, k4, k5, k6, k7, k8, k9, (nI md), (nI mr), (nI mu), (nI mf), (nI ll), (nI lp), tS, tE, tN, (nI (c+1)), (nI f), (nI w), en, (nI n), op, co, onm, (nI os), (nI cd), (nI hc), (nI oh), (nI od), cu, (nI fu), (ra f), (rb f), (-1), ab, re, li, (upd (tf_zf g a c) c x), rk, ra, rb, rc, nm, kd, ls, im, sr, st, we, ad, wo, tk, gv, io, ia, ck, ci, ce, ou, ox) → wX_raise_34 post x (nI f) (nI c) k1 k2 k3 k4 k5 k6 k7 k8 k9 (nI md) (nI mr) (nI mu) (nI mf) (nI ll) (nI lp) tS tE tN (nI d) (nI f) (nI w) en (nI n) op co onm (nI os) (nI cd) (nI hc) (nI oh) (nI od) cu (nI fu) ip ie pe ab re m (nI a) li g rk ra rb rc nm kd ls im sr st we ad wo tk gv io ia ck ci ce ou ox
  | 0, a, g, h, _, _ => absurd h (by omega)
  | m + 1, a, g, h, ha, k => by
    rcases Nat.lt_or_ge a c with z | z
    · refine br_f (nI_ge z (by omega)) (And.intro (vp_in_nI (by omega) (by omega)) (nm_r (tf_uc (by omega)) (nm_r (nI_1 a) ?_)))
      refine tx_raise34 hf hcl hmd m (a + 1) (upd g a 0) (by omega) (by omega) ?_
      rw [tf_zf_s z]
      exact k
    · rw [tf_zf_e z] at k
      have hi : vp_in (nI f) 32 := vp_in_nI hf (by omega)
      refine br_t (nI_le z (by omega)) ?_
      refine tx_push hcl hmd ?_
      exact And.intro hi (nm_r (tf_rc (by omega)) (And.intro hi (nm_r (tf_rc (by omega)) k)))
/-- a throw that is caught -/
theorem tx_raise {post : SX → Prop} {x : Int32} {f c : Nat} (hr : r ≤ 32) (hf : f < r) (hk : rk f = 4) (hn : ∀ t, f < t → t < r → rk t ≠ 4) (hcc : rc f = nI c) (hcl : c < md) (hmd : md ≤ 32) (hd : d ≤ 32) (k : post (k1, k2, k3, k4, k5, k6, k7, k8, k9, (nI md), (nI mr), (nI mu), (nI mf), (nI ll), (nI lp), tS, tE, tN, (nI (c+1)), (nI f), (nI w), en, (nI n), op, co, onm, (nI os), (nI cd), (nI hc), (nI oh), (nI od), cu, (nI fu), (ra f), (rb f), (-1), ab, re, li, (upd (tf_zf da d c) c x), rk, ra, rb, rc, nm, kd, ls, im, sr, st, we, ad, wo, tk, gv, io, ia, ck, ci, ce, ou, ox)) : wpX_raise post (k1, k2, k3, k4, k5, k6, k7, k8, k9, (nI md), (nI mr), (nI mu), (nI mf), (nI ll), (nI lp), tS, tE, tN, (nI d), (nI r), (nI w), en, (nI n), op, co, onm, (nI os), (nI cd), (nI hc), (nI oh), (nI od), cu, (nI fu), ip, ie, pe, ab, re, li, da, rk, ra, rb, rc, nm, kd, ls, im, sr, st, we, ad, wo, tk, gv, io, ia, ck, ci, ce, ou, ox) x :=
  tx_te hk hr hf hn (br_t (nI_pos' (by omega)) (And.intro (vp_in_nI (by omega) (by omega)) (nm_r ((tf_rc (by omega)).trans hcc) (Exists.intro (c + 1) (tx_raise34 (by omega) hcl hmd (c + 1) d da (by omega) hd k)))))
/-- a throw that nothing catches -/
theorem tx_raise0 {post : SX → Prop} {x : Int32} (hr : r ≤ 32) (hn : ∀ t, t < r → rk t ≠ 4) (k : post (k1, k2, k3, k4, k5, k6, k7, k8, k9, (nI md), (nI mr), (nI mu), (nI mf), (nI 0), (nI 0), tS, tE, tN, (nI 0), (nI 0), (nI w), en, (nI n), 0, 0, onm, (nI os), (nI 0), (nI hc), (nI oh), (nI od), cu, (nI fu), (-1), ie, (-1), 1, x, li, da, rk, ra, rb, rc, nm, kd, ls, im, sr, st, we, ad, wo, tk, gv, io, ia, ck, ci, ce, ou, ox)) : wpX_raise post (k1, k2, k3, k4, k5, k6, k7, k8, k9, (nI md), (nI mr), (nI mu), (nI mf), (nI ll), (nI lp), tS, tE, tN, (nI d), (nI r), (nI w), en, (nI n), 0, co, onm, (nI os), (nI cd), (nI hc), (nI oh), (nI od), cu, (nI fu), ip, ie, pe, ab, re, li, da, rk, ra, rb, rc, nm, kd, ls, im, sr, st, we, ad, wo, tk, gv, io, ia, ck, ci, ce, ou, ox) x :=
  tx_ten hr hn (br_f (by decide) (tx_abort0 k))
theorem tx_raise1 {post : SX → Prop} {x : Int32} (hr : r ≤ 32) (hn : ∀ t, t < r → rk t ≠ 4) (k : post (k1, k2, k3, k4, k5, k6, k7, k8, k9, (nI md), (nI mr), (nI mu), (nI mf), (nI 0), (nI 0), tS, tE, tN, (nI 0), (nI 0), (nI w), en, (nI os), 0, 0, onm, (nI os), (nI 0), (nI hc), (nI oh), (nI od), cu, (nI fu), (-1), ie, (-1), 1, x, li, da, rk, ra, rb, rc, nm, kd, ls, im, sr, st, we, ad, wo, tk, gv, io, ia, ck, ci, ce, ou, ox)) : wpX_raise post (k1, k2, k3, k4, k5, k6, k7, k8, k9, (nI md), (nI mr), (nI mu), (nI mf), (nI ll), (nI lp), tS, tE, tN, (nI d), (nI r), (nI w), en, (nI n), 1, co, onm, (nI os), (nI cd), (nI hc), (nI oh), (nI od), cu, (nI fu), ip, ie, pe, ab, re, li, da, rk, ra, rb, rc, nm, kd, ls, im, sr, st, we, ad, wo, tk, gv, io, ia, ck, ci, ce, ou, ox) x :=
  tx_ten hr hn (br_f (by decide) (tx_abort1 k))
theorem tx_item {post : SX → Prop} {x y : Int32} (h : n < 96) (k : post (k1, k2, k3, k4, k5, k6, k7, k8, k9, (nI md), (nI mr), (nI mu), (nI mf), (nI ll), (nI lp), tS, tE, tN, (nI d), (nI r), (nI w), en, (nI (n+1)), op, co, onm, (nI os), (nI cd), (nI hc), (nI oh), (nI od), cu, (nI fu), ip, ie, pe, ab, re, li, da, rk, ra, rb, rc, nm, kd, ls, im, sr, st, we, ad, wo, tk, gv, (upd io n x), (upd ia n y), ck, ci, ce, ou, ox)) : wpX_compileItem post (k1, k2, k3, k4, k5, k6, k7, k8, k9, (nI md), (nI mr), (nI mu), (nI mf), (nI ll), (nI lp), tS, tE, tN, (nI d), (nI r), (nI w), en, (nI n), op, co, onm, (nI os), (nI cd), (nI hc), (nI oh), (nI od), cu, (nI fu), ip, ie, pe, ab, re, li, da, rk, ra, rb, rc, nm, kd, ls, im, sr, st, we, ad, wo, tk, gv, io, ia, ck, ci, ce, ou, ox) x y :=
  have hi : vp_in (nI n) 96 := vp_in_nI (by omega) (by omega)
  br_t (nI_lt (b := 96) h (by decide)) (And.intro hi (nm_r (tf_uc (by omega)) (And.intro hi (nm_r (tf_uc (by omega)) (nm_r (nI_1 n) k)))))
theorem tx_fuel {post : Int32 → SX → Prop} (h : fu < 2 ^ 31 - 1) (k : post 1 (k1, k2, k3, k4, k5, k6, k7, k8, k9, (nI md), (nI mr), (nI mu), (nI mf), (nI ll), (nI lp), tS, tE, tN, (nI d), (nI r), (nI w), en, (nI n), op, co, onm, (nI os), (nI cd), (nI hc), (nI oh), (nI od), cu, (nI fu), ip, ie, pe, ab, re, li, da, rk, ra, rb, rc, nm, kd, ls, im, sr, st, we, ad, wo, tk, gv, io, ia, ck, ci, ce, ou, ox)) : wpX_spendFuel post (k1, k2, k3, k4, k5, k6, k7, k8, k9, (nI md), (nI mr), (nI mu), (nI mf), (nI ll), (nI lp), tS, tE, tN, (nI d), (nI r), (nI w), en, (nI n), op, co, onm, (nI os), (nI cd), (nI hc), (nI oh), (nI od), cu, (nI (fu+1)), ip, ie, pe, ab, re, li, da, rk, ra, rb, rc, nm, kd, ls, im, sr, st, we, ad, wo, tk, gv, io, ia, ck, ci, ce, ou, ox) :=
  br_t (by have := nI_lt (a := 0) (b := fu + 1) (by omega) (by omega); exact this) (nm_r (nI_pred fu) k)
theorem tx_fuel0 {post : Int32 → SX → Prop} (k : post 0 (k1, k2, k3, k4, k5, k6, k7, k8, k9, (nI md), (nI mr), (nI mu), (nI mf), (nI 0), (nI 0), tS, tE, tN, (nI 0), (nI 0), (nI w), en, (nI n), 0, 0, onm, (nI os), (nI 0), (nI hc), (nI oh), (nI od), cu, (nI 0), (-1), ie, (-1), 1, (-100), li, da, rk, ra, rb, rc, nm, kd, ls, im, sr, st, we, ad, wo, tk, gv, io, ia, ck, ci, ce, ou, ox)) : wpX_spendFuel post (k1, k2, k3, k4, k5, k6, k7, k8, k9, (nI md), (nI mr), (nI mu), (nI mf), (nI ll), (nI lp), tS, tE, tN, (nI d), (nI r), (nI w), en, (nI n), 0, co, onm, (nI os), (nI cd), (nI hc), (nI oh), (nI od), cu, (nI 0), ip, ie, pe, ab, re, li, da, rk, ra, rb, rc, nm, kd, ls, im, sr, st, we, ad, wo, tk, gv, io, ia, ck, ci, ce, ou, ox) :=
  br_f (by decide) (tx_abort0 k)
theorem tx_fuel1 {post : Int32 → SX → Prop} (k : post 0 (k1, k2, k3, k4, k5, k6, k7, k8, k9, (nI md), (nI mr), (nI mu), (nI mf), (nI 0), (nI 0), tS, tE, tN, (nI 0), (nI 0), (nI w), en, (nI os), 0, 0, onm, (nI os), (nI 0), (nI hc), (nI oh), (nI od), cu, (nI 0), (-1), ie, (-1), 1, (-100), li, da, rk, ra, rb, rc, nm, kd, ls, im, sr, st, we, ad, wo, tk, gv, io, ia, ck, ci, ce, ou, ox)) : wpX_spendFuel post (k1, k2, k3, k4, k5, k6, k7, k8, k9, (nI md), (nI mr), (nI mu), (nI mf), (nI ll), (nI lp), tS, tE, tN, (nI d), (nI r), (nI w), en, (nI n), 1, co, onm, (nI os), (nI cd), (nI hc), (nI oh), (nI od), cu, (nI 0), ip, ie, pe, ab, re, li, da, rk, ra, rb, rc, nm, kd, ls, im, sr, st, we, ad, wo, tk, gv, io, ia, ck, ci, ce, ou, ox) :=
  br_f (by decide) (tx_abort1 k)
end
end
section
/-! Y's small methods, each with a general post -/
section
variable {md mr mu mf ll lp d r w n os cd hc oh od fu : Nat} {k1 k2 k3 k4 k5 k6 k7 k8 k9 tS tE en op co cu ip ie pe ab re oy sv : Int32} {tN onm : Int64} {li da rk ra rb rc kd ls im sr st we ad wo tk gv io ia ck ci ce ou ox yk ya yb oo ol ao ap ik iv ow oz : Nat → Int32} {nm : Nat → Int64} {lo : Nat}
theorem ty_push {post : SY → Prop} {x : Int32} (h1 : d < 32) (k : post ((nI md), (nI mr), (nI mu), (nI mf), (nI ll), (nI lp), sv, (nI (d+1)), (nI r), (nI w), en, (nI n), (nI hc), (nI od), cu, oy, onm, (nI cd), (nI oh), (nI fu), pe, re, ab, li, (upd da d x), yk, ya, yb, nm, kd, ls, im, sr, ad, oo, ol, ao, ap, ik, iv, ow, ce, oz, ck, ou)) : wpY_push post ((nI md), (nI mr), (nI mu), (nI mf), (nI ll), (nI lp), sv, (nI d), (nI r), (nI w), en, (nI n), (nI hc), (nI od), cu, oy, onm, (nI cd), (nI oh), (nI fu), pe, re, ab, li, da, yk, ya, yb, nm, kd, ls, im, sr, ad, oo, ol, ao, ap, ik, iv, ow, ce, oz, ck, ou) x :=
  br_f (nI_ge (b := 32) h1 (by decide)) (And.intro (vp_in_nI (by omega) (by omega)) (nm_r (tf_uc (by omega)) (nm_r (nI_1 d) k)))
theorem ty_pushR {post : SY → Prop} {x y z : Int32} (h1 : r < 32) (k : post ((nI md), (nI mr), (nI mu), (nI mf), (nI ll), (nI lp), sv, (nI d), (nI (r+1)), (nI w), en, (nI n), (nI hc), (nI od), cu, oy, onm, (nI cd), (nI oh), (nI fu), pe, re, ab, li, da, (upd yk r x), (upd ya r y), (upd yb r z), nm, kd, ls, im, sr, ad, oo, ol, ao, ap, ik, iv, ow, ce, oz, ck, ou)) : wpY_pushReturn post ((nI md), (nI mr), (nI mu), (nI mf), (nI ll), (nI lp), sv, (nI d), (nI r), (nI w), en, (nI n), (nI hc), (nI od), cu, oy, onm, (nI cd), (nI oh), (nI fu), pe, re, ab, li, da, yk, ya, yb, nm, kd, ls, im, sr, ad, oo, ol, ao, ap, ik, iv, ow, ce, oz, ck, ou) x y z :=
  have hi : vp_in (nI r) 32 := vp_in_nI (by omega) (by omega)
  br_f (nI_ge (b := 32) h1 (by decide)) (And.intro hi (nm_r (tf_uc (by omega)) (And.intro hi (nm_r (tf_uc (by omega)) (And.intro hi (nm_r (tf_uc (by omega)) (nm_r (nI_1 r) k)))))))
theorem ty_drop7 {post : SY → Prop} {s : Nat} (hw : w < 2 ^ 31) (k : post ((nI md), (nI mr), (nI mu), (nI mf), (nI ll), (nI lp), sv, (nI d), (nI r), (nI w), en, (nI s), (nI hc), (nI od), cu, oy, onm, (nI cd), (nI oh), (nI fu), pe, re, ab, li, da, yk, ya, yb, nm, kd, ls, im, sr, ad, oo, ol, ao, ap, ik, iv, ow, ce, oz, ck, ou)) : ∀ m, m ≤ 96 → s ≤ m → (∀ i, i < m → ow i = nI (tf_oN ow i) ∧ tf_oN ow i < 2 ^ 31) → (∀ i, i < m → (i < s ↔ tf_oN ow i < w)) → wY_dropItems_7 post (nI md) (nI mr) (nI mu) (nI mf) (nI ll) (nI lp) sv (nI d) (nI r) (nI w) en (nI hc) (nI od) cu oy onm (nI cd) (nI oh) (nI fu) pe re ab li da yk ya yb nm kd ls im sr ad oo ol ao ap ik iv ow ce oz ck ou (m + 1) (nI m - 1) (nI m)
  | 0, _, hs, _, _ => by
    have e : s = 0 := by omega
    subst e
    rw [tf_m0]
    exact br_t tf_neg1 k
  | m + 1, hm, hs, ho, hb => by
    rw [nI_pred]
    have h0 : ¬ nI m < 0 := nI_pos (by omega)
    have hi : vp_in (nI m) 96 := vp_in_nI (by omega) (by omega)
    obtain ⟨o1, o2⟩ := ho m (by omega)
    rcases Nat.lt_or_ge m s with g | g
    · have e : s = m + 1 := by omega
      subst e
      have hx : ow (nI m).toNatClampNeg < nI w := by
        rw [nI_clamp (show m < 2 ^ 31 by omega), o1]
        exact nI_lt ((hb m (by omega)).mp g) hw
      exact br_f h0 (And.intro hi (br_t hx k))
    · have hx : ¬ ow (nI m).toNatClampNeg < nI w := by
        rw [nI_clamp (show m < 2 ^ 31 by omega), o1]
        refine nI_nlt ?_ o2
        rcases Nat.lt_or_ge (tf_oN ow m) w with z | z
        · have := (hb m (by omega)).mpr z; omega
        · exact z
      exact br_f h0 (And.intro hi (br_f hx (nm_r (tf_am _) (ty_drop7 hw k m (by omega) g (fun i a => ho i (by omega)) (fun i a => hb i (by omega))))))
theorem ty_drop {post : SY → Prop} {s : Nat} (hw : w < 2 ^ 31) (hn : n ≤ 96) (hs : s ≤ n) (ho : ∀ i, i < n → ow i = nI (tf_oN ow i) ∧ tf_oN ow i < 2 ^ 31) (hb : ∀ i, i < n → (i < s ↔ tf_oN ow i < w)) (k : post ((nI md), (nI mr), (nI mu), (nI mf), (nI ll), (nI lp), sv, (nI d), (nI r), (nI w), en, (nI s), (nI hc), (nI od), cu, oy, onm, (nI cd), (nI oh), (nI fu), pe, re, ab, li, da, yk, ya, yb, nm, kd, ls, im, sr, ad, oo, ol, ao, ap, ik, iv, ow, ce, oz, ck, ou)) : wpY_dropItems post ((nI md), (nI mr), (nI mu), (nI mf), (nI ll), (nI lp), sv, (nI d), (nI r), (nI w), en, (nI n), (nI hc), (nI od), cu, oy, onm, (nI cd), (nI oh), (nI fu), pe, re, ab, li, da, yk, ya, yb, nm, kd, ls, im, sr, ad, oo, ol, ao, ap, ik, iv, ow, ce, oz, ck, ou) :=
  nm_e (Exists.intro (n + 1) (ty_drop7 hw k n hn hs ho hb))
theorem ty_stop {post : SY → Prop} {s : Nat} {x : Int32} (hw : w < 2 ^ 31) (hn : n ≤ 96) (hs : s ≤ n) (ho : ∀ i, i < n → ow i = nI (tf_oN ow i) ∧ tf_oN ow i < 2 ^ 31) (hb : ∀ i, i < n → (i < s ↔ tf_oN ow i < w)) (k : post ((nI md), (nI mr), (nI mu), (nI mf), (nI 0), (nI lp), sv, (nI 0), (nI 0), (nI w), en, (nI s), (nI hc), (nI od), cu, 0, onm, (nI 0), (nI oh), (nI fu), pe, x, 1, li, da, yk, ya, yb, nm, kd, ls, im, sr, ad, oo, ol, ao, ap, ik, iv, ow, ce, oz, ck, ou)) : wpY_stop post ((nI md), (nI mr), (nI mu), (nI mf), (nI ll), (nI lp), sv, (nI d), (nI r), (nI w), en, (nI n), (nI hc), (nI od), cu, oy, onm, (nI cd), (nI oh), (nI fu), pe, re, ab, li, da, yk, ya, yb, nm, kd, ls, im, sr, ad, oo, ol, ao, ap, ik, iv, ow, ce, oz, ck, ou) x := by
  unfold wpY_stop
  exact ty_drop (ll := 0) (d := 0) (r := 0) (oy := 0) (cd := 0) hw hn hs ho hb k
theorem ty_fail43 {post : SY → Prop} {x : Int32} {f c : Nat} (hf : f < 32) (hk : ya f = nI c) (hcl : c < 32) : ∀ m a (g : Nat → Int32), c - a < m → a ≤ 32 → post ((nI md), (nI mr), (nI mu), (nI mf), (nI ll), (nI lp), sv, (nI (c+1)), (nI f), (nI w), en, (nI n), (nI hc), (nI od), cu, oy, onm, (nI cd), (nI oh), (nI fu), pe, re, ab, li, (upd (tf_zf g a c) c x), yk, ya, yb, nm, kd, ls, im, sr, ad, oo, ol, ao, ap, ik, iv, ow, ce, oz, ck, ou) → wY_fail_43 post x (nI f) (nI md) (nI mr) (nI mu) (nI mf) (nI ll) (nI lp) sv (nI d) (nI r) (nI w) en (nI n) (nI hc) (nI od) cu oy onm (nI cd) (nI oh) (nI fu) pe re ab m (nI a) li g yk ya yb nm kd ls im sr ad oo ol ao ap ik iv ow ce oz ck ou
  | 0, a, g, h, _, _ => absurd h (by omega)
  | m + 1, a, g, h, ha, k => by
    have hi : vp_in (nI f) 32 := vp_in_nI hf (by omega)
    have e : ya (nI f).toNatClampNeg = nI c := (tf_rc (by omega)).trans hk
    refine And.intro hi ?_
    rcases Nat.lt_or_ge a c with z | z
    · refine br_f (by rw [e]; exact nI_ge z (by omega)) (And.intro (vp_in_nI (by omega) (by omega)) (nm_r (tf_uc (by omega)) (nm_r (nI_1 a) ?_)))
      refine ty_fail43 hf hk hcl m (a + 1) (upd g a 0) (by omega) (by omega) ?_
      rw [tf_zf_s z]
      exact k
    · rw [tf_zf_e z] at k
      refine br_t (by rw [e]; exact nI_le z (by omega)) (And.intro hi (nm_r e ?_))
      exact ty_push hcl k
theorem ty_fail7 {post : SY → Prop} {x : Int32} {f : Nat} (hf : yk f = 6) (k : wY_fail_28 post x (nI f) (nI md) (nI mr) (nI mu) (nI mf) (nI ll) (nI lp) sv (nI d) (nI r) (nI w) en (nI n) (nI hc) (nI od) cu oy onm (nI cd) (nI oh) (nI fu) pe re ab li da yk ya yb nm kd ls im sr ad oo ol ao ap ik iv ow ce oz ck ou) : ∀ m, m ≤ 32 → f < m → (∀ t, f < t → t < m → yk t ≠ 6) → wY_fail_7 post x (nI md) (nI mr) (nI mu) (nI mf) (nI ll) (nI lp) sv (nI d) (nI r) (nI w) en (nI n) (nI hc) (nI od) cu oy onm (nI cd) (nI oh) (nI fu) pe re ab li da yk ya yb nm kd ls im sr ad oo ol ao ap ik iv ow ce oz ck ou (m + 1) (nI m - 1)
  | 0, _, h, _ => absurd h (by omega)
  | m + 1, hm, h, hn => by
    rw [nI_pred]
    have h0 : ¬ nI m < 0 := nI_pos (by omega)
    have hi : vp_in (nI m) 32 := vp_in_nI (by omega) (by omega)
    rcases Nat.lt_or_ge f m with g | g
    · have hx : ¬ yk (nI m).toNatClampNeg = 6 := by rw [nI_clamp (show m < 2 ^ 31 by omega)]; exact hn m g (by omega)
      exact br_f h0 (And.intro hi (br_f hx (nm_r (tf_am _) (ty_fail7 hf k m (by omega) g (fun t a b => hn t a (by omega))))))
    · have e : f = m := by omega
      subst e
      have hx : yk (nI f).toNatClampNeg = 6 := by rw [nI_clamp (show f < 2 ^ 31 by omega)]; exact hf
      exact br_f h0 (And.intro hi (br_t hx k))
theorem ty_fail7n {post : SY → Prop} {x : Int32} (k : wY_fail_28 post x (-1) (nI md) (nI mr) (nI mu) (nI mf) (nI ll) (nI lp) sv (nI d) (nI r) (nI w) en (nI n) (nI hc) (nI od) cu oy onm (nI cd) (nI oh) (nI fu) pe re ab li da yk ya yb nm kd ls im sr ad oo ol ao ap ik iv ow ce oz ck ou) : ∀ m, m ≤ 32 → (∀ t, t < m → yk t ≠ 6) → wY_fail_7 post x (nI md) (nI mr) (nI mu) (nI mf) (nI ll) (nI lp) sv (nI d) (nI r) (nI w) en (nI n) (nI hc) (nI od) cu oy onm (nI cd) (nI oh) (nI fu) pe re ab li da yk ya yb nm kd ls im sr ad oo ol ao ap ik iv ow ce oz ck ou (m + 1) (nI m - 1)
  | 0, _, _ => by
    rw [tf_m0]
    exact br_t tf_neg1 k
  | m + 1, hm, hn => by
    rw [nI_pred]
    have h0 : ¬ nI m < 0 := nI_pos (by omega)
    have hi : vp_in (nI m) 32 := vp_in_nI (by omega) (by omega)
    have hx : ¬ yk (nI m).toNatClampNeg = 6 := by rw [nI_clamp (show m < 2 ^ 31 by omega)]; exact hn m (by omega)
    exact br_f h0 (And.intro hi (br_f hx (nm_r (tf_am _) (ty_fail7n k m (by omega) (fun t a => hn t (by omega))))))
theorem ty_fail {post : SY → Prop} {x : Int32} {f c : Nat} (hr : r ≤ 32) (hf : f < r) (hk : yk f = 6) (hn : ∀ t, f < t → t < r → yk t ≠ 6) (hcc : ya f = nI c) (hcl : c < 32) (hd : d ≤ 32) (k : post ((nI md), (nI mr), (nI mu), (nI mf), (nI ll), (nI lp), sv, (nI (c+1)), (nI f), (nI w), en, (nI n), (nI hc), (nI od), cu, oy, onm, (nI cd), (nI oh), (nI fu), pe, re, ab, li, (upd (tf_zf da d c) c x), yk, ya, yb, nm, kd, ls, im, sr, ad, oo, ol, ao, ap, ik, iv, ow, ce, oz, ck, ou)) : wpY_fail post ((nI md), (nI mr), (nI mu), (nI mf), (nI ll), (nI lp), sv, (nI d), (nI r), (nI w), en, (nI n), (nI hc), (nI od), cu, oy, onm, (nI cd), (nI oh), (nI fu), pe, re, ab, li, da, yk, ya, yb, nm, kd, ls, im, sr, ad, oo, ol, ao, ap, ik, iv, ow, ce, oz, ck, ou) x :=
  nm_e (Exists.intro (r + 1) (ty_fail7 hk (br_t (nI_pos' (by omega)) (Exists.intro (c + 1) (ty_fail43 (by omega) hcc hcl (c + 1) d da (by omega) hd k))) r hr hf hn))
theorem ty_fail0 {post : SY → Prop} {s : Nat} {x : Int32} (hr : r ≤ 32) (hk : ∀ t, t < r → yk t ≠ 6) (hw : w < 2 ^ 31) (hn : n ≤ 96) (hs : s ≤ n) (ho : ∀ i, i < n → ow i = nI (tf_oN ow i) ∧ tf_oN ow i < 2 ^ 31) (hb : ∀ i, i < n → (i < s ↔ tf_oN ow i < w)) (k : post ((nI md), (nI mr), (nI mu), (nI mf), (nI 0), (nI lp), sv, (nI 0), (nI 0), (nI w), en, (nI s), (nI hc), (nI od), cu, 0, onm, (nI 0), (nI oh), (nI fu), pe, x, 1, li, da, yk, ya, yb, nm, kd, ls, im, sr, ad, oo, ol, ao, ap, ik, iv, ow, ce, oz, ck, ou)) : wpY_fail post ((nI md), (nI mr), (nI mu), (nI mf), (nI ll), (nI lp), sv, (nI d), (nI r), (nI w), en, (nI n), (nI hc), (nI od), cu, oy, onm, (nI cd), (nI oh), (nI fu), pe, re, ab, li, da, yk, ya, yb, nm, kd, ls, im, sr, ad, oo, ol, ao, ap, ik, iv, ow, ce, oz, ck, ou) x :=
  nm_e (Exists.intro (r + 1) (ty_fail7n (br_f (by decide) (ty_stop hw hn hs ho hb k)) r hr hk))
theorem ty_item {post : SY → Prop} {x y : Int32} (h : n < 96) (k : post ((nI md), (nI mr), (nI mu), (nI mf), (nI ll), (nI lp), sv, (nI d), (nI r), (nI w), en, (nI (n+1)), (nI hc), (nI od), cu, oy, onm, (nI cd), (nI oh), (nI fu), pe, re, ab, li, da, yk, ya, yb, nm, kd, ls, im, sr, ad, oo, ol, ao, ap, (upd ik n x), (upd iv n y), (upd ow n (nI w)), ce, oz, ck, ou)) : wpY_addItem post ((nI md), (nI mr), (nI mu), (nI mf), (nI ll), (nI lp), sv, (nI d), (nI r), (nI w), en, (nI n), (nI hc), (nI od), cu, oy, onm, (nI cd), (nI oh), (nI fu), pe, re, ab, li, da, yk, ya, yb, nm, kd, ls, im, sr, ad, oo, ol, ao, ap, ik, iv, ow, ce, oz, ck, ou) x y :=
  have hi : vp_in (nI n) 96 := vp_in_nI (by omega) (by omega)
  br_t (nI_lt (b := 96) h (by decide)) (And.intro hi (nm_r (tf_uc (by omega)) (And.intro hi (nm_r (tf_uc (by omega)) (And.intro hi (nm_r (tf_uc (by omega)) (nm_r (nI_1 n) k)))))))
theorem ty_fuel {post : Int32 → SY → Prop} (h : fu < 2 ^ 31 - 1) (k : post 1 ((nI md), (nI mr), (nI mu), (nI mf), (nI ll), (nI lp), sv, (nI d), (nI r), (nI w), en, (nI n), (nI hc), (nI od), cu, oy, onm, (nI cd), (nI oh), (nI fu), pe, re, ab, li, da, yk, ya, yb, nm, kd, ls, im, sr, ad, oo, ol, ao, ap, ik, iv, ow, ce, oz, ck, ou)) : wpY_spend post ((nI md), (nI mr), (nI mu), (nI mf), (nI ll), (nI lp), sv, (nI d), (nI r), (nI w), en, (nI n), (nI hc), (nI od), cu, oy, onm, (nI cd), (nI oh), (nI (fu+1)), pe, re, ab, li, da, yk, ya, yb, nm, kd, ls, im, sr, ad, oo, ol, ao, ap, ik, iv, ow, ce, oz, ck, ou) :=
  br_t (by have := nI_lt (a := 0) (b := fu + 1) (by omega) (by omega); exact this) (nm_r (nI_pred fu) k)
theorem ty_fuel0 {post : Int32 → SY → Prop} {s : Nat} (hw : w < 2 ^ 31) (hn : n ≤ 96) (hs : s ≤ n) (ho : ∀ i, i < n → ow i = nI (tf_oN ow i) ∧ tf_oN ow i < 2 ^ 31) (hb : ∀ i, i < n → (i < s ↔ tf_oN ow i < w)) (k : post 0 ((nI md), (nI mr), (nI mu), (nI mf), (nI 0), (nI lp), sv, (nI 0), (nI 0), (nI w), en, (nI s), (nI hc), (nI od), cu, 0, onm, (nI 0), (nI oh), (nI 0), pe, (-100), 1, li, da, yk, ya, yb, nm, kd, ls, im, sr, ad, oo, ol, ao, ap, ik, iv, ow, ce, oz, ck, ou)) : wpY_spend post ((nI md), (nI mr), (nI mu), (nI mf), (nI ll), (nI lp), sv, (nI d), (nI r), (nI w), en, (nI n), (nI hc), (nI od), cu, oy, onm, (nI cd), (nI oh), (nI 0), pe, re, ab, li, da, yk, ya, yb, nm, kd, ls, im, sr, ad, oo, ol, ao, ap, ik, iv, ow, ce, oz, ck, ou) :=
  br_f (by decide) (ty_stop hw hn hs ho hb k)
end
end
section
/-! a throw, in both -/
theorem tf_TG_cut {n n' : Nat} {ow ia ik : Nat → Int32} {i : Nat} (hq : ∀ q, q < n → ow q = ow i → q < n') (h : tf_TG n ow ia ik i) : tf_TG n' ow ia ik i := by
  have FT : ∀ o, tf_FT n ow ia ik o i → tf_FT n' ow ia ik o i := by
    intro o ⟨q, a1, a2, a3, a4, a5, a6⟩
    exact ⟨q, a1, a2, hq q a3 a4, a4, a5, a6⟩
  obtain ⟨a1, a2, a3, a4, a5⟩ := h
  exact ⟨fun z => FT _ (a1 z), fun z => FT _ (a2 z), fun z => FT _ (a3 z), a4, a5⟩
theorem tf_Z_cut {w n w' n' mu : Nat} {co oy co' : Int32} {onm onm' : Int64} {os os' cd : Nat} {op : Int32} {kd st we ao ap io ia ik iv ow ck ci : Nat → Int32} (hw : w' ≤ w) (hn : n' ≤ n) (hb : ∀ i, i < n → (i < n' ↔ tf_oN ow i < w')) (hPD : ∀ i, i < n' → ¬ tf_PD n cd ia ik ck ci i) (Z : tf_Z w n mu op co oy onm os cd kd st we ao ap io ia ik iv ow ck ci) : tf_Z w' n' mu 0 co' 0 onm' os' 0 kd st we ao ap io ia ik iv ow ck ci := by
  obtain ⟨hS, hI, hP, hK, hG⟩ := Z
  refine ⟨fun k h1 h2 => ?_, fun i hi => ?_, ?_, ⟨fun j hj => absurd hj (by omega), fun i j hi _ _ => absurd hi (by omega)⟩, fun i hi => ?_⟩
  · obtain ⟨a, b, c⟩ := hS k h1 (by omega)
    refine ⟨fun z => ?_, fun z => ?_, c⟩
    · obtain ⟨s, e, q1, q2, q3, q4, q5⟩ := a z
      refine ⟨s, e, q1, q2, q3, ?_, fun i hi => q5 i (by omega)⟩
      rcases Nat.lt_or_ge n' e with g | g
      · have h3 := (q5 n' (by omega)).2.mp g
        have h4 := (hb n' (by omega)).mpr (by omega)
        omega
      · exact g
    · obtain ⟨s, q1, q2, q5⟩ := b z
      refine ⟨s, q1, ?_, fun i hi => q5 i (by omega)⟩
      rcases Nat.lt_or_ge n' s with g | g
      · have h3 := (q5 n' (by omega)).mp g
        have h4 := (hb n' (by omega)).mpr (by omega)
        omega
      · exact g
  · obtain ⟨⟨a1, a2, a3⟩, b⟩ := hI i (by omega)
    exact ⟨⟨a1, a2, by have := (hb i (by omega)).mp hi; omega⟩, b⟩
  · exact Or.inl ⟨rfl, rfl, rfl, fun i hi => (hb i (by omega)).mp hi⟩
  · rcases hG i (by omega) with z | z
    · refine Or.inl (tf_TG_cut (fun q h1 h2 => ?_) z)
      have e : tf_oN ow q = tf_oN ow i := by unfold tf_oN; rw [h2]
      refine (hb q h1).mpr ?_
      rw [e]
      exact (hb i (by omega)).mp hi
    · exact absurd z (hPD i hi)
theorem tf_noPD {n os cd : Nat} {ia ik ck ci : Nat → Int32} (hn : n ≤ 96) (hos : os ≤ n) (hK : tf_K cd n os ck ci ik) : ∀ i, i < os → ¬ tf_PD n cd ia ik ck ci i := by
  intro i hi h
  rcases h with ⟨_, j, a2, a3⟩ | ⟨_, j, c, a2, _, a4, _, a6, _⟩
  · obtain ⟨c, b1, b2, b3, _⟩ := hK.1 j a2
    have := tf_inj (by omega) (by omega) (b1.symm.trans a3)
    omega
  · obtain ⟨c2, b1, b2, b3, _⟩ := hK.1 j a2
    have := tf_inj (by omega) (by omega) (b1.symm.trans a4)
    omega
section
variable {md mr mu mf ll lp d r w n os cd hc oh od fu : Nat} {k1 k2 k3 k4 k5 k6 k7 k8 k9 tS tE en op co cu ip ie pe ab re oy sv : Int32} {tN onm : Int64} {li da rk ra rb rc kd ls im sr st we ad wo tk gv io ia ck ci ce ou ox yk ya yb oo ol ao ap ik iv ow oz : Nat → Int32} {nm : Nat → Int64} {lo : Nat}
theorem tf_C_ab0 (C : (tf_C md mr mu mf ll d r w n os cd hc oh od 0 co oy onm li nm kd im ad st we wo oo ol ao ap tk gv io ia ik iv ow ck ci ox oz)) : (tf_C md mr mu mf 0 0 0 w n os 0 hc oh od 0 0 0 onm li nm kd im ad st we wo oo ol ao ap tk gv io ia ik iv ow ck ci ox oz) := by
  obtain ⟨hB, hL, hT, hO, hN, hQ, Z⟩ := C
  have hB' := hB
  unfold tf_B at hB'
  have hcd : cd = 0 := by
    rcases Z.2.2.1 with ⟨_, _, z, _⟩ | ⟨z, _⟩
    · exact z
    · exact absurd z (by decide)
  subst hcd
  refine ⟨?_, fun i hi => absurd hi (by omega), hT, hO, hN, hQ, tf_Z_cut (Nat.le_refl _) (Nat.le_refl _) (fun i hi => ?_) (fun i hi h => ?_) Z⟩
  · unfold tf_B; omega
  · rcases Z.2.2.1 with ⟨_, _, _, z⟩ | ⟨z, _⟩
    · exact ⟨fun _ => z i hi, fun _ => hi⟩
    · exact absurd z (by decide)
  · rcases h with ⟨_, j, a2, _⟩ | ⟨_, j, c, a2, _⟩ <;> omega
theorem tf_C_ab1 (C : (tf_C md mr mu mf ll d r w n os cd hc oh od 1 co oy onm li nm kd im ad st we wo oo ol ao ap tk gv io ia ik iv ow ck ci ox oz)) : (tf_C md mr mu mf 0 0 0 w os os 0 hc oh od 0 0 0 onm li nm kd im ad st we wo oo ol ao ap tk gv io ia ik iv ow ck ci ox oz) := by
  obtain ⟨hB, hL, hT, hO, hN, hQ, Z⟩ := C
  have hB' := hB
  unfold tf_B at hB'
  have hP : os ≤ n ∧ ∀ i, i < n → (i < os ↔ tf_oN ow i < w) := by
    rcases Z.2.2.1 with ⟨z, _⟩ | ⟨_, _, _, a, _, b⟩
    · exact absurd z (by decide)
    · exact ⟨a, b⟩
  refine ⟨?_, fun i hi => absurd hi (by omega), hT, hO, hN, hQ, tf_Z_cut (Nat.le_refl _) hP.1 hP.2 (tf_noPD (by omega) hP.1 Z.2.2.2.1) Z⟩
  unfold tf_B; omega
theorem tf_owF (C : (tf_C md mr mu mf ll d r w n os cd hc oh od op co oy onm li nm kd im ad st we wo oo ol ao ap tk gv io ia ik iv ow ck ci ox oz)) : ∀ i, i < n → ow i = nI (tf_oN ow i) ∧ tf_oN ow i < 2 ^ 31 := by
  obtain ⟨hB, _, _, _, _, _, _, hI, _⟩ := C
  unfold tf_B at hB
  intro i hi
  obtain ⟨⟨a, b, c⟩, _⟩ := hI i hi
  exact ⟨a, by omega⟩
theorem tf_opc (C : (tf_C md mr mu mf ll d r w n os cd hc oh od op co oy onm li nm kd im ad st we wo oo ol ao ap tk gv io ia ik iv ow ck ci ox oz)) : (op = 0 ∧ oy = 0 ∧ cd = 0 ∧ ∀ i, i < n → (i < n ↔ tf_oN ow i < w)) ∨ (op = 1 ∧ ((co = 0 ∧ oy = 1) ∨ (co = 1 ∧ oy = 2)) ∧ os ≤ n ∧ w < 51 + mu ∧ ∀ i, i < n → (i < os ↔ tf_oN ow i < w)) := by
  rcases C.2.2.2.2.2.2.2.2.1 with ⟨a, b, c, e⟩ | ⟨a, b, c, e, f, g⟩
  · exact Or.inl ⟨a, b, c, fun i hi => ⟨fun _ => e i hi, fun _ => hi⟩⟩
  · exact Or.inr ⟨a, b, e, c, g⟩
/-- what nothing catches -/
theorem tl_abort {p : Nat} (F : (tf_F p md mr mu mf ll d r w n os cd hc oh od op co oy onm li nm kd im ad st we wo oo ol ao ap tk gv io ia ik iv ow ck ci ox oz lp fu ip ie rk ra rb rc yk ya yb lo)) (x : Int32) (hno : ∀ t, t < r → rk t ≠ 4 ∧ yk t ≠ 6) : ∃ u' v', tf_MD u' v' ∧ (∀ post : SX → Prop, post u' → wpX_raise post (k1, k2, k3, k4, k5, k6, k7, k8, k9, (nI md), (nI mr), (nI mu), (nI mf), (nI ll), (nI lp), tS, tE, tN, (nI d), (nI r), (nI w), en, (nI n), op, co, onm, (nI os), (nI cd), (nI hc), (nI oh), (nI od), cu, (nI fu), ip, ie, (-1), 0, re, li, da, rk, ra, rb, rc, nm, kd, ls, im, sr, st, we, ad, wo, tk, gv, io, ia, ck, ci, ce, ou, ox) x) ∧ (∀ post : SY → Prop, post v' → wpY_fail post ((nI md), (nI mr), (nI mu), (nI mf), (nI ll), (nI lp), sv, (nI d), (nI r), (nI w), en, (nI n), (nI hc), (nI od), cu, oy, onm, (nI cd), (nI oh), (nI fu), (-1), re, 0, li, da, yk, ya, yb, nm, kd, ls, im, sr, ad, oo, ol, ao, ap, ik, iv, ow, ce, oz, ck, ou) x) := by
  have C := F.1
  have hB := F.1.1
  unfold tf_B at hB
  have hr : r ≤ 32 := by omega
  rcases tf_opc C with ⟨a, b, c, e⟩ | ⟨a, b, c, c2, e⟩
  · subst a
    refine ⟨_, _, tf_MD_in (tf_C_ab0 C), fun post k => tx_raise0 hr (fun t ht => (hno t ht).1) k, fun post k => ty_fail0 hr (fun t ht => (hno t ht).2) (by omega) (by omega) (Nat.le_refl _) (tf_owF C) e k⟩
  · subst a
    refine ⟨_, _, tf_MD_in (tf_C_ab1 C), fun post k => tx_raise1 hr (fun t ht => (hno t ht).1) k, fun post k => ty_fail0 hr (fun t ht => (hno t ht).2) (by omega) (by omega) c (tf_owF C) e k⟩
theorem tl_raise {p : Nat} (F : (tf_F p md mr mu mf ll d r w n os cd hc oh od op co oy onm li nm kd im ad st we wo oo ol ao ap tk gv io ia ik iv ow ck ci ox oz lp fu ip ie rk ra rb rc yk ya yb lo)) (x : Int32) : ∃ u' v', tf_M lo p u' v' ∧ (∀ post : SX → Prop, post u' → wpX_raise post (k1, k2, k3, k4, k5, k6, k7, k8, k9, (nI md), (nI mr), (nI mu), (nI mf), (nI ll), (nI lp), tS, tE, tN, (nI d), (nI r), (nI w), en, (nI n), op, co, onm, (nI os), (nI cd), (nI hc), (nI oh), (nI od), cu, (nI fu), ip, ie, (-1), 0, re, li, da, rk, ra, rb, rc, nm, kd, ls, im, sr, st, we, ad, wo, tk, gv, io, ia, ck, ci, ce, ou, ox) x) ∧ (∀ post : SY → Prop, post v' → wpY_fail post ((nI md), (nI mr), (nI mu), (nI mf), (nI ll), (nI lp), sv, (nI d), (nI r), (nI w), en, (nI n), (nI hc), (nI od), cu, oy, onm, (nI cd), (nI oh), (nI fu), (-1), re, 0, li, da, yk, ya, yb, nm, kd, ls, im, sr, ad, oo, ol, ao, ap, ik, iv, ow, ce, oz, ck, ou) x) := by
  obtain ⟨C, h1, h2, q, hRS, hq⟩ := F
  have hB := C.1
  unfold tf_B at hB
  rcases tf_RS_catch hRS with hno | ⟨f, hf, hn, hk, hky, c, t, hcl, hrc, hya, hRS', hq'⟩
  · obtain ⟨u', v', g1, g2, g3⟩ := tl_abort ⟨C, h1, h2, q, hRS, hq⟩ x hno
    exact ⟨u', v', Or.inr (Or.inr g1), g2, g3⟩
  · refine ⟨(k1, k2, k3, k4, k5, k6, k7, k8, k9, (nI md), (nI mr), (nI mu), (nI mf), (nI ll), (nI lp), tS, tE, tN, (nI (c+1)), (nI f), (nI w), en, (nI n), op, co, onm, (nI os), (nI cd), (nI hc), (nI oh), (nI od), cu, (nI fu), (ra f), (rb f), (-1), 0, re, li, (upd (tf_zf da d c) c x), rk, ra, rb, rc, nm, kd, ls, im, sr, st, we, ad, wo, tk, gv, io, ia, ck, ci, ce, ou, ox), ((nI md), (nI mr), (nI mu), (nI mf), (nI ll), (nI lp), sv, (nI (c+1)), (nI f), (nI w), en, (nI n), (nI hc), (nI od), cu, oy, onm, (nI cd), (nI oh), (nI fu), (-1), re, 0, li, (upd (tf_zf da d c) c x), yk, ya, yb, nm, kd, ls, im, sr, ad, oo, ol, ao, ap, ik, iv, ow, ce, oz, ck, ou), Or.inl (tf_MR_in ⟨⟨?_, C.2⟩, h1, h2, t, hRS', by omega⟩), fun post k => tx_raise (by omega) hf hk (fun t a b => (hn t a b).1) hrc hcl (by omega) (by omega) k, fun post k => ty_fail (by omega) hf hky (fun t a b => (hn t a b).2) hya (by omega) (by omega) k⟩
    unfold tf_B; omega
/-- no fuel -/
theorem tl_nofuel {p : Nat} (F : (tf_F p md mr mu mf ll d r w n os cd hc oh od op co oy onm li nm kd im ad st we wo oo ol ao ap tk gv io ia ik iv ow ck ci ox oz lp 0 ip ie rk ra rb rc yk ya yb lo)) : ∃ u' v', tf_MD u' v' ∧ (∀ post : Int32 → SX → Prop, post 0 u' → wpX_spendFuel post (k1, k2, k3, k4, k5, k6, k7, k8, k9, (nI md), (nI mr), (nI mu), (nI mf), (nI ll), (nI lp), tS, tE, tN, (nI d), (nI r), (nI w), en, (nI n), op, co, onm, (nI os), (nI cd), (nI hc), (nI oh), (nI od), cu, (nI 0), ip, ie, (-1), 0, re, li, da, rk, ra, rb, rc, nm, kd, ls, im, sr, st, we, ad, wo, tk, gv, io, ia, ck, ci, ce, ou, ox)) ∧ (∀ post : Int32 → SY → Prop, post 0 v' → wpY_spend post ((nI md), (nI mr), (nI mu), (nI mf), (nI ll), (nI lp), sv, (nI d), (nI r), (nI w), en, (nI n), (nI hc), (nI od), cu, oy, onm, (nI cd), (nI oh), (nI 0), (-1), re, 0, li, da, yk, ya, yb, nm, kd, ls, im, sr, ad, oo, ol, ao, ap, ik, iv, ow, ce, oz, ck, ou)) := by
  have C := F.1
  have hB := F.1.1
  unfold tf_B at hB
  rcases tf_opc C with ⟨a, b, c, e⟩ | ⟨a, b, c, c2, e⟩
  · subst a
    refine ⟨_, _, tf_MD_in (tf_C_ab0 C), fun post k => tx_fuel0 k, fun post k => ty_fuel0 (by omega) (by omega) (Nat.le_refl _) (tf_owF C) e k⟩
  · subst a
    refine ⟨_, _, tf_MD_in (tf_C_ab1 C), fun post k => tx_fuel1 k, fun post k => ty_fuel0 (by omega) (by omega) c (tf_owF C) e k⟩
end
end
section
/-! reading a token and looking a name up, in both -/
/-- the token behind place lp: from a to b -/
def tf_Tok (li : Nat → Int32) (ll lp a b : Nat) : Prop := lp ≤ a ∧ a ≤ b ∧ b ≤ ll ∧ (∀ t, lp ≤ t → t < a → li t = 32) ∧ (a < ll → li a ≠ 32 ∧ a < b) ∧ (∀ t, a ≤ t → t < b → li t ≠ 32) ∧ (b < ll → li b = 32)
theorem tf_run (P : Nat → Prop) (ll : Nat) : ∀ m lp, lp + m = ll → ∃ a, lp ≤ a ∧ a ≤ ll ∧ (∀ t, lp ≤ t → t < a → P t) ∧ (a < ll → ¬ P a)
  | 0, lp, h => ⟨lp, by omega, by omega, fun t a b => by omega, fun z => by omega⟩
  | m + 1, lp, h => by
    rcases Classical.em (P lp) with z | z
    · obtain ⟨a, h1, h2, h3, h4⟩ := tf_run P ll m (lp + 1) (by omega)
      refine ⟨a, by omega, h2, fun t ht1 ht2 => ?_, h4⟩
      rcases Nat.lt_or_ge lp t with g | g
      · exact h3 t (by omega) ht2
      · have e : t = lp := by omega
        rw [e]; exact z
    · exact ⟨lp, by omega, by omega, fun t a b => by omega, fun _ => z⟩
theorem tf_Tok_ex (li : Nat → Int32) {ll lp : Nat} (h : lp ≤ ll) : ∃ a b, tf_Tok li ll lp a b := by
  obtain ⟨a, a1, a2, a3, a4⟩ := tf_run (fun t => li t = 32) ll (ll - lp) lp (by omega)
  obtain ⟨b, b1, b2, b3, b4⟩ := tf_run (fun t => ¬ li t = 32) ll (ll - a) a (by omega)
  refine ⟨a, b, a1, b1, b2, a3, fun z => ⟨a4 z, ?_⟩, b3, fun z => ?_⟩
  · rcases Nat.lt_or_ge a b with g | g
    · exact g
    · have e : b = a := by omega
      subst e
      exact absurd (a4 z) (b4 z)
  · exact Classical.not_not.mp (b4 z)
/-- its packed name, after j characters -/
def tf_na (li : Nat → Int32) (a b : Nat) : Nat → Int64
  | 0 => 0
  | j + 1 => if a + j < b then tf_na li a b j ||| ((li (a + j)).toInt64 <<< ((8 * nI j).toInt64 &&& 63)) else tf_na li a b j
theorem tf_na_s {li : Nat → Int32} {a b j : Nat} (h : a + j < b) : tf_na li a b (j + 1) = tf_na li a b j ||| ((li (a + j)).toInt64 <<< ((8 * nI j).toInt64 &&& 63)) := if_pos h
theorem tf_na_e {li : Nat → Int32} {a b : Nat} : ∀ {m j : Nat}, b ≤ a + j → tf_na li a b (j + m) = tf_na li a b j
  | 0, _, _ => rfl
  | m + 1, j, h => by
    show (if a + (j + m) < b then _ else _) = _
    rw [if_neg (by omega)]
    exact tf_na_e h
section
variable {md mr mu mf ll lp d r w n os cd hc oh od fu : Nat} {k1 k2 k3 k4 k5 k6 k7 k8 k9 tS tE en op co cu ip ie pe ab re oy sv : Int32} {tN onm : Int64} {li da rk ra rb rc kd ls im sr st we ad wo tk gv io ia ck ci ce ou ox yk ya yb oo ol ao ap ik iv ow oz : Nat → Int32} {nm : Nat → Int64} {lo : Nat}
theorem tx_rt109 {post : Int32 → SX → Prop} {a b : Nat} (hb : b ≤ 128) (k : wX_readToken_155 post (nI a) (nI b) k1 k2 k3 k4 k5 k6 k7 k8 k9 (nI md) (nI mr) (nI mu) (nI mf) (nI ll) (nI b) (nI a) (nI b) (tf_na li a b 8) (nI d) (nI r) (nI w) en (nI n) op co onm (nI os) (nI cd) (nI hc) (nI oh) (nI od) cu (nI fu) ip ie pe ab re li da rk ra rb rc nm kd ls im sr st we ad wo tk gv io ia ck ci ce ou ox) : ∀ m j, j + m = 8 → a ≤ b → wX_readToken_109 post (nI a) (nI b) k1 k2 k3 k4 k5 k6 k7 k8 k9 (nI md) (nI mr) (nI mu) (nI mf) (nI ll) (nI b) (nI a) (nI b) (nI d) (nI r) (nI w) en (nI n) op co onm (nI os) (nI cd) (nI hc) (nI oh) (nI od) cu (nI fu) ip ie pe ab re li da rk ra rb rc nm kd ls im sr st we ad wo tk gv io ia ck ci ce ou ox (m + 1) (nI j) (tf_na li a b j)
  | 0, j, h, _ => by
    have e : j = 8 := by omega
    subst e
    exact br_t (by decide) k
  | m + 1, j, h, hab => by
    refine br_f (nI_ge (a := j) (b := 8) (by omega) (by decide)) ?_
    rcases Nat.lt_or_ge (a + j) b with g | g
    · have e1 : nI a + nI j = nI (a + j) := nI_add a j
      refine br_f (by rw [e1]; exact nI_ge g (by omega)) (And.intro (by rw [e1]; exact vp_in_nI (by omega) (by omega)) (nm_r (e' := (li (a + j)).toInt64) (by rw [e1, nI_clamp (by omega)]) (nm_r (tf_na_s g).symm (nm_r (nI_1 j) ?_))))
      exact tx_rt109 hb k m (j + 1) (by omega) hab
    · refine br_t (by rw [nI_add]; exact nI_le g (by omega)) ?_
      have e : (8 : Nat) = j + (m + 1) := by omega
      rw [e, tf_na_e g] at k
      exact k
theorem tx_rt87 {post : Int32 → SX → Prop} {a b : Nat} (hb : b ≤ 128) (hab : a ≤ b) (kt : a < b → post 1 (k1, k2, k3, k4, k5, k6, k7, k8, k9, (nI md), (nI mr), (nI mu), (nI mf), (nI ll), (nI b), (nI a), (nI b), (tf_na li a b 8), (nI d), (nI r), (nI w), en, (nI n), op, co, onm, (nI os), (nI cd), (nI hc), (nI oh), (nI od), cu, (nI fu), ip, ie, pe, ab, re, li, da, rk, ra, rb, rc, nm, kd, ls, im, sr, st, we, ad, wo, tk, gv, io, ia, ck, ci, ce, ou, ox)) (kf : b ≤ a → post 0 (k1, k2, k3, k4, k5, k6, k7, k8, k9, (nI md), (nI mr), (nI mu), (nI mf), (nI ll), (nI b), (nI a), (nI b), (tf_na li a b 8), (nI d), (nI r), (nI w), en, (nI n), op, co, onm, (nI os), (nI cd), (nI hc), (nI oh), (nI od), cu, (nI fu), ip, ie, pe, ab, re, li, da, rk, ra, rb, rc, nm, kd, ls, im, sr, st, we, ad, wo, tk, gv, io, ia, ck, ci, ce, ou, ox)) : wX_readToken_87 post (nI a) (nI b) k1 k2 k3 k4 k5 k6 k7 k8 k9 (nI md) (nI mr) (nI mu) (nI mf) (nI ll) (nI lp) tS tE tN (nI d) (nI r) (nI w) en (nI n) op co onm (nI os) (nI cd) (nI hc) (nI oh) (nI od) cu (nI fu) ip ie pe ab re li da rk ra rb rc nm kd ls im sr st we ad wo tk gv io ia ck ci ce ou ox := by
  refine Exists.intro 9 (tx_rt109 hb ?_ 8 0 (by omega) hab)
  exact pk_le b a kf kt
theorem tx_rt52 {post : Int32 → SX → Prop} {a b : Nat} (hll : ll ≤ 128) (hb : b ≤ ll) (k : wX_readToken_87 post (nI a) (nI b) k1 k2 k3 k4 k5 k6 k7 k8 k9 (nI md) (nI mr) (nI mu) (nI mf) (nI ll) (nI lp) tS tE tN (nI d) (nI r) (nI w) en (nI n) op co onm (nI os) (nI cd) (nI hc) (nI oh) (nI od) cu (nI fu) ip ie pe ab re li da rk ra rb rc nm kd ls im sr st we ad wo tk gv io ia ck ci ce ou ox) (h32 : b < ll → li b = 32) : ∀ m i, i + m = ll → a ≤ i → i ≤ b → (∀ t, i ≤ t → t < b → li t ≠ 32) → wX_readToken_52 post (nI a) k1 k2 k3 k4 k5 k6 k7 k8 k9 (nI md) (nI mr) (nI mu) (nI mf) (nI ll) (nI lp) tS tE tN (nI d) (nI r) (nI w) en (nI n) op co onm (nI os) (nI cd) (nI hc) (nI oh) (nI od) cu (nI fu) ip ie pe ab re li da rk ra rb rc nm kd ls im sr st we ad wo tk gv io ia ck ci ce ou ox (m + 2) (nI ll) (nI i)
  | 0, i, h, h1, h2, h3 => by
    have e : b = ll := by omega
    subst e
    exact br_t (nI_le (by omega) (by omega)) k
  | m + 1, i, h, h1, h2, h3 => by
    refine br_f (nI_ge (by omega) (by omega)) (br_t rfl (And.intro (vp_in_nI (by omega) (by omega)) ?_))
    rcases Nat.lt_or_ge i b with g | g
    · exact br_f (by rw [nI_clamp (show i < 2 ^ 31 by omega)]; exact h3 i (Nat.le_refl _) g) (nm_r (nI_1 i) (tx_rt52 hll hb k h32 m (i + 1) (by omega) (by omega) (by omega) (fun t a b => h3 t (by omega) b)))
    · have e : i = b := by omega
      subst e
      refine br_t (by rw [nI_clamp (show i < 2 ^ 31 by omega)]; exact h32 (by omega)) (nm_r (nI_1 i) ?_)
      rcases Nat.lt_or_ge (i + 1) ll with g2 | g2
      · exact br_f (nI_ge g2 (by omega)) (br_f (fun z => by have := (nI_eq (by omega) (by omega)).mp z; omega) k)
      · exact br_t (nI_le g2 (by omega)) k
theorem tx_rt10 {post : Int32 → SX → Prop} {a : Nat} (hll : ll ≤ 128) (ha : a ≤ ll) (k : ∃ n52, wX_readToken_52 post (nI a) k1 k2 k3 k4 k5 k6 k7 k8 k9 (nI md) (nI mr) (nI mu) (nI mf) (nI ll) (nI lp) tS tE tN (nI d) (nI r) (nI w) en (nI n) op co onm (nI os) (nI cd) (nI hc) (nI oh) (nI od) cu (nI fu) ip ie pe ab re li da rk ra rb rc nm kd ls im sr st we ad wo tk gv io ia ck ci ce ou ox n52 (nI ll) (nI a)) (h32 : a < ll → li a ≠ 32) : ∀ m i, i + m = ll → i ≤ a → (∀ t, i ≤ t → t < a → li t = 32) → wX_readToken_10 post k1 k2 k3 k4 k5 k6 k7 k8 k9 (nI md) (nI mr) (nI mu) (nI mf) (nI ll) (nI lp) tS tE tN (nI d) (nI r) (nI w) en (nI n) op co onm (nI os) (nI cd) (nI hc) (nI oh) (nI od) cu (nI fu) ip ie pe ab re li da rk ra rb rc nm kd ls im sr st we ad wo tk gv io ia ck ci ce ou ox (m + 2) (nI ll) (nI i)
  | 0, i, h, h2, h3 => by
    have e : a = ll := by omega
    subst e
    exact br_t (nI_le (by omega) (by omega)) k
  | m + 1, i, h, h2, h3 => by
    refine br_f (nI_ge (by omega) (by omega)) (br_t rfl (And.intro (vp_in_nI (by omega) (by omega)) ?_))
    rcases Nat.lt_or_ge i a with g | g
    · exact br_t (by rw [nI_clamp (show i < 2 ^ 31 by omega)]; exact h3 i (Nat.le_refl _) g) (nm_r (nI_1 i) (tx_rt10 hll ha k h32 m (i + 1) (by omega) (by omega) (fun t a b => h3 t (by omega) b)))
    · have e : i = a := by omega
      subst e
      refine br_f (by rw [nI_clamp (show i < 2 ^ 31 by omega)]; exact h32 (by omega)) (nm_r (nI_1 i) ?_)
      rcases Nat.lt_or_ge (i + 1) ll with g2 | g2
      · exact br_f (nI_ge g2 (by omega)) (br_f (fun z => by have := (nI_eq (by omega) (by omega)).mp z; omega) k)
      · exact br_t (nI_le g2 (by omega)) k
theorem tx_rt {post : Int32 → SX → Prop} {a b : Nat} (hll : ll ≤ 128) (hlp : lp ≤ ll) (T : tf_Tok li ll lp a b) (kt : a < b → post 1 (k1, k2, k3, k4, k5, k6, k7, k8, k9, (nI md), (nI mr), (nI mu), (nI mf), (nI ll), (nI b), (nI a), (nI b), (tf_na li a b 8), (nI d), (nI r), (nI w), en, (nI n), op, co, onm, (nI os), (nI cd), (nI hc), (nI oh), (nI od), cu, (nI fu), ip, ie, pe, ab, re, li, da, rk, ra, rb, rc, nm, kd, ls, im, sr, st, we, ad, wo, tk, gv, io, ia, ck, ci, ce, ou, ox)) (kf : b ≤ a → post 0 (k1, k2, k3, k4, k5, k6, k7, k8, k9, (nI md), (nI mr), (nI mu), (nI mf), (nI ll), (nI b), (nI a), (nI b), (tf_na li a b 8), (nI d), (nI r), (nI w), en, (nI n), op, co, onm, (nI os), (nI cd), (nI hc), (nI oh), (nI od), cu, (nI fu), ip, ie, pe, ab, re, li, da, rk, ra, rb, rc, nm, kd, ls, im, sr, st, we, ad, wo, tk, gv, io, ia, ck, ci, ce, ou, ox)) : wpX_readToken post (k1, k2, k3, k4, k5, k6, k7, k8, k9, (nI md), (nI mr), (nI mu), (nI mf), (nI ll), (nI lp), tS, tE, tN, (nI d), (nI r), (nI w), en, (nI n), op, co, onm, (nI os), (nI cd), (nI hc), (nI oh), (nI od), cu, (nI fu), ip, ie, pe, ab, re, li, da, rk, ra, rb, rc, nm, kd, ls, im, sr, st, we, ad, wo, tk, gv, io, ia, ck, ci, ce, ou, ox) := by
  obtain ⟨t1, t2, t3, t4, t5, t6, t7⟩ := T
  refine Exists.intro _ (tx_rt10 hll (by omega) (Exists.intro _ (tx_rt52 (b := b) hll t3 (tx_rt87 (by omega) t2 kt kf) t7 (ll - a) a (by omega) (Nat.le_refl _) t2 t6)) (fun z => (t5 z).1) (ll - lp) lp (by omega) t1 t4)
theorem ty_rt46 {post : Int32 → SY → Prop} {b : Nat} (hll : ll ≤ 128) (hb : b ≤ ll) (k : wY_readToken_84 post (nI md) (nI mr) (nI mu) (nI mf) (nI ll) (nI b) sv (nI d) (nI r) (nI w) en (nI n) (nI hc) (nI od) cu oy onm (nI cd) (nI oh) (nI fu) pe re ab li da yk ya yb nm kd ls im sr ad oo ol ao ap ik iv ow ce oz ck ou) (h32 : b < ll → li b = 32) : ∀ m i, i + m = ll → i ≤ b → (∀ t, i ≤ t → t < b → li t ≠ 32) → wY_readToken_46 post (nI md) (nI mr) (nI mu) (nI mf) (nI ll) sv (nI d) (nI r) (nI w) en (nI n) (nI hc) (nI od) cu oy onm (nI cd) (nI oh) (nI fu) pe re ab li da yk ya yb nm kd ls im sr ad oo ol ao ap ik iv ow ce oz ck ou (m + 1) (nI i)
  | 0, i, h, h2, h3 => by
    have e : b = i := by omega
    subst e
    exact br_t (nI_le (by omega) (by omega)) k
  | m + 1, i, h, h2, h3 => by
    refine br_f (nI_ge (by omega) (by omega)) (And.intro (vp_in_nI (by omega) (by omega)) ?_)
    rcases Nat.lt_or_ge i b with g | g
    · exact br_f (by rw [nI_clamp (show i < 2 ^ 31 by omega)]; exact h3 i (Nat.le_refl _) g) (nm_r (nI_1 i) (ty_rt46 hll hb k h32 m (i + 1) (by omega) (by omega) (fun t a b => h3 t (by omega) b)))
    · have e : i = b := by omega
      subst e
      exact br_t (by rw [nI_clamp (show i < 2 ^ 31 by omega)]; exact h32 (by omega)) k
theorem ty_rt0 {post : Int32 → SY → Prop} {a : Nat} (hll : ll ≤ 128) (ha : a ≤ ll) (k : ∃ n46, wY_readToken_46 post (nI md) (nI mr) (nI mu) (nI mf) (nI ll) (nI a) (nI d) (nI r) (nI w) en (nI n) (nI hc) (nI od) cu oy onm (nI cd) (nI oh) (nI fu) pe re ab li da yk ya yb nm kd ls im sr ad oo ol ao ap ik iv ow ce oz ck ou n46 (nI a)) (h32 : a < ll → li a ≠ 32) : ∀ m i, i + m = ll → i ≤ a → (∀ t, i ≤ t → t < a → li t = 32) → wY_readToken_0 post (nI md) (nI mr) (nI mu) (nI mf) (nI ll) sv (nI d) (nI r) (nI w) en (nI n) (nI hc) (nI od) cu oy onm (nI cd) (nI oh) (nI fu) pe re ab li da yk ya yb nm kd ls im sr ad oo ol ao ap ik iv ow ce oz ck ou (m + 1) (nI i)
  | 0, i, h, h2, h3 => by
    have e : a = i := by omega
    subst e
    exact br_t (nI_le (by omega) (by omega)) k
  | m + 1, i, h, h2, h3 => by
    refine br_f (nI_ge (by omega) (by omega)) (And.intro (vp_in_nI (by omega) (by omega)) ?_)
    rcases Nat.lt_or_ge i a with g | g
    · exact br_t (by rw [nI_clamp (show i < 2 ^ 31 by omega)]; exact h3 i (Nat.le_refl _) g) (nm_r (nI_1 i) (ty_rt0 hll ha k h32 m (i + 1) (by omega) (by omega) (fun t a b => h3 t (by omega) b)))
    · have e : i = a := by omega
      subst e
      exact br_f (by rw [nI_clamp (show i < 2 ^ 31 by omega)]; exact h32 (by omega)) k
theorem ty_rt {post : Int32 → SY → Prop} {a b : Nat} (hll : ll ≤ 128) (hlp : lp ≤ ll) (T : tf_Tok li ll lp a b) (kt : a < b → post 1 ((nI md), (nI mr), (nI mu), (nI mf), (nI ll), (nI b), (nI a), (nI d), (nI r), (nI w), en, (nI n), (nI hc), (nI od), cu, oy, onm, (nI cd), (nI oh), (nI fu), pe, re, ab, li, da, yk, ya, yb, nm, kd, ls, im, sr, ad, oo, ol, ao, ap, ik, iv, ow, ce, oz, ck, ou)) (kf : b ≤ a → post 0 ((nI md), (nI mr), (nI mu), (nI mf), (nI ll), (nI b), (nI a), (nI d), (nI r), (nI w), en, (nI n), (nI hc), (nI od), cu, oy, onm, (nI cd), (nI oh), (nI fu), pe, re, ab, li, da, yk, ya, yb, nm, kd, ls, im, sr, ad, oo, ol, ao, ap, ik, iv, ow, ce, oz, ck, ou)) : wpY_readToken post ((nI md), (nI mr), (nI mu), (nI mf), (nI ll), (nI lp), sv, (nI d), (nI r), (nI w), en, (nI n), (nI hc), (nI od), cu, oy, onm, (nI cd), (nI oh), (nI fu), pe, re, ab, li, da, yk, ya, yb, nm, kd, ls, im, sr, ad, oo, ol, ao, ap, ik, iv, ow, ce, oz, ck, ou) := by
  obtain ⟨t1, t2, t3, t4, t5, t6, t7⟩ := T
  refine Exists.intro _ (ty_rt0 hll (by omega) (Exists.intro _ (ty_rt46 (sv := nI a) hll t3 (pk_le b a kf kt) t7 (ll - a) a (by omega) t2 t6)) (fun z => (t5 z).1) (ll - lp) lp (by omega) t1 t4)
end
/-! the search -/
def tf_fi (ls : Nat → Int32) (nm : Nat → Int64) (y : Int32) (x : Int64) : Nat → Option Nat
  | 0 => none
  | m + 1 => if ls m = y ∧ nm m = x then some m else tf_fi ls nm y x m
def tf_fo (ls : Nat → Int32) (nm : Nat → Int64) (w : Nat) (oz : Nat → Int32) (x : Int64) : Nat → Option Nat
  | 0 => none
  | o + 1 => match tf_fi ls nm (oz o) x w with
    | some k => some k
    | none => tf_fo ls nm w oz x o
def tf_rs : Option Nat → Int32
  | some k => nI k
  | none => -1
theorem tf_fi_lt {ls : Nat → Int32} {nm : Nat → Int64} {y : Int32} {x : Int64} {k : Nat} : ∀ {m : Nat}, tf_fi ls nm y x m = some k → k < m
  | 0, h => absurd h (by simp [tf_fi])
  | m + 1, h => by
    unfold tf_fi at h
    by_cases z : ls m = y ∧ nm m = x
    · rw [if_pos z] at h
      have := Option.some.inj h
      omega
    · rw [if_neg z] at h
      have := tf_fi_lt h
      omega
theorem tf_fo_lt {ls : Nat → Int32} {nm : Nat → Int64} {w : Nat} {oz : Nat → Int32} {x : Int64} {k : Nat} : ∀ {o : Nat}, tf_fo ls nm w oz x o = some k → k < w
  | 0, h => absurd h (by simp [tf_fo])
  | o + 1, h => by
    unfold tf_fo at h
    cases e : tf_fi ls nm (oz o) x w with
    | some j =>
      rw [e] at h
      have := Option.some.inj h
      have := tf_fi_lt e
      omega
    | none =>
      rw [e] at h
      exact tf_fo_lt h
section
variable {md mr mu mf ll lp d r w n os cd hc oh od fu : Nat} {k1 k2 k3 k4 k5 k6 k7 k8 k9 tS tE en op co cu ip ie pe ab re oy sv : Int32} {tN onm : Int64} {li da rk ra rb rc kd ls im sr st we ad wo tk gv io ia ck ci ce ou ox yk ya yb oo ol ao ap ik iv ow oz : Nat → Int32} {nm : Nat → Int64} {lo : Nat}
theorem tx_f19 {post : Int32 → Prop} {J : Int32 → Prop} {x : Int64} {o : Nat} (ho : o < 4) (he : ox o = oz o) (kt : ∀ k, tf_fi ls nm (oz o) x w = some k → post (nI k)) (kf : tf_fi ls nm (oz o) x w = none → J (nI o - 1)) : ∀ m, m ≤ 75 → tf_fi ls nm (oz o) x w = tf_fi ls nm (oz o) x m → wX_find_19 post J x (nI o) k1 k2 k3 k4 k5 k6 k7 k8 k9 (nI md) (nI mr) (nI mu) (nI mf) (nI ll) (nI lp) tS tE tN (nI d) (nI r) (nI w) en (nI n) op co onm (nI os) (nI cd) (nI hc) (nI oh) (nI od) cu (nI fu) ip ie pe ab re li da rk ra rb rc nm kd ls im sr st we ad wo tk gv io ia ck ci ce ou ox (m + 1) (nI m - 1)
  | 0, _, h => by
    rw [tf_m0]
    exact br_t tf_neg1 (nm_r (tf_am _) (kf h))
  | m + 1, hm, h => by
    rw [nI_pred]
    have hi : vp_in (nI m) 75 := vp_in_nI (by omega) (by omega)
    refine br_f (nI_pos (by omega)) (And.intro hi (And.intro (vp_in_nI ho (by omega)) ?_))
    rw [nI_clamp (show m < 2 ^ 31 by omega), nI_clamp (show o < 2 ^ 31 by omega), he]
    by_cases z : ls m = oz o
    · by_cases z2 : nm m = x
      · refine br_t z (And.intro hi (br_t z2 (kt m ?_)))
        rw [h]
        exact if_pos ⟨z, z2⟩
      · refine br_t z (And.intro hi (br_f z2 (nm_r (tf_am _) (tx_f19 ho he kt kf m (by omega) ?_))))
        rw [h]
        exact if_neg (fun y => z2 y.2)
    · refine br_f z (nm_r (tf_am _) (tx_f19 ho he kt kf m (by omega) ?_))
      rw [h]
      exact if_neg (fun y => z y.1)
theorem tx_f7 {post : Int32 → Prop} {x : Int64} (hw : w ≤ 75) (he : ∀ i, i < od → ox i = oz i) (k : post (tf_rs (tf_fo ls nm w oz x od))) : ∀ m, m ≤ 4 → m ≤ od → tf_fo ls nm w oz x od = tf_fo ls nm w oz x m → wX_find_7 post x k1 k2 k3 k4 k5 k6 k7 k8 k9 (nI md) (nI mr) (nI mu) (nI mf) (nI ll) (nI lp) tS tE tN (nI d) (nI r) (nI w) en (nI n) op co onm (nI os) (nI cd) (nI hc) (nI oh) (nI od) cu (nI fu) ip ie pe ab re li da rk ra rb rc nm kd ls im sr st we ad wo tk gv io ia ck ci ce ou ox (m + 1) (nI m - 1)
  | 0, _, _, h => by
    rw [tf_m0]
    refine br_t tf_neg1 ?_
    rw [h] at k
    exact k
  | m + 1, hm, hm2, h => by
    rw [nI_pred]
    refine br_f (nI_pos (by omega)) (nm_e (Exists.intro (w + 1) (tx_f19 (by omega) (he m (by omega)) (fun j e => ?_) (fun e => ?_) w hw rfl)))
    · have e2 : tf_fo ls nm w oz x (m + 1) = some j := by
        unfold tf_fo
        rw [e]
      rw [h, e2] at k
      exact k
    · refine tx_f7 hw he k m (by omega) (by omega) ?_
      rw [h]
      show (match tf_fi ls nm (oz m) x w with | some k => some k | none => tf_fo ls nm w oz x m) = _
      rw [e]
theorem tx_find {post : Int32 → Prop} {x : Int64} (hw : w ≤ 75) (ho : od ≤ 4) (he : ∀ i, i < od → ox i = oz i) (k : post (tf_rs (tf_fo ls nm w oz x od))) : wpX_find post (k1, k2, k3, k4, k5, k6, k7, k8, k9, (nI md), (nI mr), (nI mu), (nI mf), (nI ll), (nI lp), tS, tE, tN, (nI d), (nI r), (nI w), en, (nI n), op, co, onm, (nI os), (nI cd), (nI hc), (nI oh), (nI od), cu, (nI fu), ip, ie, pe, ab, re, li, da, rk, ra, rb, rc, nm, kd, ls, im, sr, st, we, ad, wo, tk, gv, io, ia, ck, ci, ce, ou, ox) x :=
  nm_e (Exists.intro (od + 1) (tx_f7 hw he k od ho (Nat.le_refl _) rfl))
theorem ty_f68 {post : Int32 → Prop} {J : Int32 → Prop} {x : Int64} {o : Nat} (ho : o < 4) (kt : ∀ k, tf_fi ls nm (oz o) x w = some k → post (nI k)) (kf : tf_fi ls nm (oz o) x w = none → J (nI o - 1)) : ∀ m, m ≤ 75 → tf_fi ls nm (oz o) x w = tf_fi ls nm (oz o) x m → wY_find_68 post J x (nI o) (nI md) (nI mr) (nI mu) (nI mf) (nI ll) (nI lp) sv (nI d) (nI r) (nI w) en (nI n) (nI hc) (nI od) cu oy onm (nI cd) (nI oh) (nI fu) pe re ab li da yk ya yb nm kd ls im sr ad oo ol ao ap ik iv ow ce oz ck ou (m + 1) (nI m - 1)
  | 0, _, h => by
    rw [tf_m0]
    exact br_t tf_neg1 (nm_r (tf_am _) (kf h))
  | m + 1, hm, h => by
    rw [nI_pred]
    have hi : vp_in (nI m) 75 := vp_in_nI (by omega) (by omega)
    refine br_f (nI_pos (by omega)) (And.intro hi (And.intro (vp_in_nI ho (by omega)) ?_))
    rw [nI_clamp (show m < 2 ^ 31 by omega), nI_clamp (show o < 2 ^ 31 by omega)]
    by_cases z : ls m = oz o
    · by_cases z2 : nm m = x
      · refine br_t z (And.intro hi (br_t z2 (kt m ?_)))
        rw [h]
        exact if_pos ⟨z, z2⟩
      · refine br_t z (And.intro hi (br_f z2 (nm_r (tf_am _) (ty_f68 ho kt kf m (by omega) ?_))))
        rw [h]
        exact if_neg (fun y => z2 y.2)
    · refine br_f z (nm_r (tf_am _) (ty_f68 ho kt kf m (by omega) ?_))
      rw [h]
      exact if_neg (fun y => z y.1)
theorem ty_f56 {post : Int32 → Prop} {x : Int64} (hw : w ≤ 75) (k : post (tf_rs (tf_fo ls nm w oz x od))) : ∀ m, m ≤ 4 → m ≤ od → tf_fo ls nm w oz x od = tf_fo ls nm w oz x m → wY_find_56 post x (nI md) (nI mr) (nI mu) (nI mf) (nI ll) (nI lp) sv (nI d) (nI r) (nI w) en (nI n) (nI hc) (nI od) cu oy onm (nI cd) (nI oh) (nI fu) pe re ab li da yk ya yb nm kd ls im sr ad oo ol ao ap ik iv ow ce oz ck ou (m + 1) (nI m - 1)
  | 0, _, _, h => by
    rw [tf_m0]
    refine br_t tf_neg1 ?_
    rw [h] at k
    exact k
  | m + 1, hm, hm2, h => by
    rw [nI_pred]
    refine br_f (nI_pos (by omega)) (nm_e (Exists.intro (w + 1) (ty_f68 (by omega) (fun j e => ?_) (fun e => ?_) w hw rfl)))
    · have e2 : tf_fo ls nm w oz x (m + 1) = some j := by
        unfold tf_fo
        rw [e]
      rw [h, e2] at k
      exact k
    · refine ty_f56 hw k m (by omega) (by omega) ?_
      rw [h]
      show (match tf_fi ls nm (oz m) x w with | some k => some k | none => tf_fo ls nm w oz x m) = _
      rw [e]
theorem ty_f4 {post : Int32 → Prop} {a b : Nat} (hb : b ≤ 128) (hab : a ≤ b) (hw : w ≤ 75) (ho : od ≤ 4) (k : post (tf_rs (tf_fo ls nm w oz (tf_na li a b 8) od))) : ∀ m j, j + m = 8 → wY_find_4 post (nI md) (nI mr) (nI mu) (nI mf) (nI ll) (nI b) (nI a) (nI d) (nI r) (nI w) en (nI n) (nI hc) (nI od) cu oy onm (nI cd) (nI oh) (nI fu) pe re ab li da yk ya yb nm kd ls im sr ad oo ol ao ap ik iv ow ce oz ck ou (m + 1) (tf_na li a b j) (nI j)
  | 0, j, h => by
    have e : j = 8 := by omega
    subst e
    exact br_t (by decide) (nm_e (Exists.intro (od + 1) (ty_f56 hw k od ho (Nat.le_refl _) rfl)))
  | m + 1, j, h => by
    refine br_f (nI_ge (a := j) (b := 8) (by omega) (by decide)) ?_
    rcases Nat.lt_or_ge (a + j) b with g | g
    · have e1 : nI a + nI j = nI (a + j) := nI_add a j
      refine br_f (by rw [e1]; exact nI_ge g (by omega)) (And.intro (by rw [e1]; exact vp_in_nI (by omega) (by omega)) (nm_r (e' := tf_na li a b (j + 1)) (by rw [e1, nI_clamp (by omega), tf_na_s g]) (nm_r (nI_1 j) ?_)))
      exact ty_f4 hb hab hw ho k m (j + 1) (by omega)
    · refine br_t (by rw [nI_add]; exact nI_le g (by omega)) (nm_e (Exists.intro (od + 1) (ty_f56 (x := tf_na li a b j) hw ?_ od ho (Nat.le_refl _) rfl)))
      have e : (8 : Nat) = j + (m + 1) := by omega
      rw [e, tf_na_e g] at k
      exact k
theorem ty_find {post : Int32 → Prop} {a b : Nat} (hb : b ≤ 128) (hab : a ≤ b) (hw : w ≤ 75) (ho : od ≤ 4) (k : post (tf_rs (tf_fo ls nm w oz (tf_na li a b 8) od))) : wpY_find post ((nI md), (nI mr), (nI mu), (nI mf), (nI ll), (nI b), (nI a), (nI d), (nI r), (nI w), en, (nI n), (nI hc), (nI od), cu, oy, onm, (nI cd), (nI oh), (nI fu), pe, re, ab, li, da, yk, ya, yb, nm, kd, ls, im, sr, ad, oo, ol, ao, ap, ik, iv, ow, ce, oz, ck, ou) :=
  Exists.intro 9 (ty_f4 hb hab hw ho k 8 0 (by omega))
end
end
section
/-! the way into a built-in word, in both -/
def tf_e (r : Nat) (yk : Nat → Int32) : Int32 := if r = 0 then 0 else yk (r - 1)
def tf_va (m : Nat) (y va : Int32) : Prop := (va = 1 ∧ ∃ c : Nat, c < m ∧ y = nI c) ∨ (va = 0 ∧ (y < 0 ∨ (¬ y < 0 ∧ nI m ≤ y)))
theorem tf_va_ex {m : Nat} (hm : m < 2 ^ 31) (y : Int32) : ∃ va, tf_va m y va := by
  by_cases h : y < 0
  · exact ⟨0, Or.inr ⟨rfl, Or.inl h⟩⟩
  · by_cases h2 : nI m ≤ y
    · exact ⟨0, Or.inr ⟨rfl, Or.inr ⟨h, h2⟩⟩⟩
    · obtain ⟨c, hc, e⟩ := nI_of h
      subst e
      rw [nI_leI hm hc] at h2
      exact ⟨1, Or.inl ⟨rfl, c, by omega, rfl⟩⟩
section
variable {md mr mu mf ll lp d r w n os cd hc oh od fu : Nat} {k1 k2 k3 k4 k5 k6 k7 k8 k9 tS tE en op co cu ip ie pe ab re oy sv : Int32} {tN onm : Int64} {li da rk ra rb rc kd ls im sr st we ad wo tk gv io ia ck ci ce ou ox yk ya yb oo ol ao ap ik iv ow oz : Nat → Int32} {nm : Nat → Int64} {lo : Nat}
theorem tx_bi {post : SX → Prop} {k t g : Nat} (hk : k < 51) (e1 : tk k = nI t) (e2 : gv k = nI g) (ht : t ≤ 2) (hd : d + t ≤ 32) (hg : d + g ≤ md) (hmd : md ≤ 32) (h : wX_executeBuiltin_89 post (nI k) (nI t) (if t = 0 then 0 else da (d + t - 1)) (if t ≤ 1 then 0 else da (d + t - 2)) k1 k2 k3 k4 k5 k6 k7 k8 k9 (nI md) (nI mr) (nI mu) (nI mf) (nI ll) (nI lp) tS tE tN (nI (d + t)) (nI r) (nI w) en (nI n) op co onm (nI os) (nI cd) (nI hc) (nI oh) (nI od) cu (nI fu) ip ie pe ab re li da rk ra rb rc nm kd ls im sr st we ad wo tk gv io ia ck ci ce ou ox) : wpX_executeBuiltin post (k1, k2, k3, k4, k5, k6, k7, k8, k9, (nI md), (nI mr), (nI mu), (nI mf), (nI ll), (nI lp), tS, tE, tN, (nI (d + t)), (nI r), (nI w), en, (nI n), op, co, onm, (nI os), (nI cd), (nI hc), (nI oh), (nI od), cu, (nI fu), ip, ie, pe, ab, re, li, da, rk, ra, rb, rc, nm, kd, ls, im, sr, st, we, ad, wo, tk, gv, io, ia, ck, ci, ce, ou, ox) (nI k) := by
  have hi : vp_in (nI k) 51 := vp_in_nI hk (by omega)
  refine And.intro hi (nm_r ((tf_rc (by omega)).trans e1) ?_)
  refine br_t (nI_le (by omega) (by omega)) (And.intro hi ?_)
  refine br_t (by rw [pk_sub (show t ≤ d + t by omega), nI_clamp (show k < 2 ^ 31 by omega), e2, nI_add]; exact nI_le (by omega) (by omega)) ?_
  have ht' : t = 0 ∨ t = 1 ∨ t = 2 := by omega
  rcases ht' with e | e | e
  · subst e
    exact br_t (by decide) (br_t (by decide) h)
  · subst e
    refine br_f (by decide) ?_
    have e3 : nI (d + 1) - 1 = nI d := nI_pred d
    rw [e3, nI_clamp (show d < 2 ^ 31 by omega)]
    exact And.intro (vp_in_nI (by omega) (by omega)) (br_t (by decide) h)
  · subst e
    refine br_f (by decide) ?_
    have e3 : nI (d + 2) - 1 = nI (d + 1) := nI_pred (d + 1)
    have e4 : nI (d + 2) - 2 = nI d := pk_sub (a := d + 2) (b := 2) (by omega)
    rw [e3, nI_clamp (show d + 1 < 2 ^ 31 by omega)]
    refine And.intro (vp_in_nI (by omega) (by omega)) (br_f (by decide) ?_)
    rw [e4, nI_clamp (show d < 2 ^ 31 by omega)]
    exact And.intro (vp_in_nI (by omega) (by omega)) h
theorem tx_bi_u {post : SX → Prop} {k t : Nat} {u' : SX} (hk : k < 51) (e1 : tk k = nI t) (ht : t ≤ 2) (hd : d < t) (hx : ∀ post : SX → Prop, post u' → wpX_raise post (k1, k2, k3, k4, k5, k6, k7, k8, k9, (nI md), (nI mr), (nI mu), (nI mf), (nI ll), (nI lp), tS, tE, tN, (nI d), (nI r), (nI w), en, (nI n), op, co, onm, (nI os), (nI cd), (nI hc), (nI oh), (nI od), cu, (nI fu), ip, ie, pe, ab, re, li, da, rk, ra, rb, rc, nm, kd, ls, im, sr, st, we, ad, wo, tk, gv, io, ia, ck, ci, ce, ou, ox) (-4)) (hp : post u') : wpX_executeBuiltin post (k1, k2, k3, k4, k5, k6, k7, k8, k9, (nI md), (nI mr), (nI mu), (nI mf), (nI ll), (nI lp), tS, tE, tN, (nI d), (nI r), (nI w), en, (nI n), op, co, onm, (nI os), (nI cd), (nI hc), (nI oh), (nI od), cu, (nI fu), ip, ie, pe, ab, re, li, da, rk, ra, rb, rc, nm, kd, ls, im, sr, st, we, ad, wo, tk, gv, io, ia, ck, ci, ce, ou, ox) (nI k) :=
  And.intro (vp_in_nI hk (by omega)) (nm_r ((tf_rc (by omega)).trans e1) (br_f (nI_ge hd (by omega)) (hx _ hp)))
theorem tx_bi_o {post : SX → Prop} {k t g : Nat} {u' : SX} (hk : k < 51) (e1 : tk k = nI t) (e2 : gv k = nI g) (ht : t ≤ 2) (hg' : g ≤ 3) (hd : t ≤ d) (hd2 : d ≤ 32) (hg : md < d - t + g) (hx : ∀ post : SX → Prop, post u' → wpX_raise post (k1, k2, k3, k4, k5, k6, k7, k8, k9, (nI md), (nI mr), (nI mu), (nI mf), (nI ll), (nI lp), tS, tE, tN, (nI d), (nI r), (nI w), en, (nI n), op, co, onm, (nI os), (nI cd), (nI hc), (nI oh), (nI od), cu, (nI fu), ip, ie, pe, ab, re, li, da, rk, ra, rb, rc, nm, kd, ls, im, sr, st, we, ad, wo, tk, gv, io, ia, ck, ci, ce, ou, ox) (-3)) (hp : post u') : wpX_executeBuiltin post (k1, k2, k3, k4, k5, k6, k7, k8, k9, (nI md), (nI mr), (nI mu), (nI mf), (nI ll), (nI lp), tS, tE, tN, (nI d), (nI r), (nI w), en, (nI n), op, co, onm, (nI os), (nI cd), (nI hc), (nI oh), (nI od), cu, (nI fu), ip, ie, pe, ab, re, li, da, rk, ra, rb, rc, nm, kd, ls, im, sr, st, we, ad, wo, tk, gv, io, ia, ck, ci, ce, ou, ox) (nI k) :=
  have hi : vp_in (nI k) 51 := vp_in_nI hk (by omega)
  And.intro hi (nm_r ((tf_rc (by omega)).trans e1) (br_t (nI_le hd (by omega)) (And.intro hi (br_f (by rw [pk_sub hd, nI_clamp (show k < 2 ^ 31 by omega), e2, nI_add]; exact nI_ge hg (by omega)) (hx _ hp)))))
theorem ty_bi {post : SY → Prop} {x y : Int32} {k : Nat} (hr : r ≤ 32) (hw : w ≤ 75) (hh : hc ≤ 64) (h : ∀ e va ib, e = tf_e r yk → tf_va w y va → tf_va hc y ib → wY_builtin_306 post (nI k) y x e va ib (nI md) (nI mr) (nI mu) (nI mf) (nI ll) (nI lp) sv (nI d) (nI r) (nI w) en (nI n) (nI hc) (nI od) cu oy onm (nI cd) (nI oh) (nI fu) pe re ab li da yk ya yb nm kd ls im sr ad oo ol ao ap ik iv ow ce oz ck ou) : ∀ e, e = tf_e r yk → wY_builtin_264 post (nI k) y x e (nI md) (nI mr) (nI mu) (nI mf) (nI ll) (nI lp) sv (nI d) (nI r) (nI w) en (nI n) (nI hc) (nI od) cu oy onm (nI cd) (nI oh) (nI fu) pe re ab li da yk ya yb nm kd ls im sr ad oo ol ao ap ik iv ow ce oz ck ou := by
  intro e he
  have step2 : ∀ va, tf_va w y va → wY_builtin_285 post (nI k) y x e va (nI md) (nI mr) (nI mu) (nI mf) (nI ll) (nI lp) sv (nI d) (nI r) (nI w) en (nI n) (nI hc) (nI od) cu oy onm (nI cd) (nI oh) (nI fu) pe re ab li da yk ya yb nm kd ls im sr ad oo ol ao ap ik iv ow ce oz ck ou := by
    intro va hva
    by_cases g : y < 0
    · exact br_t g (h e va 0 he hva (Or.inr ⟨rfl, Or.inl g⟩))
    · refine br_f g ?_
      by_cases g2 : nI hc ≤ y
      · exact br_t g2 (h e va 0 he hva (Or.inr ⟨rfl, Or.inr ⟨g, g2⟩⟩))
      · refine br_f g2 (h e va 1 he hva ?_)
        obtain ⟨c, hc', e'⟩ := nI_of g
        subst e'
        rw [nI_leI (by omega) hc'] at g2
        exact Or.inl ⟨rfl, c, by omega, rfl⟩
  by_cases g : y < 0
  · exact br_t g (step2 0 (Or.inr ⟨rfl, Or.inl g⟩))
  · refine br_f g ?_
    by_cases g2 : nI w ≤ y
    · exact br_t g2 (step2 0 (Or.inr ⟨rfl, Or.inr ⟨g, g2⟩⟩))
    · refine br_f g2 (step2 1 ?_)
      obtain ⟨c, hc', e'⟩ := nI_of g
      subst e'
      rw [nI_leI (by omega) hc'] at g2
      exact Or.inl ⟨rfl, c, by omega, rfl⟩
theorem ty_bi229 {post : SY → Prop} {x y : Int32} {k t : Nat} (hr : r ≤ 32) (hw : w ≤ 75) (hh : hc ≤ 64) (h : ∀ e va ib, e = tf_e r yk → tf_va w y va → tf_va hc y ib → wY_builtin_306 post (nI k) y x e va ib (nI md) (nI mr) (nI mu) (nI mf) (nI ll) (nI lp) sv (nI d) (nI r) (nI w) en (nI n) (nI hc) (nI od) cu oy onm (nI cd) (nI oh) (nI fu) pe re ab li da yk ya yb nm kd ls im sr ad oo ol ao ap ik iv ow ce oz ck ou) : wY_builtin_229 post (nI k) (nI t) y x (nI md) (nI mr) (nI mu) (nI mf) (nI ll) (nI lp) sv (nI (d + t)) (nI r) (nI w) en (nI n) (nI hc) (nI od) cu oy onm (nI cd) (nI oh) (nI fu) pe re ab li da yk ya yb nm kd ls im sr ad oo ol ao ap ik iv ow ce oz ck ou := by
  have e0 : nI (d + t) - nI t = nI d := by rw [pk_sub (by omega), Nat.add_sub_cancel]
  refine nm_r e0 ?_
  have K := ty_bi (d := d) hr hw hh h
  rcases Nat.eq_zero_or_pos r with z | z
  · subst z
    exact br_t (by decide) (K 0 rfl)
  · refine br_f (nI_nle z (by omega)) ?_
    have e1 : nI r - 1 = nI (r - 1) := pk_sub (a := r) (b := 1) z
    rw [e1, nI_clamp (show r - 1 < 2 ^ 31 by omega)]
    exact And.intro (vp_in_nI (by omega) (by omega)) (K _ (by unfold tf_e; rw [if_neg (by omega)]))
theorem ty_bi145 {post : SY → Prop} {gr : Int32} {k t g : Nat} (ht : t ≤ 2) (hr : r ≤ 32) (hw : w ≤ 75) (hh : hc ≤ 64) (hd : d + t ≤ 32) (hg : d + g ≤ md) (hgr : (gr = 0 ∧ g ≤ t) ∨ (gr = 1 ∧ g = t + 1)) (hmd : md ≤ 32) (h : ∀ e va ib, e = tf_e r yk → tf_va w (if t = 0 then 0 else da (d + t - 1)) va → tf_va hc (if t = 0 then 0 else da (d + t - 1)) ib → wY_builtin_306 post (nI k) (if t = 0 then 0 else da (d + t - 1)) (if t ≤ 1 then 0 else da (d + t - 2)) e va ib (nI md) (nI mr) (nI mu) (nI mf) (nI ll) (nI lp) sv (nI d) (nI r) (nI w) en (nI n) (nI hc) (nI od) cu oy onm (nI cd) (nI oh) (nI fu) pe re ab li da yk ya yb nm kd ls im sr ad oo ol ao ap ik iv ow ce oz ck ou) : wY_builtin_145 post (nI k) gr (nI t) (nI md) (nI mr) (nI mu) (nI mf) (nI ll) (nI lp) sv (nI (d + t)) (nI r) (nI w) en (nI n) (nI hc) (nI od) cu oy onm (nI cd) (nI oh) (nI fu) pe re ab li da yk ya yb nm kd ls im sr ad oo ol ao ap ik iv ow ce oz ck ou := by
  have K := ty_bi229 (d := d) (t := t) hr hw hh h
  have K2 : wY_builtin_186 post (nI k) (nI t) (nI md) (nI mr) (nI mu) (nI mf) (nI ll) (nI lp) sv (nI (d + t)) (nI r) (nI w) en (nI n) (nI hc) (nI od) cu oy onm (nI cd) (nI oh) (nI fu) pe re ab li da yk ya yb nm kd ls im sr ad oo ol ao ap ik iv ow ce oz ck ou := by
    have ht' : t = 0 ∨ t = 1 ∨ t = 2 := by omega
    rcases ht' with e | e | e
    · subst e
      exact br_t (by decide) (br_t (by decide) K)
    · subst e
      refine br_f (by decide) ?_
      have e3 : nI (d + 1) - 1 = nI d := nI_pred d
      rw [e3, nI_clamp (show d < 2 ^ 31 by omega)]
      exact And.intro (vp_in_nI (by omega) (by omega)) (br_t (by decide) K)
    · subst e
      refine br_f (by decide) ?_
      have e3 : nI (d + 2) - 1 = nI (d + 1) := nI_pred (d + 1)
      have e4 : nI (d + 2) - 2 = nI d := pk_sub (a := d + 2) (b := 2) (by omega)
      rw [e3, nI_clamp (show d + 1 < 2 ^ 31 by omega)]
      refine And.intro (vp_in_nI (by omega) (by omega)) (br_f (by decide) ?_)
      rw [e4, nI_clamp (show d < 2 ^ 31 by omega)]
      exact And.intro (vp_in_nI (by omega) (by omega)) K
  refine br_t (nI_le (by omega) (by omega)) ?_
  rcases hgr with ⟨e, _⟩ | ⟨e, e2⟩
  · subst e
    exact br_t rfl K2
  · subst e
    exact br_f (by decide) (br_t (nI_lt (by omega) (by omega)) K2)
theorem ty_bi_u {post : SY → Prop} {gr : Int32} {k t : Nat} {v' : SY} (ht : t ≤ 2) (hd : d < t) (hx : ∀ post : SY → Prop, post v' → wpY_fail post ((nI md), (nI mr), (nI mu), (nI mf), (nI ll), (nI lp), sv, (nI d), (nI r), (nI w), en, (nI n), (nI hc), (nI od), cu, oy, onm, (nI cd), (nI oh), (nI fu), pe, re, ab, li, da, yk, ya, yb, nm, kd, ls, im, sr, ad, oo, ol, ao, ap, ik, iv, ow, ce, oz, ck, ou) (-4)) (hp : post v') : wY_builtin_145 post (nI k) gr (nI t) (nI md) (nI mr) (nI mu) (nI mf) (nI ll) (nI lp) sv (nI d) (nI r) (nI w) en (nI n) (nI hc) (nI od) cu oy onm (nI cd) (nI oh) (nI fu) pe re ab li da yk ya yb nm kd ls im sr ad oo ol ao ap ik iv ow ce oz ck ou :=
  br_f (nI_ge hd (by omega)) (hx _ hp)
theorem ty_bi_o {post : SY → Prop} {k t : Nat} {v' : SY} (hd : t ≤ d) (hd2 : d ≤ 32) (hm : md ≤ d) (hx : ∀ post : SY → Prop, post v' → wpY_fail post ((nI md), (nI mr), (nI mu), (nI mf), (nI ll), (nI lp), sv, (nI d), (nI r), (nI w), en, (nI n), (nI hc), (nI od), cu, oy, onm, (nI cd), (nI oh), (nI fu), pe, re, ab, li, da, yk, ya, yb, nm, kd, ls, im, sr, ad, oo, ol, ao, ap, ik, iv, ow, ce, oz, ck, ou) (-3)) (hp : post v') : wY_builtin_145 post (nI k) 1 (nI t) (nI md) (nI mr) (nI mu) (nI mf) (nI ll) (nI lp) sv (nI d) (nI r) (nI w) en (nI n) (nI hc) (nI od) cu oy onm (nI cd) (nI oh) (nI fu) pe re ab li da yk ya yb nm kd ls im sr ad oo ol ao ap ik iv ow ce oz ck ou :=
  br_t (nI_le hd (by omega)) (br_f (by decide) (br_f (nI_nlt hm (by omega)) (hx _ hp)))
theorem tf_M_mono {p q : Nat} (h : p ≤ q) {u : SX} {v : SY} (H : tf_M lo p u v) : tf_M lo q u v := by
  rcases H with H | H | H
  · left
    refine tf_MR_el (P := fun u v => tf_MR lo q u v) ?_ H
    intro md mr mu mf ll lp d r w n os cd hc oh od fu k1 k2 k3 k4 k5 k6 k7 k8 k9 tS tE en op co cu ip ie pe ab re oy sv tN onm li da rk ra rb rc kd ls im sr st we ad wo tk gv io ia ck ci ce ou ox yk ya yb oo ol ao ap ik iv ow oz nm F
    obtain ⟨C, h1, h2, t, h3, h4⟩ := F
    exact tf_MR_in ⟨C, h1, h2, t, h3, by omega⟩
  · right; left
    refine tf_MP_el (P := fun u v => tf_MP lo q u v) ?_ H
    intro c t md mr mu mf ll lp d r w n os cd hc oh od fu k1 k2 k3 k4 k5 k6 k7 k8 k9 tS tE en op co cu ip ie pe ab re oy sv tN onm li da rk ra rb rc kd ls im sr st we ad wo tk gv io ia ck ci ce ou ox yk ya yb oo ol ao ap ik iv ow oz nm F h1 h2
    exact tf_MP_in F h1 (by omega)
  · exact Or.inr (Or.inr H)
/-- word k as both execute it -/
def tf_OB (lo p k : Nat) (u : SX) (v : SY) : Prop := ∃ u' v', tf_M lo p u' v' ∧ (∀ post : SX → Prop, post u' → wpX_executeBuiltin post u (nI k)) ∧ (∀ post : SY → Prop, post v' → wpY_builtin post v (nI k))
theorem tl_bi {p k t g : Nat} {gr : Int32} (F : (tf_F p md mr mu mf ll d r w n os cd hc oh od op co oy onm li nm kd im ad st we wo oo ol ao ap tk gv io ia ik iv ow ck ci ox oz lp fu ip ie rk ra rb rc yk ya yb lo)) (hk : k < 51) (e1 : tk k = nI t) (e2 : gv k = nI g) (ht : t ≤ 2) (hg' : g ≤ 3) (hgr : (gr = 0 ∧ g ≤ t) ∨ (gr = 1 ∧ g = t + 1)) (h145 : ∀ post : SY → Prop, wY_builtin_145 post (nI k) gr (nI t) (nI md) (nI mr) (nI mu) (nI mf) (nI ll) (nI lp) sv (nI d) (nI r) (nI w) en (nI n) (nI hc) (nI od) cu oy onm (nI cd) (nI oh) (nI fu) (-1) re 0 li da yk ya yb nm kd ls im sr ad oo ol ao ap ik iv ow ce oz ck ou → wpY_builtin post ((nI md), (nI mr), (nI mu), (nI mf), (nI ll), (nI lp), sv, (nI d), (nI r), (nI w), en, (nI n), (nI hc), (nI od), cu, oy, onm, (nI cd), (nI oh), (nI fu), (-1), re, 0, li, da, yk, ya, yb, nm, kd, ls, im, sr, ad, oo, ol, ao, ap, ik, iv, ow, ce, oz, ck, ou) (nI k))
  (H : ∀ b, d = b + t → b + g ≤ md → ∀ y x : Int32, ∃ u' v', tf_M lo (p + 2 * d + 1) u' v' ∧ (∀ post : SX → Prop, post u' → wX_executeBuiltin_89 post (nI k) (nI t) y x k1 k2 k3 k4 k5 k6 k7 k8 k9 (nI md) (nI mr) (nI mu) (nI mf) (nI ll) (nI lp) tS tE tN (nI (b + t)) (nI r) (nI w) en (nI n) op co onm (nI os) (nI cd) (nI hc) (nI oh) (nI od) cu (nI fu) ip ie (-1) 0 re li da rk ra rb rc nm kd ls im sr st we ad wo tk gv io ia ck ci ce ou ox) ∧ (∀ post : SY → Prop, post v' → ∀ e va ib, e = tf_e r yk → tf_va w y va → tf_va hc y ib → wY_builtin_306 post (nI k) y x e va ib (nI md) (nI mr) (nI mu) (nI mf) (nI ll) (nI lp) sv (nI b) (nI r) (nI w) en (nI n) (nI hc) (nI od) cu oy onm (nI cd) (nI oh) (nI fu) (-1) re 0 li da yk ya yb nm kd ls im sr ad oo ol ao ap ik iv ow ce oz ck ou)) : tf_OB lo (p + 2 * d + 1) k (k1, k2, k3, k4, k5, k6, k7, k8, k9, (nI md), (nI mr), (nI mu), (nI mf), (nI ll), (nI lp), tS, tE, tN, (nI d), (nI r), (nI w), en, (nI n), op, co, onm, (nI os), (nI cd), (nI hc), (nI oh), (nI od), cu, (nI fu), ip, ie, (-1), 0, re, li, da, rk, ra, rb, rc, nm, kd, ls, im, sr, st, we, ad, wo, tk, gv, io, ia, ck, ci, ce, ou, ox) ((nI md), (nI mr), (nI mu), (nI mf), (nI ll), (nI lp), sv, (nI d), (nI r), (nI w), en, (nI n), (nI hc), (nI od), cu, oy, onm, (nI cd), (nI oh), (nI fu), (-1), re, 0, li, da, yk, ya, yb, nm, kd, ls, im, sr, ad, oo, ol, ao, ap, ik, iv, ow, ce, oz, ck, ou) := by
  have hB := F.1.1
  unfold tf_B at hB
  rcases Nat.lt_or_ge d t with z | z
  · obtain ⟨u', v', h1, h2, h3⟩ := tl_raise F (-4)
    exact ⟨u', v', tf_M_mono (by omega) h1, fun post hp => tx_bi_u hk e1 ht z h2 hp, fun post hp => h145 post (ty_bi_u ht z h3 hp)⟩
  · obtain ⟨b, hb⟩ : ∃ b, d = b + t := ⟨d - t, by omega⟩
    subst hb
    rcases Nat.lt_or_ge md (b + g) with z2 | z2
    · obtain ⟨u', v', h1, h2, h3⟩ := tl_raise F (-3)
      rcases hgr with ⟨e, e3⟩ | ⟨e, e3⟩
      · omega
      · subst e
        exact ⟨u', v', tf_M_mono (by omega) h1, fun post hp => tx_bi_o hk e1 e2 ht hg' z (by omega) (by omega) h2 hp, fun post hp => h145 post (ty_bi_o z (by omega) (by omega) h3 hp)⟩
    · obtain ⟨u', v', h1, h2, h3⟩ := H b rfl z2 (if t = 0 then 0 else da (b + t - 1)) (if t ≤ 1 then 0 else da (b + t - 2))
      exact ⟨u', v', h1, fun post hp => tx_bi hk e1 e2 ht (by omega) z2 (by omega) (h2 post hp), fun post hp => h145 post (ty_bi145 ht (by omega) (by omega) (by omega) (by omega) z2 hgr (by omega) (h3 post hp))⟩
end
end
section
/-! Y's sorting of the words by what they take -/
section
variable {md mr mu mf ll lp d r w n os cd hc oh od fu : Nat} {k1 k2 k3 k4 k5 k6 k7 k8 k9 tS tE en op co cu ip ie pe ab re oy sv : Int32} {tN onm : Int64} {li da rk ra rb rc kd ls im sr st we ad wo tk gv io ia ck ci ce ou ox yk ya yb oo ol ao ap ik iv ow oz : Nat → Int32} {nm : Nat → Int64} {lo : Nat}
theorem ty145_0 {post : SY → Prop} (h : wY_builtin_145 post (nI 0) 1 (nI 1) (nI md) (nI mr) (nI mu) (nI mf) (nI ll) (nI lp) sv (nI d) (nI r) (nI w) en (nI n) (nI hc) (nI od) cu oy onm (nI cd) (nI oh) (nI fu) pe re ab li da yk ya yb nm kd ls im sr ad oo ol ao ap ik iv ow ce oz ck ou) : wpY_builtin post ((nI md), (nI mr), (nI mu), (nI mf), (nI ll), (nI lp), sv, (nI d), (nI r), (nI w), en, (nI n), (nI hc), (nI od), cu, oy, onm, (nI cd), (nI oh), (nI fu), pe, re, ab, li, da, yk, ya, yb, nm, kd, ls, im, sr, ad, oo, ol, ao, ap, ik, iv, ow, ce, oz, ck, ou) (nI 0) := by
  repeat first
    | refine br_t (by decide) ?_
    | refine br_f (by decide) ?_
  exact h
theorem ty145_1 {post : SY → Prop} (h : wY_builtin_145 post (nI 1) 0 (nI 1) (nI md) (nI mr) (nI mu) (nI mf) (nI ll) (nI lp) sv (nI d) (nI r) (nI w) en (nI n) (nI hc) (nI od) cu oy onm (nI cd) (nI oh) (nI fu) pe re ab li da yk ya yb nm kd ls im sr ad oo ol ao ap ik iv ow ce oz ck ou) : wpY_builtin post ((nI md), (nI mr), (nI mu), (nI mf), (nI ll), (nI lp), sv, (nI d), (nI r), (nI w), en, (nI n), (nI hc), (nI od), cu, oy, onm, (nI cd), (nI oh), (nI fu), pe, re, ab, li, da, yk, ya, yb, nm, kd, ls, im, sr, ad, oo, ol, ao, ap, ik, iv, ow, ce, oz, ck, ou) (nI 1) := by
  repeat first
    | refine br_t (by decide) ?_
    | refine br_f (by decide) ?_
  exact h
theorem ty145_2 {post : SY → Prop} (h : wY_builtin_145 post (nI 2) 0 (nI 2) (nI md) (nI mr) (nI mu) (nI mf) (nI ll) (nI lp) sv (nI d) (nI r) (nI w) en (nI n) (nI hc) (nI od) cu oy onm (nI cd) (nI oh) (nI fu) pe re ab li da yk ya yb nm kd ls im sr ad oo ol ao ap ik iv ow ce oz ck ou) : wpY_builtin post ((nI md), (nI mr), (nI mu), (nI mf), (nI ll), (nI lp), sv, (nI d), (nI r), (nI w), en, (nI n), (nI hc), (nI od), cu, oy, onm, (nI cd), (nI oh), (nI fu), pe, re, ab, li, da, yk, ya, yb, nm, kd, ls, im, sr, ad, oo, ol, ao, ap, ik, iv, ow, ce, oz, ck, ou) (nI 2) := by
  repeat first
    | refine br_t (by decide) ?_
    | refine br_f (by decide) ?_
  exact h
theorem ty145_3 {post : SY → Prop} (h : wY_builtin_145 post (nI 3) 1 (nI 2) (nI md) (nI mr) (nI mu) (nI mf) (nI ll) (nI lp) sv (nI d) (nI r) (nI w) en (nI n) (nI hc) (nI od) cu oy onm (nI cd) (nI oh) (nI fu) pe re ab li da yk ya yb nm kd ls im sr ad oo ol ao ap ik iv ow ce oz ck ou) : wpY_builtin post ((nI md), (nI mr), (nI mu), (nI mf), (nI ll), (nI lp), sv, (nI d), (nI r), (nI w), en, (nI n), (nI hc), (nI od), cu, oy, onm, (nI cd), (nI oh), (nI fu), pe, re, ab, li, da, yk, ya, yb, nm, kd, ls, im, sr, ad, oo, ol, ao, ap, ik, iv, ow, ce, oz, ck, ou) (nI 3) := by
  repeat first
    | refine br_t (by decide) ?_
    | refine br_f (by decide) ?_
  exact h
theorem ty145_4 {post : SY → Prop} (h : wY_builtin_145 post (nI 4) 0 (nI 2) (nI md) (nI mr) (nI mu) (nI mf) (nI ll) (nI lp) sv (nI d) (nI r) (nI w) en (nI n) (nI hc) (nI od) cu oy onm (nI cd) (nI oh) (nI fu) pe re ab li da yk ya yb nm kd ls im sr ad oo ol ao ap ik iv ow ce oz ck ou) : wpY_builtin post ((nI md), (nI mr), (nI mu), (nI mf), (nI ll), (nI lp), sv, (nI d), (nI r), (nI w), en, (nI n), (nI hc), (nI od), cu, oy, onm, (nI cd), (nI oh), (nI fu), pe, re, ab, li, da, yk, ya, yb, nm, kd, ls, im, sr, ad, oo, ol, ao, ap, ik, iv, ow, ce, oz, ck, ou) (nI 4) := by
  repeat first
    | refine br_t (by decide) ?_
    | refine br_f (by decide) ?_
  exact h
theorem ty145_5 {post : SY → Prop} (h : wY_builtin_145 post (nI 5) 0 (nI 2) (nI md) (nI mr) (nI mu) (nI mf) (nI ll) (nI lp) sv (nI d) (nI r) (nI w) en (nI n) (nI hc) (nI od) cu oy onm (nI cd) (nI oh) (nI fu) pe re ab li da yk ya yb nm kd ls im sr ad oo ol ao ap ik iv ow ce oz ck ou) : wpY_builtin post ((nI md), (nI mr), (nI mu), (nI mf), (nI ll), (nI lp), sv, (nI d), (nI r), (nI w), en, (nI n), (nI hc), (nI od), cu, oy, onm, (nI cd), (nI oh), (nI fu), pe, re, ab, li, da, yk, ya, yb, nm, kd, ls, im, sr, ad, oo, ol, ao, ap, ik, iv, ow, ce, oz, ck, ou) (nI 5) := by
  repeat first
    | refine br_t (by decide) ?_
    | refine br_f (by decide) ?_
  exact h
theorem ty145_6 {post : SY → Prop} (h : wY_builtin_145 post (nI 6) 0 (nI 2) (nI md) (nI mr) (nI mu) (nI mf) (nI ll) (nI lp) sv (nI d) (nI r) (nI w) en (nI n) (nI hc) (nI od) cu oy onm (nI cd) (nI oh) (nI fu) pe re ab li da yk ya yb nm kd ls im sr ad oo ol ao ap ik iv ow ce oz ck ou) : wpY_builtin post ((nI md), (nI mr), (nI mu), (nI mf), (nI ll), (nI lp), sv, (nI d), (nI r), (nI w), en, (nI n), (nI hc), (nI od), cu, oy, onm, (nI cd), (nI oh), (nI fu), pe, re, ab, li, da, yk, ya, yb, nm, kd, ls, im, sr, ad, oo, ol, ao, ap, ik, iv, ow, ce, oz, ck, ou) (nI 6) := by
  repeat first
    | refine br_t (by decide) ?_
    | refine br_f (by decide) ?_
  exact h
theorem ty145_7 {post : SY → Prop} (h : wY_builtin_145 post (nI 7) 0 (nI 2) (nI md) (nI mr) (nI mu) (nI mf) (nI ll) (nI lp) sv (nI d) (nI r) (nI w) en (nI n) (nI hc) (nI od) cu oy onm (nI cd) (nI oh) (nI fu) pe re ab li da yk ya yb nm kd ls im sr ad oo ol ao ap ik iv ow ce oz ck ou) : wpY_builtin post ((nI md), (nI mr), (nI mu), (nI mf), (nI ll), (nI lp), sv, (nI d), (nI r), (nI w), en, (nI n), (nI hc), (nI od), cu, oy, onm, (nI cd), (nI oh), (nI fu), pe, re, ab, li, da, yk, ya, yb, nm, kd, ls, im, sr, ad, oo, ol, ao, ap, ik, iv, ow, ce, oz, ck, ou) (nI 7) := by
  repeat first
    | refine br_t (by decide) ?_
    | refine br_f (by decide) ?_
  exact h
theorem ty145_8 {post : SY → Prop} (h : wY_builtin_145 post (nI 8) 0 (nI 2) (nI md) (nI mr) (nI mu) (nI mf) (nI ll) (nI lp) sv (nI d) (nI r) (nI w) en (nI n) (nI hc) (nI od) cu oy onm (nI cd) (nI oh) (nI fu) pe re ab li da yk ya yb nm kd ls im sr ad oo ol ao ap ik iv ow ce oz ck ou) : wpY_builtin post ((nI md), (nI mr), (nI mu), (nI mf), (nI ll), (nI lp), sv, (nI d), (nI r), (nI w), en, (nI n), (nI hc), (nI od), cu, oy, onm, (nI cd), (nI oh), (nI fu), pe, re, ab, li, da, yk, ya, yb, nm, kd, ls, im, sr, ad, oo, ol, ao, ap, ik, iv, ow, ce, oz, ck, ou) (nI 8) := by
  repeat first
    | refine br_t (by decide) ?_
    | refine br_f (by decide) ?_
  exact h
theorem ty145_9 {post : SY → Prop} (h : wY_builtin_145 post (nI 9) 0 (nI 2) (nI md) (nI mr) (nI mu) (nI mf) (nI ll) (nI lp) sv (nI d) (nI r) (nI w) en (nI n) (nI hc) (nI od) cu oy onm (nI cd) (nI oh) (nI fu) pe re ab li da yk ya yb nm kd ls im sr ad oo ol ao ap ik iv ow ce oz ck ou) : wpY_builtin post ((nI md), (nI mr), (nI mu), (nI mf), (nI ll), (nI lp), sv, (nI d), (nI r), (nI w), en, (nI n), (nI hc), (nI od), cu, oy, onm, (nI cd), (nI oh), (nI fu), pe, re, ab, li, da, yk, ya, yb, nm, kd, ls, im, sr, ad, oo, ol, ao, ap, ik, iv, ow, ce, oz, ck, ou) (nI 9) := by
  repeat first
    | refine br_t (by decide) ?_
    | refine br_f (by decide) ?_
  exact h
theorem ty145_10 {post : SY → Prop} (h : wY_builtin_145 post (nI 10) 0 (nI 2) (nI md) (nI mr) (nI mu) (nI mf) (nI ll) (nI lp) sv (nI d) (nI r) (nI w) en (nI n) (nI hc) (nI od) cu oy onm (nI cd) (nI oh) (nI fu) pe re ab li da yk ya yb nm kd ls im sr ad oo ol ao ap ik iv ow ce oz ck ou) : wpY_builtin post ((nI md), (nI mr), (nI mu), (nI mf), (nI ll), (nI lp), sv, (nI d), (nI r), (nI w), en, (nI n), (nI hc), (nI od), cu, oy, onm, (nI cd), (nI oh), (nI fu), pe, re, ab, li, da, yk, ya, yb, nm, kd, ls, im, sr, ad, oo, ol, ao, ap, ik, iv, ow, ce, oz, ck, ou) (nI 10) := by
  repeat first
    | refine br_t (by decide) ?_
    | refine br_f (by decide) ?_
  exact h
theorem ty145_11 {post : SY → Prop} (h : wY_builtin_145 post (nI 11) 1 (nI 0) (nI md) (nI mr) (nI mu) (nI mf) (nI ll) (nI lp) sv (nI d) (nI r) (nI w) en (nI n) (nI hc) (nI od) cu oy onm (nI cd) (nI oh) (nI fu) pe re ab li da yk ya yb nm kd ls im sr ad oo ol ao ap ik iv ow ce oz ck ou) : wpY_builtin post ((nI md), (nI mr), (nI mu), (nI mf), (nI ll), (nI lp), sv, (nI d), (nI r), (nI w), en, (nI n), (nI hc), (nI od), cu, oy, onm, (nI cd), (nI oh), (nI fu), pe, re, ab, li, da, yk, ya, yb, nm, kd, ls, im, sr, ad, oo, ol, ao, ap, ik, iv, ow, ce, oz, ck, ou) (nI 11) := by
  repeat first
    | refine br_t (by decide) ?_
    | refine br_f (by decide) ?_
  exact h
theorem ty145_12 {post : SY → Prop} (h : wY_builtin_145 post (nI 12) 0 (nI 1) (nI md) (nI mr) (nI mu) (nI mf) (nI ll) (nI lp) sv (nI d) (nI r) (nI w) en (nI n) (nI hc) (nI od) cu oy onm (nI cd) (nI oh) (nI fu) pe re ab li da yk ya yb nm kd ls im sr ad oo ol ao ap ik iv ow ce oz ck ou) : wpY_builtin post ((nI md), (nI mr), (nI mu), (nI mf), (nI ll), (nI lp), sv, (nI d), (nI r), (nI w), en, (nI n), (nI hc), (nI od), cu, oy, onm, (nI cd), (nI oh), (nI fu), pe, re, ab, li, da, yk, ya, yb, nm, kd, ls, im, sr, ad, oo, ol, ao, ap, ik, iv, ow, ce, oz, ck, ou) (nI 12) := by
  repeat first
    | refine br_t (by decide) ?_
    | refine br_f (by decide) ?_
  exact h
theorem ty145_13 {post : SY → Prop} (h : wY_builtin_145 post (nI 13) 1 (nI 0) (nI md) (nI mr) (nI mu) (nI mf) (nI ll) (nI lp) sv (nI d) (nI r) (nI w) en (nI n) (nI hc) (nI od) cu oy onm (nI cd) (nI oh) (nI fu) pe re ab li da yk ya yb nm kd ls im sr ad oo ol ao ap ik iv ow ce oz ck ou) : wpY_builtin post ((nI md), (nI mr), (nI mu), (nI mf), (nI ll), (nI lp), sv, (nI d), (nI r), (nI w), en, (nI n), (nI hc), (nI od), cu, oy, onm, (nI cd), (nI oh), (nI fu), pe, re, ab, li, da, yk, ya, yb, nm, kd, ls, im, sr, ad, oo, ol, ao, ap, ik, iv, ow, ce, oz, ck, ou) (nI 13) := by
  repeat first
    | refine br_t (by decide) ?_
    | refine br_f (by decide) ?_
  exact h
theorem ty145_14 {post : SY → Prop} (h : wY_builtin_145 post (nI 14) 1 (nI 0) (nI md) (nI mr) (nI mu) (nI mf) (nI ll) (nI lp) sv (nI d) (nI r) (nI w) en (nI n) (nI hc) (nI od) cu oy onm (nI cd) (nI oh) (nI fu) pe re ab li da yk ya yb nm kd ls im sr ad oo ol ao ap ik iv ow ce oz ck ou) : wpY_builtin post ((nI md), (nI mr), (nI mu), (nI mf), (nI ll), (nI lp), sv, (nI d), (nI r), (nI w), en, (nI n), (nI hc), (nI od), cu, oy, onm, (nI cd), (nI oh), (nI fu), pe, re, ab, li, da, yk, ya, yb, nm, kd, ls, im, sr, ad, oo, ol, ao, ap, ik, iv, ow, ce, oz, ck, ou) (nI 14) := by
  repeat first
    | refine br_t (by decide) ?_
    | refine br_f (by decide) ?_
  exact h
theorem ty145_15 {post : SY → Prop} (h : wY_builtin_145 post (nI 15) 1 (nI 0) (nI md) (nI mr) (nI mu) (nI mf) (nI ll) (nI lp) sv (nI d) (nI r) (nI w) en (nI n) (nI hc) (nI od) cu oy onm (nI cd) (nI oh) (nI fu) pe re ab li da yk ya yb nm kd ls im sr ad oo ol ao ap ik iv ow ce oz ck ou) : wpY_builtin post ((nI md), (nI mr), (nI mu), (nI mf), (nI ll), (nI lp), sv, (nI d), (nI r), (nI w), en, (nI n), (nI hc), (nI od), cu, oy, onm, (nI cd), (nI oh), (nI fu), pe, re, ab, li, da, yk, ya, yb, nm, kd, ls, im, sr, ad, oo, ol, ao, ap, ik, iv, ow, ce, oz, ck, ou) (nI 15) := by
  repeat first
    | refine br_t (by decide) ?_
    | refine br_f (by decide) ?_
  exact h
theorem ty145_16 {post : SY → Prop} (h : wY_builtin_145 post (nI 16) 0 (nI 1) (nI md) (nI mr) (nI mu) (nI mf) (nI ll) (nI lp) sv (nI d) (nI r) (nI w) en (nI n) (nI hc) (nI od) cu oy onm (nI cd) (nI oh) (nI fu) pe re ab li da yk ya yb nm kd ls im sr ad oo ol ao ap ik iv ow ce oz ck ou) : wpY_builtin post ((nI md), (nI mr), (nI mu), (nI mf), (nI ll), (nI lp), sv, (nI d), (nI r), (nI w), en, (nI n), (nI hc), (nI od), cu, oy, onm, (nI cd), (nI oh), (nI fu), pe, re, ab, li, da, yk, ya, yb, nm, kd, ls, im, sr, ad, oo, ol, ao, ap, ik, iv, ow, ce, oz, ck, ou) (nI 16) := by
  repeat first
    | refine br_t (by decide) ?_
    | refine br_f (by decide) ?_
  exact h
theorem ty145_17 {post : SY → Prop} (h : wY_builtin_145 post (nI 17) 0 (nI 2) (nI md) (nI mr) (nI mu) (nI mf) (nI ll) (nI lp) sv (nI d) (nI r) (nI w) en (nI n) (nI hc) (nI od) cu oy onm (nI cd) (nI oh) (nI fu) pe re ab li da yk ya yb nm kd ls im sr ad oo ol ao ap ik iv ow ce oz ck ou) : wpY_builtin post ((nI md), (nI mr), (nI mu), (nI mf), (nI ll), (nI lp), sv, (nI d), (nI r), (nI w), en, (nI n), (nI hc), (nI od), cu, oy, onm, (nI cd), (nI oh), (nI fu), pe, re, ab, li, da, yk, ya, yb, nm, kd, ls, im, sr, ad, oo, ol, ao, ap, ik, iv, ow, ce, oz, ck, ou) (nI 17) := by
  repeat first
    | refine br_t (by decide) ?_
    | refine br_f (by decide) ?_
  exact h
theorem ty145_18 {post : SY → Prop} (h : wY_builtin_145 post (nI 18) 0 (nI 1) (nI md) (nI mr) (nI mu) (nI mf) (nI ll) (nI lp) sv (nI d) (nI r) (nI w) en (nI n) (nI hc) (nI od) cu oy onm (nI cd) (nI oh) (nI fu) pe re ab li da yk ya yb nm kd ls im sr ad oo ol ao ap ik iv ow ce oz ck ou) : wpY_builtin post ((nI md), (nI mr), (nI mu), (nI mf), (nI ll), (nI lp), sv, (nI d), (nI r), (nI w), en, (nI n), (nI hc), (nI od), cu, oy, onm, (nI cd), (nI oh), (nI fu), pe, re, ab, li, da, yk, ya, yb, nm, kd, ls, im, sr, ad, oo, ol, ao, ap, ik, iv, ow, ce, oz, ck, ou) (nI 18) := by
  repeat first
    | refine br_t (by decide) ?_
    | refine br_f (by decide) ?_
  exact h
theorem ty145_19 {post : SY → Prop} (h : wY_builtin_145 post (nI 19) 1 (nI 0) (nI md) (nI mr) (nI mu) (nI mf) (nI ll) (nI lp) sv (nI d) (nI r) (nI w) en (nI n) (nI hc) (nI od) cu oy onm (nI cd) (nI oh) (nI fu) pe re ab li da yk ya yb nm kd ls im sr ad oo ol ao ap ik iv ow ce oz ck ou) : wpY_builtin post ((nI md), (nI mr), (nI mu), (nI mf), (nI ll), (nI lp), sv, (nI d), (nI r), (nI w), en, (nI n), (nI hc), (nI od), cu, oy, onm, (nI cd), (nI oh), (nI fu), pe, re, ab, li, da, yk, ya, yb, nm, kd, ls, im, sr, ad, oo, ol, ao, ap, ik, iv, ow, ce, oz, ck, ou) (nI 19) := by
  repeat first
    | refine br_t (by decide) ?_
    | refine br_f (by decide) ?_
  exact h
theorem ty145_20 {post : SY → Prop} (h : wY_builtin_145 post (nI 20) 0 (nI 1) (nI md) (nI mr) (nI mu) (nI mf) (nI ll) (nI lp) sv (nI d) (nI r) (nI w) en (nI n) (nI hc) (nI od) cu oy onm (nI cd) (nI oh) (nI fu) pe re ab li da yk ya yb nm kd ls im sr ad oo ol ao ap ik iv ow ce oz ck ou) : wpY_builtin post ((nI md), (nI mr), (nI mu), (nI mf), (nI ll), (nI lp), sv, (nI d), (nI r), (nI w), en, (nI n), (nI hc), (nI od), cu, oy, onm, (nI cd), (nI oh), (nI fu), pe, re, ab, li, da, yk, ya, yb, nm, kd, ls, im, sr, ad, oo, ol, ao, ap, ik, iv, ow, ce, oz, ck, ou) (nI 20) := by
  repeat first
    | refine br_t (by decide) ?_
    | refine br_f (by decide) ?_
  exact h
theorem ty145_21 {post : SY → Prop} (h : wY_builtin_145 post (nI 21) 0 (nI 1) (nI md) (nI mr) (nI mu) (nI mf) (nI ll) (nI lp) sv (nI d) (nI r) (nI w) en (nI n) (nI hc) (nI od) cu oy onm (nI cd) (nI oh) (nI fu) pe re ab li da yk ya yb nm kd ls im sr ad oo ol ao ap ik iv ow ce oz ck ou) : wpY_builtin post ((nI md), (nI mr), (nI mu), (nI mf), (nI ll), (nI lp), sv, (nI d), (nI r), (nI w), en, (nI n), (nI hc), (nI od), cu, oy, onm, (nI cd), (nI oh), (nI fu), pe, re, ab, li, da, yk, ya, yb, nm, kd, ls, im, sr, ad, oo, ol, ao, ap, ik, iv, ow, ce, oz, ck, ou) (nI 21) := by
  repeat first
    | refine br_t (by decide) ?_
    | refine br_f (by decide) ?_
  exact h
theorem ty145_22 {post : SY → Prop} (h : wY_builtin_145 post (nI 22) 0 (nI 1) (nI md) (nI mr) (nI mu) (nI mf) (nI ll) (nI lp) sv (nI d) (nI r) (nI w) en (nI n) (nI hc) (nI od) cu oy onm (nI cd) (nI oh) (nI fu) pe re ab li da yk ya yb nm kd ls im sr ad oo ol ao ap ik iv ow ce oz ck ou) : wpY_builtin post ((nI md), (nI mr), (nI mu), (nI mf), (nI ll), (nI lp), sv, (nI d), (nI r), (nI w), en, (nI n), (nI hc), (nI od), cu, oy, onm, (nI cd), (nI oh), (nI fu), pe, re, ab, li, da, yk, ya, yb, nm, kd, ls, im, sr, ad, oo, ol, ao, ap, ik, iv, ow, ce, oz, ck, ou) (nI 22) := by
  repeat first
    | refine br_t (by decide) ?_
    | refine br_f (by decide) ?_
  exact h
theorem ty145_23 {post : SY → Prop} (h : wY_builtin_145 post (nI 23) 0 (nI 1) (nI md) (nI mr) (nI mu) (nI mf) (nI ll) (nI lp) sv (nI d) (nI r) (nI w) en (nI n) (nI hc) (nI od) cu oy onm (nI cd) (nI oh) (nI fu) pe re ab li da yk ya yb nm kd ls im sr ad oo ol ao ap ik iv ow ce oz ck ou) : wpY_builtin post ((nI md), (nI mr), (nI mu), (nI mf), (nI ll), (nI lp), sv, (nI d), (nI r), (nI w), en, (nI n), (nI hc), (nI od), cu, oy, onm, (nI cd), (nI oh), (nI fu), pe, re, ab, li, da, yk, ya, yb, nm, kd, ls, im, sr, ad, oo, ol, ao, ap, ik, iv, ow, ce, oz, ck, ou) (nI 23) := by
  repeat first
    | refine br_t (by decide) ?_
    | refine br_f (by decide) ?_
  exact h
theorem ty145_24 {post : SY → Prop} (h : wY_builtin_145 post (nI 24) 1 (nI 0) (nI md) (nI mr) (nI mu) (nI mf) (nI ll) (nI lp) sv (nI d) (nI r) (nI w) en (nI n) (nI hc) (nI od) cu oy onm (nI cd) (nI oh) (nI fu) pe re ab li da yk ya yb nm kd ls im sr ad oo ol ao ap ik iv ow ce oz ck ou) : wpY_builtin post ((nI md), (nI mr), (nI mu), (nI mf), (nI ll), (nI lp), sv, (nI d), (nI r), (nI w), en, (nI n), (nI hc), (nI od), cu, oy, onm, (nI cd), (nI oh), (nI fu), pe, re, ab, li, da, yk, ya, yb, nm, kd, ls, im, sr, ad, oo, ol, ao, ap, ik, iv, ow, ce, oz, ck, ou) (nI 24) := by
  repeat first
    | refine br_t (by decide) ?_
    | refine br_f (by decide) ?_
  exact h
theorem ty145_25 {post : SY → Prop} (h : wY_builtin_145 post (nI 25) 0 (nI 0) (nI md) (nI mr) (nI mu) (nI mf) (nI ll) (nI lp) sv (nI d) (nI r) (nI w) en (nI n) (nI hc) (nI od) cu oy onm (nI cd) (nI oh) (nI fu) pe re ab li da yk ya yb nm kd ls im sr ad oo ol ao ap ik iv ow ce oz ck ou) : wpY_builtin post ((nI md), (nI mr), (nI mu), (nI mf), (nI ll), (nI lp), sv, (nI d), (nI r), (nI w), en, (nI n), (nI hc), (nI od), cu, oy, onm, (nI cd), (nI oh), (nI fu), pe, re, ab, li, da, yk, ya, yb, nm, kd, ls, im, sr, ad, oo, ol, ao, ap, ik, iv, ow, ce, oz, ck, ou) (nI 25) := by
  repeat first
    | refine br_t (by decide) ?_
    | refine br_f (by decide) ?_
  exact h
theorem ty145_26 {post : SY → Prop} (h : wY_builtin_145 post (nI 26) 0 (nI 0) (nI md) (nI mr) (nI mu) (nI mf) (nI ll) (nI lp) sv (nI d) (nI r) (nI w) en (nI n) (nI hc) (nI od) cu oy onm (nI cd) (nI oh) (nI fu) pe re ab li da yk ya yb nm kd ls im sr ad oo ol ao ap ik iv ow ce oz ck ou) : wpY_builtin post ((nI md), (nI mr), (nI mu), (nI mf), (nI ll), (nI lp), sv, (nI d), (nI r), (nI w), en, (nI n), (nI hc), (nI od), cu, oy, onm, (nI cd), (nI oh), (nI fu), pe, re, ab, li, da, yk, ya, yb, nm, kd, ls, im, sr, ad, oo, ol, ao, ap, ik, iv, ow, ce, oz, ck, ou) (nI 26) := by
  repeat first
    | refine br_t (by decide) ?_
    | refine br_f (by decide) ?_
  exact h
theorem ty145_27 {post : SY → Prop} (h : wY_builtin_145 post (nI 27) 0 (nI 0) (nI md) (nI mr) (nI mu) (nI mf) (nI ll) (nI lp) sv (nI d) (nI r) (nI w) en (nI n) (nI hc) (nI od) cu oy onm (nI cd) (nI oh) (nI fu) pe re ab li da yk ya yb nm kd ls im sr ad oo ol ao ap ik iv ow ce oz ck ou) : wpY_builtin post ((nI md), (nI mr), (nI mu), (nI mf), (nI ll), (nI lp), sv, (nI d), (nI r), (nI w), en, (nI n), (nI hc), (nI od), cu, oy, onm, (nI cd), (nI oh), (nI fu), pe, re, ab, li, da, yk, ya, yb, nm, kd, ls, im, sr, ad, oo, ol, ao, ap, ik, iv, ow, ce, oz, ck, ou) (nI 27) := by
  repeat first
    | refine br_t (by decide) ?_
    | refine br_f (by decide) ?_
  exact h
theorem ty145_28 {post : SY → Prop} (h : wY_builtin_145 post (nI 28) 0 (nI 0) (nI md) (nI mr) (nI mu) (nI mf) (nI ll) (nI lp) sv (nI d) (nI r) (nI w) en (nI n) (nI hc) (nI od) cu oy onm (nI cd) (nI oh) (nI fu) pe re ab li da yk ya yb nm kd ls im sr ad oo ol ao ap ik iv ow ce oz ck ou) : wpY_builtin post ((nI md), (nI mr), (nI mu), (nI mf), (nI ll), (nI lp), sv, (nI d), (nI r), (nI w), en, (nI n), (nI hc), (nI od), cu, oy, onm, (nI cd), (nI oh), (nI fu), pe, re, ab, li, da, yk, ya, yb, nm, kd, ls, im, sr, ad, oo, ol, ao, ap, ik, iv, ow, ce, oz, ck, ou) (nI 28) := by
  repeat first
    | refine br_t (by decide) ?_
    | refine br_f (by decide) ?_
  exact h
theorem ty145_29 {post : SY → Prop} (h : wY_builtin_145 post (nI 29) 0 (nI 0) (nI md) (nI mr) (nI mu) (nI mf) (nI ll) (nI lp) sv (nI d) (nI r) (nI w) en (nI n) (nI hc) (nI od) cu oy onm (nI cd) (nI oh) (nI fu) pe re ab li da yk ya yb nm kd ls im sr ad oo ol ao ap ik iv ow ce oz ck ou) : wpY_builtin post ((nI md), (nI mr), (nI mu), (nI mf), (nI ll), (nI lp), sv, (nI d), (nI r), (nI w), en, (nI n), (nI hc), (nI od), cu, oy, onm, (nI cd), (nI oh), (nI fu), pe, re, ab, li, da, yk, ya, yb, nm, kd, ls, im, sr, ad, oo, ol, ao, ap, ik, iv, ow, ce, oz, ck, ou) (nI 29) := by
  repeat first
    | refine br_t (by decide) ?_
    | refine br_f (by decide) ?_
  exact h
theorem ty145_30 {post : SY → Prop} (h : wY_builtin_145 post (nI 30) 0 (nI 1) (nI md) (nI mr) (nI mu) (nI mf) (nI ll) (nI lp) sv (nI d) (nI r) (nI w) en (nI n) (nI hc) (nI od) cu oy onm (nI cd) (nI oh) (nI fu) pe re ab li da yk ya yb nm kd ls im sr ad oo ol ao ap ik iv ow ce oz ck ou) : wpY_builtin post ((nI md), (nI mr), (nI mu), (nI mf), (nI ll), (nI lp), sv, (nI d), (nI r), (nI w), en, (nI n), (nI hc), (nI od), cu, oy, onm, (nI cd), (nI oh), (nI fu), pe, re, ab, li, da, yk, ya, yb, nm, kd, ls, im, sr, ad, oo, ol, ao, ap, ik, iv, ow, ce, oz, ck, ou) (nI 30) := by
  repeat first
    | refine br_t (by decide) ?_
    | refine br_f (by decide) ?_
  exact h
theorem ty145_31 {post : SY → Prop} (h : wY_builtin_145 post (nI 31) 0 (nI 1) (nI md) (nI mr) (nI mu) (nI mf) (nI ll) (nI lp) sv (nI d) (nI r) (nI w) en (nI n) (nI hc) (nI od) cu oy onm (nI cd) (nI oh) (nI fu) pe re ab li da yk ya yb nm kd ls im sr ad oo ol ao ap ik iv ow ce oz ck ou) : wpY_builtin post ((nI md), (nI mr), (nI mu), (nI mf), (nI ll), (nI lp), sv, (nI d), (nI r), (nI w), en, (nI n), (nI hc), (nI od), cu, oy, onm, (nI cd), (nI oh), (nI fu), pe, re, ab, li, da, yk, ya, yb, nm, kd, ls, im, sr, ad, oo, ol, ao, ap, ik, iv, ow, ce, oz, ck, ou) (nI 31) := by
  repeat first
    | refine br_t (by decide) ?_
    | refine br_f (by decide) ?_
  exact h
theorem ty145_32 {post : SY → Prop} (h : wY_builtin_145 post (nI 32) 0 (nI 0) (nI md) (nI mr) (nI mu) (nI mf) (nI ll) (nI lp) sv (nI d) (nI r) (nI w) en (nI n) (nI hc) (nI od) cu oy onm (nI cd) (nI oh) (nI fu) pe re ab li da yk ya yb nm kd ls im sr ad oo ol ao ap ik iv ow ce oz ck ou) : wpY_builtin post ((nI md), (nI mr), (nI mu), (nI mf), (nI ll), (nI lp), sv, (nI d), (nI r), (nI w), en, (nI n), (nI hc), (nI od), cu, oy, onm, (nI cd), (nI oh), (nI fu), pe, re, ab, li, da, yk, ya, yb, nm, kd, ls, im, sr, ad, oo, ol, ao, ap, ik, iv, ow, ce, oz, ck, ou) (nI 32) := by
  repeat first
    | refine br_t (by decide) ?_
    | refine br_f (by decide) ?_
  exact h
theorem ty145_33 {post : SY → Prop} (h : wY_builtin_145 post (nI 33) 0 (nI 0) (nI md) (nI mr) (nI mu) (nI mf) (nI ll) (nI lp) sv (nI d) (nI r) (nI w) en (nI n) (nI hc) (nI od) cu oy onm (nI cd) (nI oh) (nI fu) pe re ab li da yk ya yb nm kd ls im sr ad oo ol ao ap ik iv ow ce oz ck ou) : wpY_builtin post ((nI md), (nI mr), (nI mu), (nI mf), (nI ll), (nI lp), sv, (nI d), (nI r), (nI w), en, (nI n), (nI hc), (nI od), cu, oy, onm, (nI cd), (nI oh), (nI fu), pe, re, ab, li, da, yk, ya, yb, nm, kd, ls, im, sr, ad, oo, ol, ao, ap, ik, iv, ow, ce, oz, ck, ou) (nI 33) := by
  repeat first
    | refine br_t (by decide) ?_
    | refine br_f (by decide) ?_
  exact h
theorem ty145_34 {post : SY → Prop} (h : wY_builtin_145 post (nI 34) 0 (nI 0) (nI md) (nI mr) (nI mu) (nI mf) (nI ll) (nI lp) sv (nI d) (nI r) (nI w) en (nI n) (nI hc) (nI od) cu oy onm (nI cd) (nI oh) (nI fu) pe re ab li da yk ya yb nm kd ls im sr ad oo ol ao ap ik iv ow ce oz ck ou) : wpY_builtin post ((nI md), (nI mr), (nI mu), (nI mf), (nI ll), (nI lp), sv, (nI d), (nI r), (nI w), en, (nI n), (nI hc), (nI od), cu, oy, onm, (nI cd), (nI oh), (nI fu), pe, re, ab, li, da, yk, ya, yb, nm, kd, ls, im, sr, ad, oo, ol, ao, ap, ik, iv, ow, ce, oz, ck, ou) (nI 34) := by
  repeat first
    | refine br_t (by decide) ?_
    | refine br_f (by decide) ?_
  exact h
theorem ty145_35 {post : SY → Prop} (h : wY_builtin_145 post (nI 35) 0 (nI 0) (nI md) (nI mr) (nI mu) (nI mf) (nI ll) (nI lp) sv (nI d) (nI r) (nI w) en (nI n) (nI hc) (nI od) cu oy onm (nI cd) (nI oh) (nI fu) pe re ab li da yk ya yb nm kd ls im sr ad oo ol ao ap ik iv ow ce oz ck ou) : wpY_builtin post ((nI md), (nI mr), (nI mu), (nI mf), (nI ll), (nI lp), sv, (nI d), (nI r), (nI w), en, (nI n), (nI hc), (nI od), cu, oy, onm, (nI cd), (nI oh), (nI fu), pe, re, ab, li, da, yk, ya, yb, nm, kd, ls, im, sr, ad, oo, ol, ao, ap, ik, iv, ow, ce, oz, ck, ou) (nI 35) := by
  repeat first
    | refine br_t (by decide) ?_
    | refine br_f (by decide) ?_
  exact h
theorem ty145_36 {post : SY → Prop} (h : wY_builtin_145 post (nI 36) 0 (nI 0) (nI md) (nI mr) (nI mu) (nI mf) (nI ll) (nI lp) sv (nI d) (nI r) (nI w) en (nI n) (nI hc) (nI od) cu oy onm (nI cd) (nI oh) (nI fu) pe re ab li da yk ya yb nm kd ls im sr ad oo ol ao ap ik iv ow ce oz ck ou) : wpY_builtin post ((nI md), (nI mr), (nI mu), (nI mf), (nI ll), (nI lp), sv, (nI d), (nI r), (nI w), en, (nI n), (nI hc), (nI od), cu, oy, onm, (nI cd), (nI oh), (nI fu), pe, re, ab, li, da, yk, ya, yb, nm, kd, ls, im, sr, ad, oo, ol, ao, ap, ik, iv, ow, ce, oz, ck, ou) (nI 36) := by
  repeat first
    | refine br_t (by decide) ?_
    | refine br_f (by decide) ?_
  exact h
theorem ty145_37 {post : SY → Prop} (h : wY_builtin_145 post (nI 37) 0 (nI 0) (nI md) (nI mr) (nI mu) (nI mf) (nI ll) (nI lp) sv (nI d) (nI r) (nI w) en (nI n) (nI hc) (nI od) cu oy onm (nI cd) (nI oh) (nI fu) pe re ab li da yk ya yb nm kd ls im sr ad oo ol ao ap ik iv ow ce oz ck ou) : wpY_builtin post ((nI md), (nI mr), (nI mu), (nI mf), (nI ll), (nI lp), sv, (nI d), (nI r), (nI w), en, (nI n), (nI hc), (nI od), cu, oy, onm, (nI cd), (nI oh), (nI fu), pe, re, ab, li, da, yk, ya, yb, nm, kd, ls, im, sr, ad, oo, ol, ao, ap, ik, iv, ow, ce, oz, ck, ou) (nI 37) := by
  repeat first
    | refine br_t (by decide) ?_
    | refine br_f (by decide) ?_
  exact h
theorem ty145_38 {post : SY → Prop} (h : wY_builtin_145 post (nI 38) 0 (nI 0) (nI md) (nI mr) (nI mu) (nI mf) (nI ll) (nI lp) sv (nI d) (nI r) (nI w) en (nI n) (nI hc) (nI od) cu oy onm (nI cd) (nI oh) (nI fu) pe re ab li da yk ya yb nm kd ls im sr ad oo ol ao ap ik iv ow ce oz ck ou) : wpY_builtin post ((nI md), (nI mr), (nI mu), (nI mf), (nI ll), (nI lp), sv, (nI d), (nI r), (nI w), en, (nI n), (nI hc), (nI od), cu, oy, onm, (nI cd), (nI oh), (nI fu), pe, re, ab, li, da, yk, ya, yb, nm, kd, ls, im, sr, ad, oo, ol, ao, ap, ik, iv, ow, ce, oz, ck, ou) (nI 38) := by
  repeat first
    | refine br_t (by decide) ?_
    | refine br_f (by decide) ?_
  exact h
theorem ty145_39 {post : SY → Prop} (h : wY_builtin_145 post (nI 39) 0 (nI 0) (nI md) (nI mr) (nI mu) (nI mf) (nI ll) (nI lp) sv (nI d) (nI r) (nI w) en (nI n) (nI hc) (nI od) cu oy onm (nI cd) (nI oh) (nI fu) pe re ab li da yk ya yb nm kd ls im sr ad oo ol ao ap ik iv ow ce oz ck ou) : wpY_builtin post ((nI md), (nI mr), (nI mu), (nI mf), (nI ll), (nI lp), sv, (nI d), (nI r), (nI w), en, (nI n), (nI hc), (nI od), cu, oy, onm, (nI cd), (nI oh), (nI fu), pe, re, ab, li, da, yk, ya, yb, nm, kd, ls, im, sr, ad, oo, ol, ao, ap, ik, iv, ow, ce, oz, ck, ou) (nI 39) := by
  repeat first
    | refine br_t (by decide) ?_
    | refine br_f (by decide) ?_
  exact h
theorem ty145_40 {post : SY → Prop} (h : wY_builtin_145 post (nI 40) 0 (nI 0) (nI md) (nI mr) (nI mu) (nI mf) (nI ll) (nI lp) sv (nI d) (nI r) (nI w) en (nI n) (nI hc) (nI od) cu oy onm (nI cd) (nI oh) (nI fu) pe re ab li da yk ya yb nm kd ls im sr ad oo ol ao ap ik iv ow ce oz ck ou) : wpY_builtin post ((nI md), (nI mr), (nI mu), (nI mf), (nI ll), (nI lp), sv, (nI d), (nI r), (nI w), en, (nI n), (nI hc), (nI od), cu, oy, onm, (nI cd), (nI oh), (nI fu), pe, re, ab, li, da, yk, ya, yb, nm, kd, ls, im, sr, ad, oo, ol, ao, ap, ik, iv, ow, ce, oz, ck, ou) (nI 40) := by
  repeat first
    | refine br_t (by decide) ?_
    | refine br_f (by decide) ?_
  exact h
theorem ty145_41 {post : SY → Prop} (h : wY_builtin_145 post (nI 41) 0 (nI 0) (nI md) (nI mr) (nI mu) (nI mf) (nI ll) (nI lp) sv (nI d) (nI r) (nI w) en (nI n) (nI hc) (nI od) cu oy onm (nI cd) (nI oh) (nI fu) pe re ab li da yk ya yb nm kd ls im sr ad oo ol ao ap ik iv ow ce oz ck ou) : wpY_builtin post ((nI md), (nI mr), (nI mu), (nI mf), (nI ll), (nI lp), sv, (nI d), (nI r), (nI w), en, (nI n), (nI hc), (nI od), cu, oy, onm, (nI cd), (nI oh), (nI fu), pe, re, ab, li, da, yk, ya, yb, nm, kd, ls, im, sr, ad, oo, ol, ao, ap, ik, iv, ow, ce, oz, ck, ou) (nI 41) := by
  repeat first
    | refine br_t (by decide) ?_
    | refine br_f (by decide) ?_
  exact h
theorem ty145_42 {post : SY → Prop} (h : wY_builtin_145 post (nI 42) 0 (nI 0) (nI md) (nI mr) (nI mu) (nI mf) (nI ll) (nI lp) sv (nI d) (nI r) (nI w) en (nI n) (nI hc) (nI od) cu oy onm (nI cd) (nI oh) (nI fu) pe re ab li da yk ya yb nm kd ls im sr ad oo ol ao ap ik iv ow ce oz ck ou) : wpY_builtin post ((nI md), (nI mr), (nI mu), (nI mf), (nI ll), (nI lp), sv, (nI d), (nI r), (nI w), en, (nI n), (nI hc), (nI od), cu, oy, onm, (nI cd), (nI oh), (nI fu), pe, re, ab, li, da, yk, ya, yb, nm, kd, ls, im, sr, ad, oo, ol, ao, ap, ik, iv, ow, ce, oz, ck, ou) (nI 42) := by
  repeat first
    | refine br_t (by decide) ?_
    | refine br_f (by decide) ?_
  exact h
theorem ty145_43 {post : SY → Prop} (h : wY_builtin_145 post (nI 43) 0 (nI 0) (nI md) (nI mr) (nI mu) (nI mf) (nI ll) (nI lp) sv (nI d) (nI r) (nI w) en (nI n) (nI hc) (nI od) cu oy onm (nI cd) (nI oh) (nI fu) pe re ab li da yk ya yb nm kd ls im sr ad oo ol ao ap ik iv ow ce oz ck ou) : wpY_builtin post ((nI md), (nI mr), (nI mu), (nI mf), (nI ll), (nI lp), sv, (nI d), (nI r), (nI w), en, (nI n), (nI hc), (nI od), cu, oy, onm, (nI cd), (nI oh), (nI fu), pe, re, ab, li, da, yk, ya, yb, nm, kd, ls, im, sr, ad, oo, ol, ao, ap, ik, iv, ow, ce, oz, ck, ou) (nI 43) := by
  repeat first
    | refine br_t (by decide) ?_
    | refine br_f (by decide) ?_
  exact h
theorem ty145_44 {post : SY → Prop} (h : wY_builtin_145 post (nI 44) 0 (nI 0) (nI md) (nI mr) (nI mu) (nI mf) (nI ll) (nI lp) sv (nI d) (nI r) (nI w) en (nI n) (nI hc) (nI od) cu oy onm (nI cd) (nI oh) (nI fu) pe re ab li da yk ya yb nm kd ls im sr ad oo ol ao ap ik iv ow ce oz ck ou) : wpY_builtin post ((nI md), (nI mr), (nI mu), (nI mf), (nI ll), (nI lp), sv, (nI d), (nI r), (nI w), en, (nI n), (nI hc), (nI od), cu, oy, onm, (nI cd), (nI oh), (nI fu), pe, re, ab, li, da, yk, ya, yb, nm, kd, ls, im, sr, ad, oo, ol, ao, ap, ik, iv, ow, ce, oz, ck, ou) (nI 44) := by
  repeat first
    | refine br_t (by decide) ?_
    | refine br_f (by decide) ?_
  exact h
theorem ty145_45 {post : SY → Prop} (h : wY_builtin_145 post (nI 45) 0 (nI 0) (nI md) (nI mr) (nI mu) (nI mf) (nI ll) (nI lp) sv (nI d) (nI r) (nI w) en (nI n) (nI hc) (nI od) cu oy onm (nI cd) (nI oh) (nI fu) pe re ab li da yk ya yb nm kd ls im sr ad oo ol ao ap ik iv ow ce oz ck ou) : wpY_builtin post ((nI md), (nI mr), (nI mu), (nI mf), (nI ll), (nI lp), sv, (nI d), (nI r), (nI w), en, (nI n), (nI hc), (nI od), cu, oy, onm, (nI cd), (nI oh), (nI fu), pe, re, ab, li, da, yk, ya, yb, nm, kd, ls, im, sr, ad, oo, ol, ao, ap, ik, iv, ow, ce, oz, ck, ou) (nI 45) := by
  repeat first
    | refine br_t (by decide) ?_
    | refine br_f (by decide) ?_
  exact h
theorem ty145_46 {post : SY → Prop} (h : wY_builtin_145 post (nI 46) 0 (nI 0) (nI md) (nI mr) (nI mu) (nI mf) (nI ll) (nI lp) sv (nI d) (nI r) (nI w) en (nI n) (nI hc) (nI od) cu oy onm (nI cd) (nI oh) (nI fu) pe re ab li da yk ya yb nm kd ls im sr ad oo ol ao ap ik iv ow ce oz ck ou) : wpY_builtin post ((nI md), (nI mr), (nI mu), (nI mf), (nI ll), (nI lp), sv, (nI d), (nI r), (nI w), en, (nI n), (nI hc), (nI od), cu, oy, onm, (nI cd), (nI oh), (nI fu), pe, re, ab, li, da, yk, ya, yb, nm, kd, ls, im, sr, ad, oo, ol, ao, ap, ik, iv, ow, ce, oz, ck, ou) (nI 46) := by
  repeat first
    | refine br_t (by decide) ?_
    | refine br_f (by decide) ?_
  exact h
theorem ty145_47 {post : SY → Prop} (h : wY_builtin_145 post (nI 47) 0 (nI 0) (nI md) (nI mr) (nI mu) (nI mf) (nI ll) (nI lp) sv (nI d) (nI r) (nI w) en (nI n) (nI hc) (nI od) cu oy onm (nI cd) (nI oh) (nI fu) pe re ab li da yk ya yb nm kd ls im sr ad oo ol ao ap ik iv ow ce oz ck ou) : wpY_builtin post ((nI md), (nI mr), (nI mu), (nI mf), (nI ll), (nI lp), sv, (nI d), (nI r), (nI w), en, (nI n), (nI hc), (nI od), cu, oy, onm, (nI cd), (nI oh), (nI fu), pe, re, ab, li, da, yk, ya, yb, nm, kd, ls, im, sr, ad, oo, ol, ao, ap, ik, iv, ow, ce, oz, ck, ou) (nI 47) := by
  repeat first
    | refine br_t (by decide) ?_
    | refine br_f (by decide) ?_
  exact h
theorem ty145_48 {post : SY → Prop} (h : wY_builtin_145 post (nI 48) 0 (nI 1) (nI md) (nI mr) (nI mu) (nI mf) (nI ll) (nI lp) sv (nI d) (nI r) (nI w) en (nI n) (nI hc) (nI od) cu oy onm (nI cd) (nI oh) (nI fu) pe re ab li da yk ya yb nm kd ls im sr ad oo ol ao ap ik iv ow ce oz ck ou) : wpY_builtin post ((nI md), (nI mr), (nI mu), (nI mf), (nI ll), (nI lp), sv, (nI d), (nI r), (nI w), en, (nI n), (nI hc), (nI od), cu, oy, onm, (nI cd), (nI oh), (nI fu), pe, re, ab, li, da, yk, ya, yb, nm, kd, ls, im, sr, ad, oo, ol, ao, ap, ik, iv, ow, ce, oz, ck, ou) (nI 48) := by
  repeat first
    | refine br_t (by decide) ?_
    | refine br_f (by decide) ?_
  exact h
theorem ty145_49 {post : SY → Prop} (h : wY_builtin_145 post (nI 49) 0 (nI 0) (nI md) (nI mr) (nI mu) (nI mf) (nI ll) (nI lp) sv (nI d) (nI r) (nI w) en (nI n) (nI hc) (nI od) cu oy onm (nI cd) (nI oh) (nI fu) pe re ab li da yk ya yb nm kd ls im sr ad oo ol ao ap ik iv ow ce oz ck ou) : wpY_builtin post ((nI md), (nI mr), (nI mu), (nI mf), (nI ll), (nI lp), sv, (nI d), (nI r), (nI w), en, (nI n), (nI hc), (nI od), cu, oy, onm, (nI cd), (nI oh), (nI fu), pe, re, ab, li, da, yk, ya, yb, nm, kd, ls, im, sr, ad, oo, ol, ao, ap, ik, iv, ow, ce, oz, ck, ou) (nI 49) := by
  repeat first
    | refine br_t (by decide) ?_
    | refine br_f (by decide) ?_
  exact h
theorem ty145_50 {post : SY → Prop} (h : wY_builtin_145 post (nI 50) 0 (nI 0) (nI md) (nI mr) (nI mu) (nI mf) (nI ll) (nI lp) sv (nI d) (nI r) (nI w) en (nI n) (nI hc) (nI od) cu oy onm (nI cd) (nI oh) (nI fu) pe re ab li da yk ya yb nm kd ls im sr ad oo ol ao ap ik iv ow ce oz ck ou) : wpY_builtin post ((nI md), (nI mr), (nI mu), (nI mf), (nI ll), (nI lp), sv, (nI d), (nI r), (nI w), en, (nI n), (nI hc), (nI od), cu, oy, onm, (nI cd), (nI oh), (nI fu), pe, re, ab, li, da, yk, ya, yb, nm, kd, ls, im, sr, ad, oo, ol, ao, ap, ik, iv, ow, ce, oz, ck, ou) (nI 50) := by
  repeat first
    | refine br_t (by decide) ?_
    | refine br_f (by decide) ?_
  exact h
end
end
section
section
variable {md mr mu mf ll lp d r w n os cd hc oh od fu : Nat} {k1 k2 k3 k4 k5 k6 k7 k8 k9 tS tE en op co cu ip ie pe ab re oy sv : Int32} {tN onm : Int64} {li da rk ra rb rc kd ls im sr st we ad wo tk gv io ia ck ci ce ou ox yk ya yb oo ol ao ap ik iv ow oz : Nat → Int32} {nm : Nat → Int64} {lo : Nat}
theorem tf_B_d {d' : Nat} (h : tf_B md mr mu mf ll d r w n cd hc oh od) (h2 : d' ≤ md) : tf_B md mr mu mf ll d' r w n cd hc oh od := by
  unfold tf_B at h ⊢
  omega
theorem tw_0 {p : Nat} (F : (tf_F p md mr mu mf ll d r w n os cd hc oh od op co oy onm li nm kd im ad st we wo oo ol ao ap tk gv io ia ik iv ow ck ci ox oz lp fu ip ie rk ra rb rc yk ya yb lo)) : tf_OB lo (p + 2 * d + 1) 0 (k1, k2, k3, k4, k5, k6, k7, k8, k9, (nI md), (nI mr), (nI mu), (nI mf), (nI ll), (nI lp), tS, tE, tN, (nI d), (nI r), (nI w), en, (nI n), op, co, onm, (nI os), (nI cd), (nI hc), (nI oh), (nI od), cu, (nI fu), ip, ie, (-1), 0, re, li, da, rk, ra, rb, rc, nm, kd, ls, im, sr, st, we, ad, wo, tk, gv, io, ia, ck, ci, ce, ou, ox) ((nI md), (nI mr), (nI mu), (nI mf), (nI ll), (nI lp), sv, (nI d), (nI r), (nI w), en, (nI n), (nI hc), (nI od), cu, oy, onm, (nI cd), (nI oh), (nI fu), (-1), re, 0, li, da, yk, ya, yb, nm, kd, ls, im, sr, ad, oo, ol, ao, ap, ik, iv, ow, ce, oz, ck, ou) := by
  have hB := F.1.1
  have hB2 := hB
  unfold tf_B at hB2
  have hT := F.1.2.2.1 0 (by decide)
  refine tl_bi (t := 1) (g := 2) (gr := 1) F (by decide) hT.1 hT.2 (by decide) (by decide) (Or.inr ⟨rfl, rfl⟩) (fun post h => ty145_0 h) ?_
  intro b hb hg y x
  have hb' := hb
  subst hb'
  have e0 : nI (b + 1) - nI 1 = nI b := by rw [pk_sub (by omega), Nat.add_sub_cancel]
  refine ⟨(k1, k2, k3, k4, k5, k6, k7, k8, k9, (nI md), (nI mr), (nI mu), (nI mf), (nI ll), (nI lp), tS, tE, tN, (nI (b + 2)), (nI r), (nI w), en, (nI n), op, co, onm, (nI os), (nI cd), (nI hc), (nI oh), (nI od), cu, (nI fu), ip, ie, (-1), 0, re, li, (upd (upd da b (y)) (b + 1) (y)), rk, ra, rb, rc, nm, kd, ls, im, sr, st, we, ad, wo, tk, gv, io, ia, ck, ci, ce, ou, ox), ((nI md), (nI mr), (nI mu), (nI mf), (nI ll), (nI lp), sv, (nI (b + 2)), (nI r), (nI w), en, (nI n), (nI hc), (nI od), cu, oy, onm, (nI cd), (nI oh), (nI fu), (-1), re, 0, li, (upd (upd da b (y)) (b + 1) (y)), yk, ya, yb, nm, kd, ls, im, sr, ad, oo, ol, ao, ap, ik, iv, ow, ce, oz, ck, ou), tf_M_mono (p := p) (by omega) (Or.inl (tf_MR_in ⟨⟨tf_B_d hB (by omega), F.1.2⟩, F.2⟩)), fun post hp => nm_r e0 ?_, fun post hp e va ib _ _ _ => ?_⟩
  · repeat first
      | refine br_t (by decide) ?_
      | refine br_f (by decide) ?_
    exact (tx_push (by omega) (by omega) (tx_push (by omega) (by omega) hp))
  · repeat first
      | refine br_t (by decide) ?_
      | refine br_f (by decide) ?_
    exact (ty_push (by omega) (ty_push (by omega) hp))

theorem tw_1 {p : Nat} (F : (tf_F p md mr mu mf ll d r w n os cd hc oh od op co oy onm li nm kd im ad st we wo oo ol ao ap tk gv io ia ik iv ow ck ci ox oz lp fu ip ie rk ra rb rc yk ya yb lo)) : tf_OB lo (p + 2 * d + 1) 1 (k1, k2, k3, k4, k5, k6, k7, k8, k9, (nI md), (nI mr), (nI mu), (nI mf), (nI ll), (nI lp), tS, tE, tN, (nI d), (nI r), (nI w), en, (nI n), op, co, onm, (nI os), (nI cd), (nI hc), (nI oh), (nI od), cu, (nI fu), ip, ie, (-1), 0, re, li, da, rk, ra, rb, rc, nm, kd, ls, im, sr, st, we, ad, wo, tk, gv, io, ia, ck, ci, ce, ou, ox) ((nI md), (nI mr), (nI mu), (nI mf), (nI ll), (nI lp), sv, (nI d), (nI r), (nI w), en, (nI n), (nI hc), (nI od), cu, oy, onm, (nI cd), (nI oh), (nI fu), (-1), re, 0, li, da, yk, ya, yb, nm, kd, ls, im, sr, ad, oo, ol, ao, ap, ik, iv, ow, ce, oz, ck, ou) := by
  have hB := F.1.1
  have hB2 := hB
  unfold tf_B at hB2
  have hT := F.1.2.2.1 1 (by decide)
  refine tl_bi (t := 1) (g := 0) (gr := 0) F (by decide) hT.1 hT.2 (by decide) (by decide) (Or.inl ⟨rfl, by decide⟩) (fun post h => ty145_1 h) ?_
  intro b hb hg y x
  have hb' := hb
  subst hb'
  have e0 : nI (b + 1) - nI 1 = nI b := by rw [pk_sub (by omega), Nat.add_sub_cancel]
  refine ⟨(k1, k2, k3, k4, k5, k6, k7, k8, k9, (nI md), (nI mr), (nI mu), (nI mf), (nI ll), (nI lp), tS, tE, tN, (nI b), (nI r), (nI w), en, (nI n), op, co, onm, (nI os), (nI cd), (nI hc), (nI oh), (nI od), cu, (nI fu), ip, ie, (-1), 0, re, li, da, rk, ra, rb, rc, nm, kd, ls, im, sr, st, we, ad, wo, tk, gv, io, ia, ck, ci, ce, ou, ox), ((nI md), (nI mr), (nI mu), (nI mf), (nI ll), (nI lp), sv, (nI b), (nI r), (nI w), en, (nI n), (nI hc), (nI od), cu, oy, onm, (nI cd), (nI oh), (nI fu), (-1), re, 0, li, da, yk, ya, yb, nm, kd, ls, im, sr, ad, oo, ol, ao, ap, ik, iv, ow, ce, oz, ck, ou), tf_M_mono (p := p) (by omega) (Or.inl (tf_MR_in ⟨⟨tf_B_d hB (by omega), F.1.2⟩, F.2⟩)), fun post hp => nm_r e0 ?_, fun post hp e va ib _ _ _ => ?_⟩
  · repeat first
      | refine br_t (by decide) ?_
      | refine br_f (by decide) ?_
    exact hp
  · repeat first
      | refine br_t (by decide) ?_
      | refine br_f (by decide) ?_
    exact hp

theorem tw_2 {p : Nat} (F : (tf_F p md mr mu mf ll d r w n os cd hc oh od op co oy onm li nm kd im ad st we wo oo ol ao ap tk gv io ia ik iv ow ck ci ox oz lp fu ip ie rk ra rb rc yk ya yb lo)) : tf_OB lo (p + 2 * d + 1) 2 (k1, k2, k3, k4, k5, k6, k7, k8, k9, (nI md), (nI mr), (nI mu), (nI mf), (nI ll), (nI lp), tS, tE, tN, (nI d), (nI r), (nI w), en, (nI n), op, co, onm, (nI os), (nI cd), (nI hc), (nI oh), (nI od), cu, (nI fu), ip, ie, (-1), 0, re, li, da, rk, ra, rb, rc, nm, kd, ls, im, sr, st, we, ad, wo, tk, gv, io, ia, ck, ci, ce, ou, ox) ((nI md), (nI mr), (nI mu), (nI mf), (nI ll), (nI lp), sv, (nI d), (nI r), (nI w), en, (nI n), (nI hc), (nI od), cu, oy, onm, (nI cd), (nI oh), (nI fu), (-1), re, 0, li, da, yk, ya, yb, nm, kd, ls, im, sr, ad, oo, ol, ao, ap, ik, iv, ow, ce, oz, ck, ou) := by
  have hB := F.1.1
  have hB2 := hB
  unfold tf_B at hB2
  have hT := F.1.2.2.1 2 (by decide)
  refine tl_bi (t := 2) (g := 2) (gr := 0) F (by decide) hT.1 hT.2 (by decide) (by decide) (Or.inl ⟨rfl, by decide⟩) (fun post h => ty145_2 h) ?_
  intro b hb hg y x
  have hb' := hb
  subst hb'
  have e0 : nI (b + 2) - nI 2 = nI b := by rw [pk_sub (by omega), Nat.add_sub_cancel]
  refine ⟨(k1, k2, k3, k4, k5, k6, k7, k8, k9, (nI md), (nI mr), (nI mu), (nI mf), (nI ll), (nI lp), tS, tE, tN, (nI (b + 2)), (nI r), (nI w), en, (nI n), op, co, onm, (nI os), (nI cd), (nI hc), (nI oh), (nI od), cu, (nI fu), ip, ie, (-1), 0, re, li, (upd (upd da b (y)) (b + 1) (x)), rk, ra, rb, rc, nm, kd, ls, im, sr, st, we, ad, wo, tk, gv, io, ia, ck, ci, ce, ou, ox), ((nI md), (nI mr), (nI mu), (nI mf), (nI ll), (nI lp), sv, (nI (b + 2)), (nI r), (nI w), en, (nI n), (nI hc), (nI od), cu, oy, onm, (nI cd), (nI oh), (nI fu), (-1), re, 0, li, (upd (upd da b (y)) (b + 1) (x)), yk, ya, yb, nm, kd, ls, im, sr, ad, oo, ol, ao, ap, ik, iv, ow, ce, oz, ck, ou), tf_M_mono (p := p) (by omega) (Or.inl (tf_MR_in ⟨⟨tf_B_d hB (by omega), F.1.2⟩, F.2⟩)), fun post hp => nm_r e0 ?_, fun post hp e va ib _ _ _ => ?_⟩
  · repeat first
      | refine br_t (by decide) ?_
      | refine br_f (by decide) ?_
    exact (tx_push (by omega) (by omega) (tx_push (by omega) (by omega) hp))
  · repeat first
      | refine br_t (by decide) ?_
      | refine br_f (by decide) ?_
    exact (ty_push (by omega) (ty_push (by omega) hp))

theorem tw_3 {p : Nat} (F : (tf_F p md mr mu mf ll d r w n os cd hc oh od op co oy onm li nm kd im ad st we wo oo ol ao ap tk gv io ia ik iv ow ck ci ox oz lp fu ip ie rk ra rb rc yk ya yb lo)) : tf_OB lo (p + 2 * d + 1) 3 (k1, k2, k3, k4, k5, k6, k7, k8, k9, (nI md), (nI mr), (nI mu), (nI mf), (nI ll), (nI lp), tS, tE, tN, (nI d), (nI r), (nI w), en, (nI n), op, co, onm, (nI os), (nI cd), (nI hc), (nI oh), (nI od), cu, (nI fu), ip, ie, (-1), 0, re, li, da, rk, ra, rb, rc, nm, kd, ls, im, sr, st, we, ad, wo, tk, gv, io, ia, ck, ci, ce, ou, ox) ((nI md), (nI mr), (nI mu), (nI mf), (nI ll), (nI lp), sv, (nI d), (nI r), (nI w), en, (nI n), (nI hc), (nI od), cu, oy, onm, (nI cd), (nI oh), (nI fu), (-1), re, 0, li, da, yk, ya, yb, nm, kd, ls, im, sr, ad, oo, ol, ao, ap, ik, iv, ow, ce, oz, ck, ou) := by
  have hB := F.1.1
  have hB2 := hB
  unfold tf_B at hB2
  have hT := F.1.2.2.1 3 (by decide)
  refine tl_bi (t := 2) (g := 3) (gr := 1) F (by decide) hT.1 hT.2 (by decide) (by decide) (Or.inr ⟨rfl, rfl⟩) (fun post h => ty145_3 h) ?_
  intro b hb hg y x
  have hb' := hb
  subst hb'
  have e0 : nI (b + 2) - nI 2 = nI b := by rw [pk_sub (by omega), Nat.add_sub_cancel]
  refine ⟨(k1, k2, k3, k4, k5, k6, k7, k8, k9, (nI md), (nI mr), (nI mu), (nI mf), (nI ll), (nI lp), tS, tE, tN, (nI (b + 3)), (nI r), (nI w), en, (nI n), op, co, onm, (nI os), (nI cd), (nI hc), (nI oh), (nI od), cu, (nI fu), ip, ie, (-1), 0, re, li, (upd (upd (upd da b (x)) (b + 1) (y)) (b + 2) (x)), rk, ra, rb, rc, nm, kd, ls, im, sr, st, we, ad, wo, tk, gv, io, ia, ck, ci, ce, ou, ox), ((nI md), (nI mr), (nI mu), (nI mf), (nI ll), (nI lp), sv, (nI (b + 3)), (nI r), (nI w), en, (nI n), (nI hc), (nI od), cu, oy, onm, (nI cd), (nI oh), (nI fu), (-1), re, 0, li, (upd (upd (upd da b (x)) (b + 1) (y)) (b + 2) (x)), yk, ya, yb, nm, kd, ls, im, sr, ad, oo, ol, ao, ap, ik, iv, ow, ce, oz, ck, ou), tf_M_mono (p := p) (by omega) (Or.inl (tf_MR_in ⟨⟨tf_B_d hB (by omega), F.1.2⟩, F.2⟩)), fun post hp => nm_r e0 ?_, fun post hp e va ib _ _ _ => ?_⟩
  · repeat first
      | refine br_t (by decide) ?_
      | refine br_f (by decide) ?_
    exact (tx_push (by omega) (by omega) (tx_push (by omega) (by omega) (tx_push (by omega) (by omega) hp)))
  · repeat first
      | refine br_t (by decide) ?_
      | refine br_f (by decide) ?_
    exact (ty_push (by omega) (ty_push (by omega) (ty_push (by omega) hp)))

theorem tw_4 {p : Nat} (F : (tf_F p md mr mu mf ll d r w n os cd hc oh od op co oy onm li nm kd im ad st we wo oo ol ao ap tk gv io ia ik iv ow ck ci ox oz lp fu ip ie rk ra rb rc yk ya yb lo)) : tf_OB lo (p + 2 * d + 1) 4 (k1, k2, k3, k4, k5, k6, k7, k8, k9, (nI md), (nI mr), (nI mu), (nI mf), (nI ll), (nI lp), tS, tE, tN, (nI d), (nI r), (nI w), en, (nI n), op, co, onm, (nI os), (nI cd), (nI hc), (nI oh), (nI od), cu, (nI fu), ip, ie, (-1), 0, re, li, da, rk, ra, rb, rc, nm, kd, ls, im, sr, st, we, ad, wo, tk, gv, io, ia, ck, ci, ce, ou, ox) ((nI md), (nI mr), (nI mu), (nI mf), (nI ll), (nI lp), sv, (nI d), (nI r), (nI w), en, (nI n), (nI hc), (nI od), cu, oy, onm, (nI cd), (nI oh), (nI fu), (-1), re, 0, li, da, yk, ya, yb, nm, kd, ls, im, sr, ad, oo, ol, ao, ap, ik, iv, ow, ce, oz, ck, ou) := by
  have hB := F.1.1
  have hB2 := hB
  unfold tf_B at hB2
  have hT := F.1.2.2.1 4 (by decide)
  refine tl_bi (t := 2) (g := 1) (gr := 0) F (by decide) hT.1 hT.2 (by decide) (by decide) (Or.inl ⟨rfl, by decide⟩) (fun post h => ty145_4 h) ?_
  intro b hb hg y x
  have hb' := hb
  subst hb'
  have e0 : nI (b + 2) - nI 2 = nI b := by rw [pk_sub (by omega), Nat.add_sub_cancel]
  refine ⟨(k1, k2, k3, k4, k5, k6, k7, k8, k9, (nI md), (nI mr), (nI mu), (nI mf), (nI ll), (nI lp), tS, tE, tN, (nI (b + 1)), (nI r), (nI w), en, (nI n), op, co, onm, (nI os), (nI cd), (nI hc), (nI oh), (nI od), cu, (nI fu), ip, ie, (-1), 0, re, li, (upd da b (x + y)), rk, ra, rb, rc, nm, kd, ls, im, sr, st, we, ad, wo, tk, gv, io, ia, ck, ci, ce, ou, ox), ((nI md), (nI mr), (nI mu), (nI mf), (nI ll), (nI lp), sv, (nI (b + 1)), (nI r), (nI w), en, (nI n), (nI hc), (nI od), cu, oy, onm, (nI cd), (nI oh), (nI fu), (-1), re, 0, li, (upd da b (x + y)), yk, ya, yb, nm, kd, ls, im, sr, ad, oo, ol, ao, ap, ik, iv, ow, ce, oz, ck, ou), tf_M_mono (p := p) (by omega) (Or.inl (tf_MR_in ⟨⟨tf_B_d hB (by omega), F.1.2⟩, F.2⟩)), fun post hp => nm_r e0 ?_, fun post hp e va ib _ _ _ => ?_⟩
  · repeat first
      | refine br_t (by decide) ?_
      | refine br_f (by decide) ?_
    exact (tx_push (by omega) (by omega) hp)
  · repeat first
      | refine br_t (by decide) ?_
      | refine br_f (by decide) ?_
    exact (ty_push (by omega) hp)

theorem tw_5 {p : Nat} (F : (tf_F p md mr mu mf ll d r w n os cd hc oh od op co oy onm li nm kd im ad st we wo oo ol ao ap tk gv io ia ik iv ow ck ci ox oz lp fu ip ie rk ra rb rc yk ya yb lo)) : tf_OB lo (p + 2 * d + 1) 5 (k1, k2, k3, k4, k5, k6, k7, k8, k9, (nI md), (nI mr), (nI mu), (nI mf), (nI ll), (nI lp), tS, tE, tN, (nI d), (nI r), (nI w), en, (nI n), op, co, onm, (nI os), (nI cd), (nI hc), (nI oh), (nI od), cu, (nI fu), ip, ie, (-1), 0, re, li, da, rk, ra, rb, rc, nm, kd, ls, im, sr, st, we, ad, wo, tk, gv, io, ia, ck, ci, ce, ou, ox) ((nI md), (nI mr), (nI mu), (nI mf), (nI ll), (nI lp), sv, (nI d), (nI r), (nI w), en, (nI n), (nI hc), (nI od), cu, oy, onm, (nI cd), (nI oh), (nI fu), (-1), re, 0, li, da, yk, ya, yb, nm, kd, ls, im, sr, ad, oo, ol, ao, ap, ik, iv, ow, ce, oz, ck, ou) := by
  have hB := F.1.1
  have hB2 := hB
  unfold tf_B at hB2
  have hT := F.1.2.2.1 5 (by decide)
  refine tl_bi (t := 2) (g := 1) (gr := 0) F (by decide) hT.1 hT.2 (by decide) (by decide) (Or.inl ⟨rfl, by decide⟩) (fun post h => ty145_5 h) ?_
  intro b hb hg y x
  have hb' := hb
  subst hb'
  have e0 : nI (b + 2) - nI 2 = nI b := by rw [pk_sub (by omega), Nat.add_sub_cancel]
  refine ⟨(k1, k2, k3, k4, k5, k6, k7, k8, k9, (nI md), (nI mr), (nI mu), (nI mf), (nI ll), (nI lp), tS, tE, tN, (nI (b + 1)), (nI r), (nI w), en, (nI n), op, co, onm, (nI os), (nI cd), (nI hc), (nI oh), (nI od), cu, (nI fu), ip, ie, (-1), 0, re, li, (upd da b (x - y)), rk, ra, rb, rc, nm, kd, ls, im, sr, st, we, ad, wo, tk, gv, io, ia, ck, ci, ce, ou, ox), ((nI md), (nI mr), (nI mu), (nI mf), (nI ll), (nI lp), sv, (nI (b + 1)), (nI r), (nI w), en, (nI n), (nI hc), (nI od), cu, oy, onm, (nI cd), (nI oh), (nI fu), (-1), re, 0, li, (upd da b (x - y)), yk, ya, yb, nm, kd, ls, im, sr, ad, oo, ol, ao, ap, ik, iv, ow, ce, oz, ck, ou), tf_M_mono (p := p) (by omega) (Or.inl (tf_MR_in ⟨⟨tf_B_d hB (by omega), F.1.2⟩, F.2⟩)), fun post hp => nm_r e0 ?_, fun post hp e va ib _ _ _ => ?_⟩
  · repeat first
      | refine br_t (by decide) ?_
      | refine br_f (by decide) ?_
    exact (tx_push (by omega) (by omega) hp)
  · repeat first
      | refine br_t (by decide) ?_
      | refine br_f (by decide) ?_
    exact (ty_push (by omega) hp)

theorem tw_6 {p : Nat} (F : (tf_F p md mr mu mf ll d r w n os cd hc oh od op co oy onm li nm kd im ad st we wo oo ol ao ap tk gv io ia ik iv ow ck ci ox oz lp fu ip ie rk ra rb rc yk ya yb lo)) : tf_OB lo (p + 2 * d + 1) 6 (k1, k2, k3, k4, k5, k6, k7, k8, k9, (nI md), (nI mr), (nI mu), (nI mf), (nI ll), (nI lp), tS, tE, tN, (nI d), (nI r), (nI w), en, (nI n), op, co, onm, (nI os), (nI cd), (nI hc), (nI oh), (nI od), cu, (nI fu), ip, ie, (-1), 0, re, li, da, rk, ra, rb, rc, nm, kd, ls, im, sr, st, we, ad, wo, tk, gv, io, ia, ck, ci, ce, ou, ox) ((nI md), (nI mr), (nI mu), (nI mf), (nI ll), (nI lp), sv, (nI d), (nI r), (nI w), en, (nI n), (nI hc), (nI od), cu, oy, onm, (nI cd), (nI oh), (nI fu), (-1), re, 0, li, da, yk, ya, yb, nm, kd, ls, im, sr, ad, oo, ol, ao, ap, ik, iv, ow, ce, oz, ck, ou) := by
  have hB := F.1.1
  have hB2 := hB
  unfold tf_B at hB2
  have hT := F.1.2.2.1 6 (by decide)
  refine tl_bi (t := 2) (g := 1) (gr := 0) F (by decide) hT.1 hT.2 (by decide) (by decide) (Or.inl ⟨rfl, by decide⟩) (fun post h => ty145_6 h) ?_
  intro b hb hg y x
  have hb' := hb
  subst hb'
  have e0 : nI (b + 2) - nI 2 = nI b := by rw [pk_sub (by omega), Nat.add_sub_cancel]
  refine ⟨(k1, k2, k3, k4, k5, k6, k7, k8, k9, (nI md), (nI mr), (nI mu), (nI mf), (nI ll), (nI lp), tS, tE, tN, (nI (b + 1)), (nI r), (nI w), en, (nI n), op, co, onm, (nI os), (nI cd), (nI hc), (nI oh), (nI od), cu, (nI fu), ip, ie, (-1), 0, re, li, (upd da b (x * y)), rk, ra, rb, rc, nm, kd, ls, im, sr, st, we, ad, wo, tk, gv, io, ia, ck, ci, ce, ou, ox), ((nI md), (nI mr), (nI mu), (nI mf), (nI ll), (nI lp), sv, (nI (b + 1)), (nI r), (nI w), en, (nI n), (nI hc), (nI od), cu, oy, onm, (nI cd), (nI oh), (nI fu), (-1), re, 0, li, (upd da b (x * y)), yk, ya, yb, nm, kd, ls, im, sr, ad, oo, ol, ao, ap, ik, iv, ow, ce, oz, ck, ou), tf_M_mono (p := p) (by omega) (Or.inl (tf_MR_in ⟨⟨tf_B_d hB (by omega), F.1.2⟩, F.2⟩)), fun post hp => nm_r e0 ?_, fun post hp e va ib _ _ _ => ?_⟩
  · repeat first
      | refine br_t (by decide) ?_
      | refine br_f (by decide) ?_
    exact (tx_push (by omega) (by omega) hp)
  · repeat first
      | refine br_t (by decide) ?_
      | refine br_f (by decide) ?_
    exact (ty_push (by omega) hp)

theorem tw_10 {p : Nat} (F : (tf_F p md mr mu mf ll d r w n os cd hc oh od op co oy onm li nm kd im ad st we wo oo ol ao ap tk gv io ia ik iv ow ck ci ox oz lp fu ip ie rk ra rb rc yk ya yb lo)) : tf_OB lo (p + 2 * d + 1) 10 (k1, k2, k3, k4, k5, k6, k7, k8, k9, (nI md), (nI mr), (nI mu), (nI mf), (nI ll), (nI lp), tS, tE, tN, (nI d), (nI r), (nI w), en, (nI n), op, co, onm, (nI os), (nI cd), (nI hc), (nI oh), (nI od), cu, (nI fu), ip, ie, (-1), 0, re, li, da, rk, ra, rb, rc, nm, kd, ls, im, sr, st, we, ad, wo, tk, gv, io, ia, ck, ci, ce, ou, ox) ((nI md), (nI mr), (nI mu), (nI mf), (nI ll), (nI lp), sv, (nI d), (nI r), (nI w), en, (nI n), (nI hc), (nI od), cu, oy, onm, (nI cd), (nI oh), (nI fu), (-1), re, 0, li, da, yk, ya, yb, nm, kd, ls, im, sr, ad, oo, ol, ao, ap, ik, iv, ow, ce, oz, ck, ou) := by
  have hB := F.1.1
  have hB2 := hB
  unfold tf_B at hB2
  have hT := F.1.2.2.1 10 (by decide)
  refine tl_bi (t := 2) (g := 1) (gr := 0) F (by decide) hT.1 hT.2 (by decide) (by decide) (Or.inl ⟨rfl, by decide⟩) (fun post h => ty145_10 h) ?_
  intro b hb hg y x
  have hb' := hb
  subst hb'
  have e0 : nI (b + 2) - nI 2 = nI b := by rw [pk_sub (by omega), Nat.add_sub_cancel]
  refine ⟨(k1, k2, k3, k4, k5, k6, k7, k8, k9, (nI md), (nI mr), (nI mu), (nI mf), (nI ll), (nI lp), tS, tE, tN, (nI (b + 1)), (nI r), (nI w), en, (nI n), op, co, onm, (nI os), (nI cd), (nI hc), (nI oh), (nI od), cu, (nI fu), ip, ie, (-1), 0, re, li, (upd da b (x &&& y)), rk, ra, rb, rc, nm, kd, ls, im, sr, st, we, ad, wo, tk, gv, io, ia, ck, ci, ce, ou, ox), ((nI md), (nI mr), (nI mu), (nI mf), (nI ll), (nI lp), sv, (nI (b + 1)), (nI r), (nI w), en, (nI n), (nI hc), (nI od), cu, oy, onm, (nI cd), (nI oh), (nI fu), (-1), re, 0, li, (upd da b (x &&& y)), yk, ya, yb, nm, kd, ls, im, sr, ad, oo, ol, ao, ap, ik, iv, ow, ce, oz, ck, ou), tf_M_mono (p := p) (by omega) (Or.inl (tf_MR_in ⟨⟨tf_B_d hB (by omega), F.1.2⟩, F.2⟩)), fun post hp => nm_r e0 ?_, fun post hp e va ib _ _ _ => ?_⟩
  · repeat first
      | refine br_t (by decide) ?_
      | refine br_f (by decide) ?_
    exact (tx_push (by omega) (by omega) hp)
  · repeat first
      | refine br_t (by decide) ?_
      | refine br_f (by decide) ?_
    exact (ty_push (by omega) hp)

theorem tw_11 {p : Nat} (F : (tf_F p md mr mu mf ll d r w n os cd hc oh od op co oy onm li nm kd im ad st we wo oo ol ao ap tk gv io ia ik iv ow ck ci ox oz lp fu ip ie rk ra rb rc yk ya yb lo)) : tf_OB lo (p + 2 * d + 1) 11 (k1, k2, k3, k4, k5, k6, k7, k8, k9, (nI md), (nI mr), (nI mu), (nI mf), (nI ll), (nI lp), tS, tE, tN, (nI d), (nI r), (nI w), en, (nI n), op, co, onm, (nI os), (nI cd), (nI hc), (nI oh), (nI od), cu, (nI fu), ip, ie, (-1), 0, re, li, da, rk, ra, rb, rc, nm, kd, ls, im, sr, st, we, ad, wo, tk, gv, io, ia, ck, ci, ce, ou, ox) ((nI md), (nI mr), (nI mu), (nI mf), (nI ll), (nI lp), sv, (nI d), (nI r), (nI w), en, (nI n), (nI hc), (nI od), cu, oy, onm, (nI cd), (nI oh), (nI fu), (-1), re, 0, li, da, yk, ya, yb, nm, kd, ls, im, sr, ad, oo, ol, ao, ap, ik, iv, ow, ce, oz, ck, ou) := by
  have hB := F.1.1
  have hB2 := hB
  unfold tf_B at hB2
  have hT := F.1.2.2.1 11 (by decide)
  refine tl_bi (t := 0) (g := 1) (gr := 1) F (by decide) hT.1 hT.2 (by decide) (by decide) (Or.inr ⟨rfl, rfl⟩) (fun post h => ty145_11 h) ?_
  intro b hb hg y x
  have hb' : b = d := hb.symm
  subst hb'
  have e0 : nI (b + 0) - nI 0 = nI b := by rw [pk_sub (by omega), Nat.add_sub_cancel]
  refine ⟨(k1, k2, k3, k4, k5, k6, k7, k8, k9, (nI md), (nI mr), (nI mu), (nI mf), (nI ll), (nI lp), tS, tE, tN, (nI (b + 1)), (nI r), (nI w), en, (nI n), op, co, onm, (nI os), (nI cd), (nI hc), (nI oh), (nI od), cu, (nI fu), ip, ie, (-1), 0, re, li, (upd da b (nI b)), rk, ra, rb, rc, nm, kd, ls, im, sr, st, we, ad, wo, tk, gv, io, ia, ck, ci, ce, ou, ox), ((nI md), (nI mr), (nI mu), (nI mf), (nI ll), (nI lp), sv, (nI (b + 1)), (nI r), (nI w), en, (nI n), (nI hc), (nI od), cu, oy, onm, (nI cd), (nI oh), (nI fu), (-1), re, 0, li, (upd da b (nI b)), yk, ya, yb, nm, kd, ls, im, sr, ad, oo, ol, ao, ap, ik, iv, ow, ce, oz, ck, ou), tf_M_mono (p := p) (by omega) (Or.inl (tf_MR_in ⟨⟨tf_B_d hB (by omega), F.1.2⟩, F.2⟩)), fun post hp => nm_r e0 ?_, fun post hp e va ib _ _ _ => ?_⟩
  · repeat first
      | refine br_t (by decide) ?_
      | refine br_f (by decide) ?_
    exact (tx_push (by omega) (by omega) hp)
  · repeat first
      | refine br_t (by decide) ?_
      | refine br_f (by decide) ?_
    exact (ty_push (by omega) hp)

theorem tw_19 {p : Nat} (F : (tf_F p md mr mu mf ll d r w n os cd hc oh od op co oy onm li nm kd im ad st we wo oo ol ao ap tk gv io ia ik iv ow ck ci ox oz lp fu ip ie rk ra rb rc yk ya yb lo)) : tf_OB lo (p + 2 * d + 1) 19 (k1, k2, k3, k4, k5, k6, k7, k8, k9, (nI md), (nI mr), (nI mu), (nI mf), (nI ll), (nI lp), tS, tE, tN, (nI d), (nI r), (nI w), en, (nI n), op, co, onm, (nI os), (nI cd), (nI hc), (nI oh), (nI od), cu, (nI fu), ip, ie, (-1), 0, re, li, da, rk, ra, rb, rc, nm, kd, ls, im, sr, st, we, ad, wo, tk, gv, io, ia, ck, ci, ce, ou, ox) ((nI md), (nI mr), (nI mu), (nI mf), (nI ll), (nI lp), sv, (nI d), (nI r), (nI w), en, (nI n), (nI hc), (nI od), cu, oy, onm, (nI cd), (nI oh), (nI fu), (-1), re, 0, li, da, yk, ya, yb, nm, kd, ls, im, sr, ad, oo, ol, ao, ap, ik, iv, ow, ce, oz, ck, ou) := by
  have hB := F.1.1
  have hB2 := hB
  unfold tf_B at hB2
  have hT := F.1.2.2.1 19 (by decide)
  refine tl_bi (t := 0) (g := 1) (gr := 1) F (by decide) hT.1 hT.2 (by decide) (by decide) (Or.inr ⟨rfl, rfl⟩) (fun post h => ty145_19 h) ?_
  intro b hb hg y x
  have hb' : b = d := hb.symm
  subst hb'
  have e0 : nI (b + 0) - nI 0 = nI b := by rw [pk_sub (by omega), Nat.add_sub_cancel]
  refine ⟨(k1, k2, k3, k4, k5, k6, k7, k8, k9, (nI md), (nI mr), (nI mu), (nI mf), (nI ll), (nI lp), tS, tE, tN, (nI (b + 1)), (nI r), (nI w), en, (nI n), op, co, onm, (nI os), (nI cd), (nI hc), (nI oh), (nI od), cu, (nI fu), ip, ie, (-1), 0, re, li, (upd da b (nI hc)), rk, ra, rb, rc, nm, kd, ls, im, sr, st, we, ad, wo, tk, gv, io, ia, ck, ci, ce, ou, ox), ((nI md), (nI mr), (nI mu), (nI mf), (nI ll), (nI lp), sv, (nI (b + 1)), (nI r), (nI w), en, (nI n), (nI hc), (nI od), cu, oy, onm, (nI cd), (nI oh), (nI fu), (-1), re, 0, li, (upd da b (nI hc)), yk, ya, yb, nm, kd, ls, im, sr, ad, oo, ol, ao, ap, ik, iv, ow, ce, oz, ck, ou), tf_M_mono (p := p) (by omega) (Or.inl (tf_MR_in ⟨⟨tf_B_d hB (by omega), F.1.2⟩, F.2⟩)), fun post hp => nm_r e0 ?_, fun post hp e va ib _ _ _ => ?_⟩
  · repeat first
      | refine br_t (by decide) ?_
      | refine br_f (by decide) ?_
    exact (tx_push (by omega) (by omega) hp)
  · repeat first
      | refine br_t (by decide) ?_
      | refine br_f (by decide) ?_
    exact (ty_push (by omega) hp)

end
end
section
def tf_in (m : Nat) (y : Int32) : Prop := ∃ c : Nat, c < m ∧ y = nI c
theorem tf_va1 {m : Nat} {y va : Int32} (hm : m < 2 ^ 31) (h : tf_va m y va) (hi : tf_in m y) : va = 1 := by
  rcases h with ⟨e, _⟩ | ⟨_, e⟩
  · exact e
  · obtain ⟨c, h1, h2⟩ := hi
    subst h2
    rcases e with e | ⟨_, e⟩
    · exact absurd e (nI_pos (by omega))
    · exact absurd e (nI_ge h1 hm)
theorem tf_va0 {m : Nat} {y va : Int32} (h : tf_va m y va) (hi : ¬ tf_in m y) : va = 0 := by
  rcases h with ⟨_, e⟩ | ⟨e, _⟩
  · exact absurd e hi
  · exact e
theorem tf_in_lt {m : Nat} {y : Int32} (hm : m < 2 ^ 31) (hi : tf_in m y) : ¬ y < 0 ∧ y < nI m ∧ 0 ≤ y := by
  obtain ⟨c, h1, h2⟩ := hi
  subst h2
  exact ⟨nI_pos (by omega), nI_lt h1 hm, nI_pos' (by omega)⟩
theorem tf_nin {m : Nat} {y : Int32} (hm : m < 2 ^ 31) (hi : ¬ tf_in m y) : y < 0 ∨ (¬ y < 0 ∧ ¬ y < nI m) := by
  by_cases h : y < 0
  · exact Or.inl h
  · refine Or.inr ⟨h, fun z => hi ?_⟩
    obtain ⟨c, h1, h2⟩ := nI_of h
    subst h2
    exact ⟨c, (nI_ltI h1 hm).mp z, rfl⟩
section
variable {md mr mu mf ll lp d r w n os cd hc oh od fu : Nat} {k1 k2 k3 k4 k5 k6 k7 k8 k9 tS tE en op co cu ip ie pe ab re oy sv : Int32} {tN onm : Int64} {li da rk ra rb rc kd ls im sr st we ad wo tk gv io ia ck ci ce ou ox yk ya yb oo ol ao ap ik iv ow oz : Nat → Int32} {nm : Nat → Int64} {lo : Nat}
theorem tf_B_dr {d' r' : Nat} (h : tf_B md mr mu mf ll d r w n cd hc oh od) (h2 : d' ≤ md) (h3 : r' ≤ mr) : tf_B md mr mu mf ll d' r' w n cd hc oh od := by
  unfold tf_B at h ⊢
  omega
theorem tw_7 {p : Nat} (F : (tf_F p md mr mu mf ll d r w n os cd hc oh od op co oy onm li nm kd im ad st we wo oo ol ao ap tk gv io ia ik iv ow ck ci ox oz lp fu ip ie rk ra rb rc yk ya yb lo)) : tf_OB lo (p + 2 * d + 1) 7 (k1, k2, k3, k4, k5, k6, k7, k8, k9, (nI md), (nI mr), (nI mu), (nI mf), (nI ll), (nI lp), tS, tE, tN, (nI d), (nI r), (nI w), en, (nI n), op, co, onm, (nI os), (nI cd), (nI hc), (nI oh), (nI od), cu, (nI fu), ip, ie, (-1), 0, re, li, da, rk, ra, rb, rc, nm, kd, ls, im, sr, st, we, ad, wo, tk, gv, io, ia, ck, ci, ce, ou, ox) ((nI md), (nI mr), (nI mu), (nI mf), (nI ll), (nI lp), sv, (nI d), (nI r), (nI w), en, (nI n), (nI hc), (nI od), cu, oy, onm, (nI cd), (nI oh), (nI fu), (-1), re, 0, li, da, yk, ya, yb, nm, kd, ls, im, sr, ad, oo, ol, ao, ap, ik, iv, ow, ce, oz, ck, ou) := by
  have hB := F.1.1
  have hB2 := hB
  unfold tf_B at hB2
  have hT := F.1.2.2.1 7 (by decide)
  refine tl_bi (t := 2) (g := 1) (gr := 0) F (by decide) hT.1 hT.2 (by decide) (by decide) (Or.inl ⟨rfl, by decide⟩) (fun post h => ty145_7 h) ?_
  intro b hb hg y x
  have hb' := hb
  subst hb'
  have e0 : nI (b + 2) - nI 2 = nI b := by rw [pk_sub (by omega), Nat.add_sub_cancel]
  by_cases hz : y = 0
  · obtain ⟨u', v', h1, h2, h3⟩ := tl_raise (d := b) ⟨⟨tf_B_d hB (by omega), F.1.2⟩, F.2⟩ (-10)
    refine ⟨u', v', tf_M_mono (by omega) h1, fun post hp => nm_r e0 ?_, fun post hp e va ib he hva hib => ?_⟩
    · repeat first
        | refine br_t (by decide) ?_
        | refine br_f (by decide) ?_
      exact br_t hz (h2 _ hp)
    · repeat first
        | refine br_t (by decide) ?_
        | refine br_f (by decide) ?_
      exact br_t hz (h3 _ hp)
  · refine ⟨(k1, k2, k3, k4, k5, k6, k7, k8, k9, (nI md), (nI mr), (nI mu), (nI mf), (nI ll), (nI lp), tS, tE, tN, (nI (b + 1)), (nI r), (nI w), en, (nI n), op, co, onm, (nI os), (nI cd), (nI hc), (nI oh), (nI od), cu, (nI fu), ip, ie, (-1), 0, re, li, (upd da b (x / y)), rk, ra, rb, rc, nm, kd, ls, im, sr, st, we, ad, wo, tk, gv, io, ia, ck, ci, ce, ou, ox), ((nI md), (nI mr), (nI mu), (nI mf), (nI ll), (nI lp), sv, (nI (b + 1)), (nI r), (nI w), en, (nI n), (nI hc), (nI od), cu, oy, onm, (nI cd), (nI oh), (nI fu), (-1), re, 0, li, (upd da b (x / y)), yk, ya, yb, nm, kd, ls, im, sr, ad, oo, ol, ao, ap, ik, iv, ow, ce, oz, ck, ou), tf_M_mono (p := p) (by omega) (Or.inl (tf_MR_in ⟨⟨tf_B_d hB (by omega), F.1.2⟩, F.2⟩)), fun post hp => nm_r e0 ?_, fun post hp e va ib _ _ _ => ?_⟩
    · repeat first
        | refine br_t (by decide) ?_
        | refine br_f (by decide) ?_
      exact br_f hz (And.intro hz (tx_push (by omega) (by omega) hp))
    · repeat first
        | refine br_t (by decide) ?_
        | refine br_f (by decide) ?_
      exact br_f hz (And.intro hz (ty_push (by omega) hp))

theorem tw_8 {p : Nat} (F : (tf_F p md mr mu mf ll d r w n os cd hc oh od op co oy onm li nm kd im ad st we wo oo ol ao ap tk gv io ia ik iv ow ck ci ox oz lp fu ip ie rk ra rb rc yk ya yb lo)) : tf_OB lo (p + 2 * d + 1) 8 (k1, k2, k3, k4, k5, k6, k7, k8, k9, (nI md), (nI mr), (nI mu), (nI mf), (nI ll), (nI lp), tS, tE, tN, (nI d), (nI r), (nI w), en, (nI n), op, co, onm, (nI os), (nI cd), (nI hc), (nI oh), (nI od), cu, (nI fu), ip, ie, (-1), 0, re, li, da, rk, ra, rb, rc, nm, kd, ls, im, sr, st, we, ad, wo, tk, gv, io, ia, ck, ci, ce, ou, ox) ((nI md), (nI mr), (nI mu), (nI mf), (nI ll), (nI lp), sv, (nI d), (nI r), (nI w), en, (nI n), (nI hc), (nI od), cu, oy, onm, (nI cd), (nI oh), (nI fu), (-1), re, 0, li, da, yk, ya, yb, nm, kd, ls, im, sr, ad, oo, ol, ao, ap, ik, iv, ow, ce, oz, ck, ou) := by
  have hB := F.1.1
  have hB2 := hB
  unfold tf_B at hB2
  have hT := F.1.2.2.1 8 (by decide)
  refine tl_bi (t := 2) (g := 1) (gr := 0) F (by decide) hT.1 hT.2 (by decide) (by decide) (Or.inl ⟨rfl, by decide⟩) (fun post h => ty145_8 h) ?_
  intro b hb hg y x
  have hb' := hb
  subst hb'
  have e0 : nI (b + 2) - nI 2 = nI b := by rw [pk_sub (by omega), Nat.add_sub_cancel]
  by_cases hz : y ≤ x
  · refine ⟨(k1, k2, k3, k4, k5, k6, k7, k8, k9, (nI md), (nI mr), (nI mu), (nI mf), (nI ll), (nI lp), tS, tE, tN, (nI (b + 1)), (nI r), (nI w), en, (nI n), op, co, onm, (nI os), (nI cd), (nI hc), (nI oh), (nI od), cu, (nI fu), ip, ie, (-1), 0, re, li, (upd da b (0)), rk, ra, rb, rc, nm, kd, ls, im, sr, st, we, ad, wo, tk, gv, io, ia, ck, ci, ce, ou, ox), ((nI md), (nI mr), (nI mu), (nI mf), (nI ll), (nI lp), sv, (nI (b + 1)), (nI r), (nI w), en, (nI n), (nI hc), (nI od), cu, oy, onm, (nI cd), (nI oh), (nI fu), (-1), re, 0, li, (upd da b (0)), yk, ya, yb, nm, kd, ls, im, sr, ad, oo, ol, ao, ap, ik, iv, ow, ce, oz, ck, ou), tf_M_mono (p := p) (by omega) (Or.inl (tf_MR_in ⟨⟨tf_B_d hB (by omega), F.1.2⟩, F.2⟩)), fun post hp => nm_r e0 ?_, fun post hp e va ib _ _ _ => ?_⟩
    · repeat first
        | refine br_t (by decide) ?_
        | refine br_f (by decide) ?_
      exact br_t hz (tx_push (by omega) (by omega) hp)
    · repeat first
        | refine br_t (by decide) ?_
        | refine br_f (by decide) ?_
      exact br_t hz (ty_push (by omega) hp)
  · refine ⟨(k1, k2, k3, k4, k5, k6, k7, k8, k9, (nI md), (nI mr), (nI mu), (nI mf), (nI ll), (nI lp), tS, tE, tN, (nI (b + 1)), (nI r), (nI w), en, (nI n), op, co, onm, (nI os), (nI cd), (nI hc), (nI oh), (nI od), cu, (nI fu), ip, ie, (-1), 0, re, li, (upd da b (-1)), rk, ra, rb, rc, nm, kd, ls, im, sr, st, we, ad, wo, tk, gv, io, ia, ck, ci, ce, ou, ox), ((nI md), (nI mr), (nI mu), (nI mf), (nI ll), (nI lp), sv, (nI (b + 1)), (nI r), (nI w), en, (nI n), (nI hc), (nI od), cu, oy, onm, (nI cd), (nI oh), (nI fu), (-1), re, 0, li, (upd da b (-1)), yk, ya, yb, nm, kd, ls, im, sr, ad, oo, ol, ao, ap, ik, iv, ow, ce, oz, ck, ou), tf_M_mono (p := p) (by omega) (Or.inl (tf_MR_in ⟨⟨tf_B_d hB (by omega), F.1.2⟩, F.2⟩)), fun post hp => nm_r e0 ?_, fun post hp e va ib _ _ _ => ?_⟩
    · repeat first
        | refine br_t (by decide) ?_
        | refine br_f (by decide) ?_
      exact br_f hz (tx_push (by omega) (by omega) hp)
    · repeat first
        | refine br_t (by decide) ?_
        | refine br_f (by decide) ?_
      exact br_f hz (ty_push (by omega) hp)

theorem tw_9 {p : Nat} (F : (tf_F p md mr mu mf ll d r w n os cd hc oh od op co oy onm li nm kd im ad st we wo oo ol ao ap tk gv io ia ik iv ow ck ci ox oz lp fu ip ie rk ra rb rc yk ya yb lo)) : tf_OB lo (p + 2 * d + 1) 9 (k1, k2, k3, k4, k5, k6, k7, k8, k9, (nI md), (nI mr), (nI mu), (nI mf), (nI ll), (nI lp), tS, tE, tN, (nI d), (nI r), (nI w), en, (nI n), op, co, onm, (nI os), (nI cd), (nI hc), (nI oh), (nI od), cu, (nI fu), ip, ie, (-1), 0, re, li, da, rk, ra, rb, rc, nm, kd, ls, im, sr, st, we, ad, wo, tk, gv, io, ia, ck, ci, ce, ou, ox) ((nI md), (nI mr), (nI mu), (nI mf), (nI ll), (nI lp), sv, (nI d), (nI r), (nI w), en, (nI n), (nI hc), (nI od), cu, oy, onm, (nI cd), (nI oh), (nI fu), (-1), re, 0, li, da, yk, ya, yb, nm, kd, ls, im, sr, ad, oo, ol, ao, ap, ik, iv, ow, ce, oz, ck, ou) := by
  have hB := F.1.1
  have hB2 := hB
  unfold tf_B at hB2
  have hT := F.1.2.2.1 9 (by decide)
  refine tl_bi (t := 2) (g := 1) (gr := 0) F (by decide) hT.1 hT.2 (by decide) (by decide) (Or.inl ⟨rfl, by decide⟩) (fun post h => ty145_9 h) ?_
  intro b hb hg y x
  have hb' := hb
  subst hb'
  have e0 : nI (b + 2) - nI 2 = nI b := by rw [pk_sub (by omega), Nat.add_sub_cancel]
  by_cases hz : x = y
  · refine ⟨(k1, k2, k3, k4, k5, k6, k7, k8, k9, (nI md), (nI mr), (nI mu), (nI mf), (nI ll), (nI lp), tS, tE, tN, (nI (b + 1)), (nI r), (nI w), en, (nI n), op, co, onm, (nI os), (nI cd), (nI hc), (nI oh), (nI od), cu, (nI fu), ip, ie, (-1), 0, re, li, (upd da b (-1)), rk, ra, rb, rc, nm, kd, ls, im, sr, st, we, ad, wo, tk, gv, io, ia, ck, ci, ce, ou, ox), ((nI md), (nI mr), (nI mu), (nI mf), (nI ll), (nI lp), sv, (nI (b + 1)), (nI r), (nI w), en, (nI n), (nI hc), (nI od), cu, oy, onm, (nI cd), (nI oh), (nI fu), (-1), re, 0, li, (upd da b (-1)), yk, ya, yb, nm, kd, ls, im, sr, ad, oo, ol, ao, ap, ik, iv, ow, ce, oz, ck, ou), tf_M_mono (p := p) (by omega) (Or.inl (tf_MR_in ⟨⟨tf_B_d hB (by omega), F.1.2⟩, F.2⟩)), fun post hp => nm_r e0 ?_, fun post hp e va ib _ _ _ => ?_⟩
    · repeat first
        | refine br_t (by decide) ?_
        | refine br_f (by decide) ?_
      exact br_t hz (tx_push (by omega) (by omega) hp)
    · repeat first
        | refine br_t (by decide) ?_
        | refine br_f (by decide) ?_
      exact br_t hz (ty_push (by omega) hp)
  · refine ⟨(k1, k2, k3, k4, k5, k6, k7, k8, k9, (nI md), (nI mr), (nI mu), (nI mf), (nI ll), (nI lp), tS, tE, tN, (nI (b + 1)), (nI r), (nI w), en, (nI n), op, co, onm, (nI os), (nI cd), (nI hc), (nI oh), (nI od), cu, (nI fu), ip, ie, (-1), 0, re, li, (upd da b (0)), rk, ra, rb, rc, nm, kd, ls, im, sr, st, we, ad, wo, tk, gv, io, ia, ck, ci, ce, ou, ox), ((nI md), (nI mr), (nI mu), (nI mf), (nI ll), (nI lp), sv, (nI (b + 1)), (nI r), (nI w), en, (nI n), (nI hc), (nI od), cu, oy, onm, (nI cd), (nI oh), (nI fu), (-1), re, 0, li, (upd da b (0)), yk, ya, yb, nm, kd, ls, im, sr, ad, oo, ol, ao, ap, ik, iv, ow, ce, oz, ck, ou), tf_M_mono (p := p) (by omega) (Or.inl (tf_MR_in ⟨⟨tf_B_d hB (by omega), F.1.2⟩, F.2⟩)), fun post hp => nm_r e0 ?_, fun post hp e va ib _ _ _ => ?_⟩
    · repeat first
        | refine br_t (by decide) ?_
        | refine br_f (by decide) ?_
      exact br_f hz (tx_push (by omega) (by omega) hp)
    · repeat first
        | refine br_t (by decide) ?_
        | refine br_f (by decide) ?_
      exact br_f hz (ty_push (by omega) hp)

theorem tw_12 {p : Nat} (F : (tf_F p md mr mu mf ll d r w n os cd hc oh od op co oy onm li nm kd im ad st we wo oo ol ao ap tk gv io ia ik iv ow ck ci ox oz lp fu ip ie rk ra rb rc yk ya yb lo)) : tf_OB lo (p + 2 * d + 1) 12 (k1, k2, k3, k4, k5, k6, k7, k8, k9, (nI md), (nI mr), (nI mu), (nI mf), (nI ll), (nI lp), tS, tE, tN, (nI d), (nI r), (nI w), en, (nI n), op, co, onm, (nI os), (nI cd), (nI hc), (nI oh), (nI od), cu, (nI fu), ip, ie, (-1), 0, re, li, da, rk, ra, rb, rc, nm, kd, ls, im, sr, st, we, ad, wo, tk, gv, io, ia, ck, ci, ce, ou, ox) ((nI md), (nI mr), (nI mu), (nI mf), (nI ll), (nI lp), sv, (nI d), (nI r), (nI w), en, (nI n), (nI hc), (nI od), cu, oy, onm, (nI cd), (nI oh), (nI fu), (-1), re, 0, li, da, yk, ya, yb, nm, kd, ls, im, sr, ad, oo, ol, ao, ap, ik, iv, ow, ce, oz, ck, ou) := by
  have hB := F.1.1
  have hB2 := hB
  unfold tf_B at hB2
  have hT := F.1.2.2.1 12 (by decide)
  refine tl_bi (t := 1) (g := 0) (gr := 0) F (by decide) hT.1 hT.2 (by decide) (by decide) (Or.inl ⟨rfl, by decide⟩) (fun post h => ty145_12 h) ?_
  intro b hb hg y x
  have hb' := hb
  subst hb'
  have e0 : nI (b + 1) - nI 1 = nI b := by rw [pk_sub (by omega), Nat.add_sub_cancel]
  rcases Nat.eq_zero_or_pos r with hr | hr
  · obtain ⟨u', v', h1, h2, h3⟩ := tl_raise (d := b) ⟨⟨tf_B_d hB (by omega), F.1.2⟩, F.2⟩ (-14)
    subst hr
    refine ⟨u', v', tf_M_mono (by omega) h1, fun post hp => nm_r e0 ?_, fun post hp e va ib he hva hib => ?_⟩
    · repeat first
        | refine br_t (by decide) ?_
        | refine br_f (by decide) ?_
      exact h2 _ hp
    · repeat first
        | refine br_t (by decide) ?_
        | refine br_f (by decide) ?_
      exact h3 _ hp
  · rcases Nat.lt_or_ge r mr with h | h
    · obtain ⟨f1, f2, q, hRS, hq⟩ := F.2
      refine ⟨(k1, k2, k3, k4, k5, k6, k7, k8, k9, (nI md), (nI mr), (nI mu), (nI mf), (nI ll), (nI lp), tS, tE, tN, (nI b), (nI (r+1)), (nI w), en, (nI n), op, co, onm, (nI os), (nI cd), (nI hc), (nI oh), (nI od), cu, (nI fu), ip, ie, (-1), 0, re, li, da, (upd rk r 1), (upd ra r y), (upd rb r 0), (upd rc r 0), nm, kd, ls, im, sr, st, we, ad, wo, tk, gv, io, ia, ck, ci, ce, ou, ox), ((nI md), (nI mr), (nI mu), (nI mf), (nI ll), (nI lp), sv, (nI b), (nI (r+1)), (nI w), en, (nI n), (nI hc), (nI od), cu, oy, onm, (nI cd), (nI oh), (nI fu), (-1), re, 0, li, da, (upd yk r 4), (upd ya r y), (upd yb r 0), nm, kd, ls, im, sr, ad, oo, ol, ao, ap, ik, iv, ow, ce, oz, ck, ou), tf_M_mono (p := p) (by omega) (Or.inl (tf_MR_in ⟨⟨tf_B_dr hB (by omega) (by omega), F.1.2⟩, f1, f2, q, tf_RS_value hr hRS, hq⟩)), fun post hp => nm_r e0 ?_, fun post hp e va ib _ _ _ => ?_⟩
      · repeat first
          | refine br_t (by decide) ?_
          | refine br_f (by decide) ?_
        exact br_f (nI_ne0 hr (by omega)) (br_t (nI_lt h (by omega)) (tx_pushR h (by omega) hp))
      · repeat first
          | refine br_t (by decide) ?_
          | refine br_f (by decide) ?_
        exact br_f (nI_ne0 hr (by omega)) (br_t (nI_lt h (by omega)) (ty_pushR (by omega) hp))
    · obtain ⟨u', v', h1, h2, h3⟩ := tl_raise (d := b) ⟨⟨tf_B_d hB (by omega), F.1.2⟩, F.2⟩ (-5)
      refine ⟨u', v', tf_M_mono (by omega) h1, fun post hp => nm_r e0 ?_, fun post hp e va ib he hva hib => ?_⟩
      · repeat first
          | refine br_t (by decide) ?_
          | refine br_f (by decide) ?_
        exact br_f (nI_ne0 hr (by omega)) (br_f (nI_nlt h (by omega)) (h2 _ hp))
      · repeat first
          | refine br_t (by decide) ?_
          | refine br_f (by decide) ?_
        exact br_f (nI_ne0 hr (by omega)) (br_f (nI_nlt h (by omega)) (h3 _ hp))

theorem tw_13 {p : Nat} (F : (tf_F p md mr mu mf ll d r w n os cd hc oh od op co oy onm li nm kd im ad st we wo oo ol ao ap tk gv io ia ik iv ow ck ci ox oz lp fu ip ie rk ra rb rc yk ya yb lo)) : tf_OB lo (p + 2 * d + 1) 13 (k1, k2, k3, k4, k5, k6, k7, k8, k9, (nI md), (nI mr), (nI mu), (nI mf), (nI ll), (nI lp), tS, tE, tN, (nI d), (nI r), (nI w), en, (nI n), op, co, onm, (nI os), (nI cd), (nI hc), (nI oh), (nI od), cu, (nI fu), ip, ie, (-1), 0, re, li, da, rk, ra, rb, rc, nm, kd, ls, im, sr, st, we, ad, wo, tk, gv, io, ia, ck, ci, ce, ou, ox) ((nI md), (nI mr), (nI mu), (nI mf), (nI ll), (nI lp), sv, (nI d), (nI r), (nI w), en, (nI n), (nI hc), (nI od), cu, oy, onm, (nI cd), (nI oh), (nI fu), (-1), re, 0, li, da, yk, ya, yb, nm, kd, ls, im, sr, ad, oo, ol, ao, ap, ik, iv, ow, ce, oz, ck, ou) := by
  have hB := F.1.1
  have hB2 := hB
  unfold tf_B at hB2
  have hT := F.1.2.2.1 13 (by decide)
  refine tl_bi (t := 0) (g := 1) (gr := 1) F (by decide) hT.1 hT.2 (by decide) (by decide) (Or.inr ⟨rfl, rfl⟩) (fun post h => ty145_13 h) ?_
  intro b hb hg y x
  have hb' : b = d := hb.symm
  subst hb'
  have e0 : nI (b + 0) - nI 0 = nI b := by rw [pk_sub (by omega), Nat.add_sub_cancel]
  rcases Nat.eq_zero_or_pos r with hr | hr
  · obtain ⟨u', v', h1, h2, h3⟩ := tl_raise (d := b) ⟨⟨tf_B_d hB (by omega), F.1.2⟩, F.2⟩ (-6)
    subst hr
    refine ⟨u', v', tf_M_mono (by omega) h1, fun post hp => nm_r e0 ?_, fun post hp e va ib he _ _ => ?_⟩
    · repeat first
        | refine br_t (by decide) ?_
        | refine br_f (by decide) ?_
      exact h2 _ hp
    · have he' : e = 0 := he
      subst he'
      repeat first
        | refine br_t (by decide) ?_
        | refine br_f (by decide) ?_
      exact h3 _ hp
  · obtain ⟨m, hm⟩ : ∃ m, r = m + 1 := ⟨r - 1, by omega⟩
    subst hm
    obtain ⟨f1, f2, q, hRS, hq⟩ := F.2
    rcases tf_RS_kinds hRS with ⟨a1, a2, a3, a4, a5⟩ | ⟨b1, b2, b3, b4, b5, b6⟩ | ⟨n1, n2, n3, n4⟩
    · refine ⟨(k1, k2, k3, k4, k5, k6, k7, k8, k9, (nI md), (nI mr), (nI mu), (nI mf), (nI ll), (nI lp), tS, tE, tN, (nI (b + 1)), (nI m), (nI w), en, (nI n), op, co, onm, (nI os), (nI cd), (nI hc), (nI oh), (nI od), cu, (nI fu), ip, ie, (-1), 0, re, li, (upd da b (ra m)), rk, ra, rb, rc, nm, kd, ls, im, sr, st, we, ad, wo, tk, gv, io, ia, ck, ci, ce, ou, ox), ((nI md), (nI mr), (nI mu), (nI mf), (nI ll), (nI lp), sv, (nI (b + 1)), (nI m), (nI w), en, (nI n), (nI hc), (nI od), cu, oy, onm, (nI cd), (nI oh), (nI fu), (-1), re, 0, li, (upd da b (ra m)), yk, ya, yb, nm, kd, ls, im, sr, ad, oo, ol, ao, ap, ik, iv, ow, ce, oz, ck, ou), tf_M_mono (p := p) (by omega) (Or.inl (tf_MR_in ⟨⟨tf_B_dr hB (by omega) (by omega), F.1.2⟩, f1, f2, q, a5, hq⟩)), fun post hp => nm_r e0 ?_, fun post hp e va ib he _ _ => ?_⟩
      · repeat first
          | refine br_t (by decide) ?_
          | refine br_f (by decide) ?_
        refine tx_trk (by omega) ?_
        repeat first
          | refine br_t (by decide) ?_
          | refine br_f (by decide) ?_
        refine br_t a1 ?_
        rw [nI_pred, nI_clamp (show m < 2 ^ 31 by omega)]
        refine And.intro (vp_in_nI (by omega) (by omega)) (tx_push (by omega) (by omega) ?_)
        repeat first
          | refine br_t (by decide) ?_
          | refine br_f (by decide) ?_
        exact nm_r (nI_pred m) hp
      · repeat first
          | refine br_t (by decide) ?_
          | refine br_f (by decide) ?_
        refine br_t (he.trans a2) ?_
        refine nm_r (nI_pred m) ?_
        rw [nI_clamp (show m < 2 ^ 31 by omega), ← a3]
        exact And.intro (vp_in_nI (by omega) (by omega)) (ty_push (by omega) hp)
    · obtain ⟨u', v', h1, h2, h3⟩ := tl_raise (d := b) ⟨⟨tf_B_d hB (by omega), F.1.2⟩, F.2⟩ (-6)
      refine ⟨u', v', tf_M_mono (by omega) h1, fun post hp => nm_r e0 ?_, fun post hp e va ib he _ _ => ?_⟩
      · repeat first
          | refine br_t (by decide) ?_
          | refine br_f (by decide) ?_
        refine tx_trk (by omega) ?_
        repeat first
          | refine br_t (by decide) ?_
          | refine br_f (by decide) ?_
        exact br_f (by rw [b1]; decide) (h2 _ hp)
      · repeat first
          | refine br_t (by decide) ?_
          | refine br_f (by decide) ?_
        exact br_f (fun z => (show ¬ yk m = 4 by rw [b2]; decide) (he.symm.trans z)) (h3 _ hp)
    · obtain ⟨u', v', h1, h2, h3⟩ := tl_raise (d := b) ⟨⟨tf_B_d hB (by omega), F.1.2⟩, F.2⟩ (-6)
      refine ⟨u', v', tf_M_mono (by omega) h1, fun post hp => nm_r e0 ?_, fun post hp e va ib he _ _ => ?_⟩
      · repeat first
          | refine br_t (by decide) ?_
          | refine br_f (by decide) ?_
        refine tx_trk (by omega) ?_
        repeat first
          | refine br_t (by decide) ?_
          | refine br_f (by decide) ?_
        exact br_f (n1) (h2 _ hp)
      · repeat first
          | refine br_t (by decide) ?_
          | refine br_f (by decide) ?_
        exact br_f (fun z => n3 (he.symm.trans z)) (h3 _ hp)

theorem tw_14 {p : Nat} (F : (tf_F p md mr mu mf ll d r w n os cd hc oh od op co oy onm li nm kd im ad st we wo oo ol ao ap tk gv io ia ik iv ow ck ci ox oz lp fu ip ie rk ra rb rc yk ya yb lo)) : tf_OB lo (p + 2 * d + 1) 14 (k1, k2, k3, k4, k5, k6, k7, k8, k9, (nI md), (nI mr), (nI mu), (nI mf), (nI ll), (nI lp), tS, tE, tN, (nI d), (nI r), (nI w), en, (nI n), op, co, onm, (nI os), (nI cd), (nI hc), (nI oh), (nI od), cu, (nI fu), ip, ie, (-1), 0, re, li, da, rk, ra, rb, rc, nm, kd, ls, im, sr, st, we, ad, wo, tk, gv, io, ia, ck, ci, ce, ou, ox) ((nI md), (nI mr), (nI mu), (nI mf), (nI ll), (nI lp), sv, (nI d), (nI r), (nI w), en, (nI n), (nI hc), (nI od), cu, oy, onm, (nI cd), (nI oh), (nI fu), (-1), re, 0, li, da, yk, ya, yb, nm, kd, ls, im, sr, ad, oo, ol, ao, ap, ik, iv, ow, ce, oz, ck, ou) := by
  have hB := F.1.1
  have hB2 := hB
  unfold tf_B at hB2
  have hT := F.1.2.2.1 14 (by decide)
  refine tl_bi (t := 0) (g := 1) (gr := 1) F (by decide) hT.1 hT.2 (by decide) (by decide) (Or.inr ⟨rfl, rfl⟩) (fun post h => ty145_14 h) ?_
  intro b hb hg y x
  have hb' : b = d := hb.symm
  subst hb'
  have e0 : nI (b + 0) - nI 0 = nI b := by rw [pk_sub (by omega), Nat.add_sub_cancel]
  rcases Nat.eq_zero_or_pos r with hr | hr
  · obtain ⟨u', v', h1, h2, h3⟩ := tl_raise (d := b) ⟨⟨tf_B_d hB (by omega), F.1.2⟩, F.2⟩ (-6)
    subst hr
    refine ⟨u', v', tf_M_mono (by omega) h1, fun post hp => nm_r e0 ?_, fun post hp e va ib he _ _ => ?_⟩
    · repeat first
        | refine br_t (by decide) ?_
        | refine br_f (by decide) ?_
      exact h2 _ hp
    · have he' : e = 0 := he
      subst he'
      repeat first
        | refine br_t (by decide) ?_
        | refine br_f (by decide) ?_
      exact h3 _ hp
  · obtain ⟨m, hm⟩ : ∃ m, r = m + 1 := ⟨r - 1, by omega⟩
    subst hm
    obtain ⟨f1, f2, q, hRS, hq⟩ := F.2
    rcases tf_RS_kinds hRS with ⟨a1, a2, a3, a4, a5⟩ | ⟨b1, b2, b3, b4, b5, b6⟩ | ⟨n1, n2, n3, n4⟩
    · refine ⟨(k1, k2, k3, k4, k5, k6, k7, k8, k9, (nI md), (nI mr), (nI mu), (nI mf), (nI ll), (nI lp), tS, tE, tN, (nI (b + 1)), (nI (m + 1)), (nI w), en, (nI n), op, co, onm, (nI os), (nI cd), (nI hc), (nI oh), (nI od), cu, (nI fu), ip, ie, (-1), 0, re, li, (upd da b (ra m)), rk, ra, rb, rc, nm, kd, ls, im, sr, st, we, ad, wo, tk, gv, io, ia, ck, ci, ce, ou, ox), ((nI md), (nI mr), (nI mu), (nI mf), (nI ll), (nI lp), sv, (nI (b + 1)), (nI (m + 1)), (nI w), en, (nI n), (nI hc), (nI od), cu, oy, onm, (nI cd), (nI oh), (nI fu), (-1), re, 0, li, (upd da b (ra m)), yk, ya, yb, nm, kd, ls, im, sr, ad, oo, ol, ao, ap, ik, iv, ow, ce, oz, ck, ou), tf_M_mono (p := p) (by omega) (Or.inl (tf_MR_in ⟨⟨tf_B_dr hB (by omega) (by omega), F.1.2⟩, f1, f2, q, hRS, hq⟩)), fun post hp => nm_r e0 ?_, fun post hp e va ib he _ _ => ?_⟩
      · repeat first
          | refine br_t (by decide) ?_
          | refine br_f (by decide) ?_
        refine tx_trk (by omega) ?_
        repeat first
          | refine br_t (by decide) ?_
          | refine br_f (by decide) ?_
        refine br_t a1 ?_
        rw [nI_pred, nI_clamp (show m < 2 ^ 31 by omega)]
        refine And.intro (vp_in_nI (by omega) (by omega)) (tx_push (by omega) (by omega) ?_)
        repeat first
          | refine br_t (by decide) ?_
          | refine br_f (by decide) ?_
        exact hp
      · repeat first
          | refine br_t (by decide) ?_
          | refine br_f (by decide) ?_
        refine br_t (he.trans a2) ?_
        rw [nI_pred]
        rw [nI_clamp (show m < 2 ^ 31 by omega), ← a3]
        exact And.intro (vp_in_nI (by omega) (by omega)) (ty_push (by omega) hp)
    · obtain ⟨u', v', h1, h2, h3⟩ := tl_raise (d := b) ⟨⟨tf_B_d hB (by omega), F.1.2⟩, F.2⟩ (-6)
      refine ⟨u', v', tf_M_mono (by omega) h1, fun post hp => nm_r e0 ?_, fun post hp e va ib he _ _ => ?_⟩
      · repeat first
          | refine br_t (by decide) ?_
          | refine br_f (by decide) ?_
        refine tx_trk (by omega) ?_
        repeat first
          | refine br_t (by decide) ?_
          | refine br_f (by decide) ?_
        exact br_f (by rw [b1]; decide) (h2 _ hp)
      · repeat first
          | refine br_t (by decide) ?_
          | refine br_f (by decide) ?_
        exact br_f (fun z => (show ¬ yk m = 4 by rw [b2]; decide) (he.symm.trans z)) (h3 _ hp)
    · obtain ⟨u', v', h1, h2, h3⟩ := tl_raise (d := b) ⟨⟨tf_B_d hB (by omega), F.1.2⟩, F.2⟩ (-6)
      refine ⟨u', v', tf_M_mono (by omega) h1, fun post hp => nm_r e0 ?_, fun post hp e va ib he _ _ => ?_⟩
      · repeat first
          | refine br_t (by decide) ?_
          | refine br_f (by decide) ?_
        refine tx_trk (by omega) ?_
        repeat first
          | refine br_t (by decide) ?_
          | refine br_f (by decide) ?_
        exact br_f (n1) (h2 _ hp)
      · repeat first
          | refine br_t (by decide) ?_
          | refine br_f (by decide) ?_
        exact br_f (fun z => n3 (he.symm.trans z)) (h3 _ hp)

theorem tw_15 {p : Nat} (F : (tf_F p md mr mu mf ll d r w n os cd hc oh od op co oy onm li nm kd im ad st we wo oo ol ao ap tk gv io ia ik iv ow ck ci ox oz lp fu ip ie rk ra rb rc yk ya yb lo)) : tf_OB lo (p + 2 * d + 1) 15 (k1, k2, k3, k4, k5, k6, k7, k8, k9, (nI md), (nI mr), (nI mu), (nI mf), (nI ll), (nI lp), tS, tE, tN, (nI d), (nI r), (nI w), en, (nI n), op, co, onm, (nI os), (nI cd), (nI hc), (nI oh), (nI od), cu, (nI fu), ip, ie, (-1), 0, re, li, da, rk, ra, rb, rc, nm, kd, ls, im, sr, st, we, ad, wo, tk, gv, io, ia, ck, ci, ce, ou, ox) ((nI md), (nI mr), (nI mu), (nI mf), (nI ll), (nI lp), sv, (nI d), (nI r), (nI w), en, (nI n), (nI hc), (nI od), cu, oy, onm, (nI cd), (nI oh), (nI fu), (-1), re, 0, li, da, yk, ya, yb, nm, kd, ls, im, sr, ad, oo, ol, ao, ap, ik, iv, ow, ce, oz, ck, ou) := by
  have hB := F.1.1
  have hB2 := hB
  unfold tf_B at hB2
  have hT := F.1.2.2.1 15 (by decide)
  refine tl_bi (t := 0) (g := 1) (gr := 1) F (by decide) hT.1 hT.2 (by decide) (by decide) (Or.inr ⟨rfl, rfl⟩) (fun post h => ty145_15 h) ?_
  intro b hb hg y x
  have hb' : b = d := hb.symm
  subst hb'
  have e0 : nI (b + 0) - nI 0 = nI b := by rw [pk_sub (by omega), Nat.add_sub_cancel]
  rcases Nat.eq_zero_or_pos r with hr | hr
  · obtain ⟨u', v', h1, h2, h3⟩ := tl_raise (d := b) ⟨⟨tf_B_d hB (by omega), F.1.2⟩, F.2⟩ (-26)
    subst hr
    refine ⟨u', v', tf_M_mono (by omega) h1, fun post hp => nm_r e0 ?_, fun post hp e va ib he _ _ => ?_⟩
    · repeat first
        | refine br_t (by decide) ?_
        | refine br_f (by decide) ?_
      exact h2 _ hp
    · have he' : e = 0 := he
      subst he'
      repeat first
        | refine br_t (by decide) ?_
        | refine br_f (by decide) ?_
      exact h3 _ hp
  · obtain ⟨m, hm⟩ : ∃ m, r = m + 1 := ⟨r - 1, by omega⟩
    subst hm
    obtain ⟨f1, f2, q, hRS, hq⟩ := F.2
    rcases tf_RS_kinds hRS with ⟨b1, b2, b3, b4, b5⟩ | ⟨a1, a2, a3, a4, a5, a6⟩ | ⟨n1, n2, n3, n4⟩
    · obtain ⟨u', v', h1, h2, h3⟩ := tl_raise (d := b) ⟨⟨tf_B_d hB (by omega), F.1.2⟩, F.2⟩ (-26)
      refine ⟨u', v', tf_M_mono (by omega) h1, fun post hp => nm_r e0 ?_, fun post hp e va ib he _ _ => ?_⟩
      · repeat first
          | refine br_t (by decide) ?_
          | refine br_f (by decide) ?_
        refine tx_trk (by omega) ?_
        repeat first
          | refine br_t (by decide) ?_
          | refine br_f (by decide) ?_
        exact br_f (by rw [b1]; decide) (h2 _ hp)
      · repeat first
          | refine br_t (by decide) ?_
          | refine br_f (by decide) ?_
        exact br_f (fun z => (show ¬ yk m = 5 by rw [b2]; decide) (he.symm.trans z)) (h3 _ hp)
    · refine ⟨(k1, k2, k3, k4, k5, k6, k7, k8, k9, (nI md), (nI mr), (nI mu), (nI mf), (nI ll), (nI lp), tS, tE, tN, (nI (b + 1)), (nI (m + 1)), (nI w), en, (nI n), op, co, onm, (nI os), (nI cd), (nI hc), (nI oh), (nI od), cu, (nI fu), ip, ie, (-1), 0, re, li, (upd da b (rb m)), rk, ra, rb, rc, nm, kd, ls, im, sr, st, we, ad, wo, tk, gv, io, ia, ck, ci, ce, ou, ox), ((nI md), (nI mr), (nI mu), (nI mf), (nI ll), (nI lp), sv, (nI (b + 1)), (nI (m + 1)), (nI w), en, (nI n), (nI hc), (nI od), cu, oy, onm, (nI cd), (nI oh), (nI fu), (-1), re, 0, li, (upd da b (rb m)), yk, ya, yb, nm, kd, ls, im, sr, ad, oo, ol, ao, ap, ik, iv, ow, ce, oz, ck, ou), tf_M_mono (p := p) (by omega) (Or.inl (tf_MR_in ⟨⟨tf_B_dr hB (by omega) (by omega), F.1.2⟩, f1, f2, q, hRS, hq⟩)), fun post hp => nm_r e0 ?_, fun post hp e va ib he _ _ => ?_⟩
      · repeat first
          | refine br_t (by decide) ?_
          | refine br_f (by decide) ?_
        refine tx_trk (by omega) ?_
        repeat first
          | refine br_t (by decide) ?_
          | refine br_f (by decide) ?_
        refine br_t a1 ?_
        rw [nI_pred, nI_clamp (show m < 2 ^ 31 by omega)]
        refine And.intro (vp_in_nI (by omega) (by omega)) (tx_push (by omega) (by omega) ?_)
        skip
        exact hp
      · repeat first
          | refine br_t (by decide) ?_
          | refine br_f (by decide) ?_
        refine br_t (he.trans a2) ?_
        rw [nI_pred]
        rw [nI_clamp (show m < 2 ^ 31 by omega), ← a4]
        exact And.intro (vp_in_nI (by omega) (by omega)) (ty_push (by omega) hp)
    · obtain ⟨u', v', h1, h2, h3⟩ := tl_raise (d := b) ⟨⟨tf_B_d hB (by omega), F.1.2⟩, F.2⟩ (-26)
      refine ⟨u', v', tf_M_mono (by omega) h1, fun post hp => nm_r e0 ?_, fun post hp e va ib he _ _ => ?_⟩
      · repeat first
          | refine br_t (by decide) ?_
          | refine br_f (by decide) ?_
        refine tx_trk (by omega) ?_
        repeat first
          | refine br_t (by decide) ?_
          | refine br_f (by decide) ?_
        exact br_f (n2) (h2 _ hp)
      · repeat first
          | refine br_t (by decide) ?_
          | refine br_f (by decide) ?_
        exact br_f (fun z => n4 (he.symm.trans z)) (h3 _ hp)

theorem tw_16 {p : Nat} (F : (tf_F p md mr mu mf ll d r w n os cd hc oh od op co oy onm li nm kd im ad st we wo oo ol ao ap tk gv io ia ik iv ow ck ci ox oz lp fu ip ie rk ra rb rc yk ya yb lo)) : tf_OB lo (p + 2 * d + 1) 16 (k1, k2, k3, k4, k5, k6, k7, k8, k9, (nI md), (nI mr), (nI mu), (nI mf), (nI ll), (nI lp), tS, tE, tN, (nI d), (nI r), (nI w), en, (nI n), op, co, onm, (nI os), (nI cd), (nI hc), (nI oh), (nI od), cu, (nI fu), ip, ie, (-1), 0, re, li, da, rk, ra, rb, rc, nm, kd, ls, im, sr, st, we, ad, wo, tk, gv, io, ia, ck, ci, ce, ou, ox) ((nI md), (nI mr), (nI mu), (nI mf), (nI ll), (nI lp), sv, (nI d), (nI r), (nI w), en, (nI n), (nI hc), (nI od), cu, oy, onm, (nI cd), (nI oh), (nI fu), (-1), re, 0, li, da, yk, ya, yb, nm, kd, ls, im, sr, ad, oo, ol, ao, ap, ik, iv, ow, ce, oz, ck, ou) := by
  have hB := F.1.1
  have hB2 := hB
  unfold tf_B at hB2
  have hT := F.1.2.2.1 16 (by decide)
  refine tl_bi (t := 1) (g := 1) (gr := 0) F (by decide) hT.1 hT.2 (by decide) (by decide) (Or.inl ⟨rfl, by decide⟩) (fun post h => ty145_16 h) ?_
  intro b hb hg y x
  have hb' := hb
  subst hb'
  have e0 : nI (b + 1) - nI 1 = nI b := by rw [pk_sub (by omega), Nat.add_sub_cancel]
  by_cases hin : tf_in hc y
  · have hi := hin
    obtain ⟨c, hc1, rfl⟩ := hin
    obtain ⟨q1, q2, _⟩ := tf_in_lt (by omega) hi
    refine ⟨(k1, k2, k3, k4, k5, k6, k7, k8, k9, (nI md), (nI mr), (nI mu), (nI mf), (nI ll), (nI lp), tS, tE, tN, (nI (b + 1)), (nI r), (nI w), en, (nI n), op, co, onm, (nI os), (nI cd), (nI hc), (nI oh), (nI od), cu, (nI fu), ip, ie, (-1), 0, re, li, (upd da b (ce c)), rk, ra, rb, rc, nm, kd, ls, im, sr, st, we, ad, wo, tk, gv, io, ia, ck, ci, ce, ou, ox), ((nI md), (nI mr), (nI mu), (nI mf), (nI ll), (nI lp), sv, (nI (b + 1)), (nI r), (nI w), en, (nI n), (nI hc), (nI od), cu, oy, onm, (nI cd), (nI oh), (nI fu), (-1), re, 0, li, (upd da b (ce c)), yk, ya, yb, nm, kd, ls, im, sr, ad, oo, ol, ao, ap, ik, iv, ow, ce, oz, ck, ou), tf_M_mono (p := p) (by omega) (Or.inl (tf_MR_in ⟨⟨tf_B_d hB (by omega), F.1.2⟩, F.2⟩)), fun post hp => nm_r e0 ?_, fun post hp e va ib _ _ hib => ?_⟩
    · repeat first
        | refine br_t (by decide) ?_
        | refine br_f (by decide) ?_
      refine br_f q1 (br_t q2 (And.intro (vp_in_nI (by omega) (by omega)) ?_))
      rw [nI_clamp (show c < 2 ^ 31 by omega)]
      exact tx_push (by omega) (by omega) hp
    · have e9 := tf_va1 (by omega) hib hi
      subst e9
      repeat first
        | refine br_t (by decide) ?_
        | refine br_f (by decide) ?_
      refine And.intro (vp_in_nI (by omega) (by omega)) ?_
      rw [nI_clamp (show c < 2 ^ 31 by omega)]
      exact ty_push (by omega) hp
  · obtain ⟨u', v', h1, h2, h3⟩ := tl_raise (d := b) ⟨⟨tf_B_d hB (by omega), F.1.2⟩, F.2⟩ (-9)
    refine ⟨u', v', tf_M_mono (by omega) h1, fun post hp => nm_r e0 ?_, fun post hp e va ib he hva hib => ?_⟩
    · repeat first
        | refine br_t (by decide) ?_
        | refine br_f (by decide) ?_
      rcases tf_nin (show hc < 2 ^ 31 by omega) hin with z | ⟨z, z2⟩
      · exact br_t z (h2 _ hp)
      · exact br_f z (br_f z2 (h2 _ hp))
    · have e9 := tf_va0 hib hin
      subst e9
      repeat first
        | refine br_t (by decide) ?_
        | refine br_f (by decide) ?_
      exact h3 _ hp

theorem tw_17 {p : Nat} (F : (tf_F p md mr mu mf ll d r w n os cd hc oh od op co oy onm li nm kd im ad st we wo oo ol ao ap tk gv io ia ik iv ow ck ci ox oz lp fu ip ie rk ra rb rc yk ya yb lo)) : tf_OB lo (p + 2 * d + 1) 17 (k1, k2, k3, k4, k5, k6, k7, k8, k9, (nI md), (nI mr), (nI mu), (nI mf), (nI ll), (nI lp), tS, tE, tN, (nI d), (nI r), (nI w), en, (nI n), op, co, onm, (nI os), (nI cd), (nI hc), (nI oh), (nI od), cu, (nI fu), ip, ie, (-1), 0, re, li, da, rk, ra, rb, rc, nm, kd, ls, im, sr, st, we, ad, wo, tk, gv, io, ia, ck, ci, ce, ou, ox) ((nI md), (nI mr), (nI mu), (nI mf), (nI ll), (nI lp), sv, (nI d), (nI r), (nI w), en, (nI n), (nI hc), (nI od), cu, oy, onm, (nI cd), (nI oh), (nI fu), (-1), re, 0, li, da, yk, ya, yb, nm, kd, ls, im, sr, ad, oo, ol, ao, ap, ik, iv, ow, ce, oz, ck, ou) := by
  have hB := F.1.1
  have hB2 := hB
  unfold tf_B at hB2
  have hT := F.1.2.2.1 17 (by decide)
  refine tl_bi (t := 2) (g := 0) (gr := 0) F (by decide) hT.1 hT.2 (by decide) (by decide) (Or.inl ⟨rfl, by decide⟩) (fun post h => ty145_17 h) ?_
  intro b hb hg y x
  have hb' := hb
  subst hb'
  have e0 : nI (b + 2) - nI 2 = nI b := by rw [pk_sub (by omega), Nat.add_sub_cancel]
  by_cases hin : tf_in hc y
  · have hi := hin
    obtain ⟨c, hc1, rfl⟩ := hin
    obtain ⟨q1, q2, _⟩ := tf_in_lt (by omega) hi
    refine ⟨(k1, k2, k3, k4, k5, k6, k7, k8, k9, (nI md), (nI mr), (nI mu), (nI mf), (nI ll), (nI lp), tS, tE, tN, (nI b), (nI r), (nI w), en, (nI n), op, co, onm, (nI os), (nI cd), (nI hc), (nI oh), (nI od), cu, (nI fu), ip, ie, (-1), 0, re, li, da, rk, ra, rb, rc, nm, kd, ls, im, sr, st, we, ad, wo, tk, gv, io, ia, ck, ci, (upd ce c x), ou, ox), ((nI md), (nI mr), (nI mu), (nI mf), (nI ll), (nI lp), sv, (nI b), (nI r), (nI w), en, (nI n), (nI hc), (nI od), cu, oy, onm, (nI cd), (nI oh), (nI fu), (-1), re, 0, li, da, yk, ya, yb, nm, kd, ls, im, sr, ad, oo, ol, ao, ap, ik, iv, ow, (upd ce c x), oz, ck, ou), tf_M_mono (p := p) (by omega) (Or.inl (tf_MR_in ⟨⟨tf_B_d hB (by omega), F.1.2⟩, F.2⟩)), fun post hp => nm_r e0 ?_, fun post hp e va ib _ _ hib => ?_⟩
    · repeat first
        | refine br_t (by decide) ?_
        | refine br_f (by decide) ?_
      exact br_f q1 (br_t q2 (And.intro (vp_in_nI (by omega) (by omega)) (nm_r (tf_uc (by omega)) hp)))
    · have e9 := tf_va1 (by omega) hib hi
      subst e9
      repeat first
        | refine br_t (by decide) ?_
        | refine br_f (by decide) ?_
      exact And.intro (vp_in_nI (by omega) (by omega)) (nm_r (tf_uc (by omega)) hp)
  · obtain ⟨u', v', h1, h2, h3⟩ := tl_raise (d := b) ⟨⟨tf_B_d hB (by omega), F.1.2⟩, F.2⟩ (-9)
    refine ⟨u', v', tf_M_mono (by omega) h1, fun post hp => nm_r e0 ?_, fun post hp e va ib he hva hib => ?_⟩
    · repeat first
        | refine br_t (by decide) ?_
        | refine br_f (by decide) ?_
      rcases tf_nin (show hc < 2 ^ 31 by omega) hin with z | ⟨z, z2⟩
      · exact br_t z (h2 _ hp)
      · exact br_f z (br_f z2 (h2 _ hp))
    · have e9 := tf_va0 hib hin
      subst e9
      repeat first
        | refine br_t (by decide) ?_
        | refine br_f (by decide) ?_
      exact h3 _ hp

theorem tw_18 {p : Nat} (F : (tf_F p md mr mu mf ll d r w n os cd hc oh od op co oy onm li nm kd im ad st we wo oo ol ao ap tk gv io ia ik iv ow ck ci ox oz lp fu ip ie rk ra rb rc yk ya yb lo)) : tf_OB lo (p + 2 * d + 1) 18 (k1, k2, k3, k4, k5, k6, k7, k8, k9, (nI md), (nI mr), (nI mu), (nI mf), (nI ll), (nI lp), tS, tE, tN, (nI d), (nI r), (nI w), en, (nI n), op, co, onm, (nI os), (nI cd), (nI hc), (nI oh), (nI od), cu, (nI fu), ip, ie, (-1), 0, re, li, da, rk, ra, rb, rc, nm, kd, ls, im, sr, st, we, ad, wo, tk, gv, io, ia, ck, ci, ce, ou, ox) ((nI md), (nI mr), (nI mu), (nI mf), (nI ll), (nI lp), sv, (nI d), (nI r), (nI w), en, (nI n), (nI hc), (nI od), cu, oy, onm, (nI cd), (nI oh), (nI fu), (-1), re, 0, li, da, yk, ya, yb, nm, kd, ls, im, sr, ad, oo, ol, ao, ap, ik, iv, ow, ce, oz, ck, ou) := by
  have hB := F.1.1
  have hB2 := hB
  unfold tf_B at hB2
  have hT := F.1.2.2.1 18 (by decide)
  refine tl_bi (t := 1) (g := 0) (gr := 0) F (by decide) hT.1 hT.2 (by decide) (by decide) (Or.inl ⟨rfl, by decide⟩) (fun post h => ty145_18 h) ?_
  intro b hb hg y x
  have hb' := hb
  subst hb'
  have e0 : nI (b + 1) - nI 1 = nI b := by rw [pk_sub (by omega), Nat.add_sub_cancel]
  rcases Nat.lt_or_ge hc 64 with h | h
  · refine ⟨(k1, k2, k3, k4, k5, k6, k7, k8, k9, (nI md), (nI mr), (nI mu), (nI mf), (nI ll), (nI lp), tS, tE, tN, (nI b), (nI r), (nI w), en, (nI n), op, co, onm, (nI os), (nI cd), (nI (hc+1)), (nI oh), (nI od), cu, (nI fu), ip, ie, (-1), 0, re, li, da, rk, ra, rb, rc, nm, kd, ls, im, sr, st, we, ad, wo, tk, gv, io, ia, ck, ci, (upd ce hc y), ou, ox), ((nI md), (nI mr), (nI mu), (nI mf), (nI ll), (nI lp), sv, (nI b), (nI r), (nI w), en, (nI n), (nI (hc+1)), (nI od), cu, oy, onm, (nI cd), (nI oh), (nI fu), (-1), re, 0, li, da, yk, ya, yb, nm, kd, ls, im, sr, ad, oo, ol, ao, ap, ik, iv, ow, (upd ce hc y), oz, ck, ou), tf_M_mono (p := p) (by omega) (Or.inl (tf_MR_in ⟨⟨?_, F.1.2⟩, F.2⟩)), fun post hp => nm_r e0 ?_, fun post hp e va ib _ _ _ => ?_⟩
    · unfold tf_B; omega
    · repeat first
        | refine br_t (by decide) ?_
        | refine br_f (by decide) ?_
      exact br_t (nI_lt (b := 64) h (by decide)) (And.intro (vp_in_nI h (by omega)) (nm_r (tf_uc (by omega)) (nm_r (nI_1 hc) hp)))
    · repeat first
        | refine br_t (by decide) ?_
        | refine br_f (by decide) ?_
      exact br_t (nI_lt (b := 64) h (by decide)) (And.intro (vp_in_nI h (by omega)) (nm_r (tf_uc (by omega)) (nm_r (nI_1 hc) hp)))
  · obtain ⟨u', v', h1, h2, h3⟩ := tl_raise (d := b) ⟨⟨tf_B_d hB (by omega), F.1.2⟩, F.2⟩ (-8)
    refine ⟨u', v', tf_M_mono (by omega) h1, fun post hp => nm_r e0 ?_, fun post hp e va ib he hva hib => ?_⟩
    · repeat first
        | refine br_t (by decide) ?_
        | refine br_f (by decide) ?_
      exact br_f (nI_nlt (b := 64) h (by omega)) (h2 _ hp)
    · repeat first
        | refine br_t (by decide) ?_
        | refine br_f (by decide) ?_
      exact br_f (nI_nlt (b := 64) h (by omega)) (h3 _ hp)

theorem tw_20 {p : Nat} (F : (tf_F p md mr mu mf ll d r w n os cd hc oh od op co oy onm li nm kd im ad st we wo oo ol ao ap tk gv io ia ik iv ow ck ci ox oz lp fu ip ie rk ra rb rc yk ya yb lo)) : tf_OB lo (p + 2 * d + 1) 20 (k1, k2, k3, k4, k5, k6, k7, k8, k9, (nI md), (nI mr), (nI mu), (nI mf), (nI ll), (nI lp), tS, tE, tN, (nI d), (nI r), (nI w), en, (nI n), op, co, onm, (nI os), (nI cd), (nI hc), (nI oh), (nI od), cu, (nI fu), ip, ie, (-1), 0, re, li, da, rk, ra, rb, rc, nm, kd, ls, im, sr, st, we, ad, wo, tk, gv, io, ia, ck, ci, ce, ou, ox) ((nI md), (nI mr), (nI mu), (nI mf), (nI ll), (nI lp), sv, (nI d), (nI r), (nI w), en, (nI n), (nI hc), (nI od), cu, oy, onm, (nI cd), (nI oh), (nI fu), (-1), re, 0, li, da, yk, ya, yb, nm, kd, ls, im, sr, ad, oo, ol, ao, ap, ik, iv, ow, ce, oz, ck, ou) := by
  have hB := F.1.1
  have hB2 := hB
  unfold tf_B at hB2
  have hT := F.1.2.2.1 20 (by decide)
  refine tl_bi (t := 1) (g := 0) (gr := 0) F (by decide) hT.1 hT.2 (by decide) (by decide) (Or.inl ⟨rfl, by decide⟩) (fun post h => ty145_20 h) ?_
  intro b hb hg y x
  have hb' := hb
  subst hb'
  have e0 : nI (b + 1) - nI 1 = nI b := by rw [pk_sub (by omega), Nat.add_sub_cancel]
  rcases Nat.lt_or_ge oh 32 with h | h
  · refine ⟨(k1, k2, k3, k4, k5, k6, k7, k8, k9, (nI md), (nI mr), (nI mu), (nI mf), (nI ll), (nI lp), tS, tE, tN, (nI b), (nI r), (nI w), en, (nI n), op, co, onm, (nI os), (nI cd), (nI hc), (nI (oh+1)), (nI od), cu, (nI fu), ip, ie, (-1), 0, re, li, da, rk, ra, rb, rc, nm, kd, ls, im, sr, st, we, ad, wo, tk, gv, io, ia, ck, ci, ce, (upd ou oh y), ox), ((nI md), (nI mr), (nI mu), (nI mf), (nI ll), (nI lp), sv, (nI b), (nI r), (nI w), en, (nI n), (nI hc), (nI od), cu, oy, onm, (nI cd), (nI (oh+1)), (nI fu), (-1), re, 0, li, da, yk, ya, yb, nm, kd, ls, im, sr, ad, oo, ol, ao, ap, ik, iv, ow, ce, oz, ck, (upd ou oh y)), tf_M_mono (p := p) (by omega) (Or.inl (tf_MR_in ⟨⟨?_, F.1.2⟩, F.2⟩)), fun post hp => nm_r e0 ?_, fun post hp e va ib _ _ _ => ?_⟩
    · unfold tf_B; omega
    · repeat first
        | refine br_t (by decide) ?_
        | refine br_f (by decide) ?_
      exact br_t (nI_lt (b := 32) h (by decide)) (And.intro (vp_in_nI h (by omega)) (nm_r (tf_uc (by omega)) (nm_r (nI_1 oh) hp)))
    · repeat first
        | refine br_t (by decide) ?_
        | refine br_f (by decide) ?_
      exact br_t (nI_lt (b := 32) h (by decide)) (And.intro (vp_in_nI h (by omega)) (nm_r (tf_uc (by omega)) (nm_r (nI_1 oh) hp)))
  · obtain ⟨u', v', h1, h2, h3⟩ := tl_raise (d := b) ⟨⟨tf_B_d hB (by omega), F.1.2⟩, F.2⟩ (-8)
    refine ⟨u', v', tf_M_mono (by omega) h1, fun post hp => nm_r e0 ?_, fun post hp e va ib he hva hib => ?_⟩
    · repeat first
        | refine br_t (by decide) ?_
        | refine br_f (by decide) ?_
      exact br_f (nI_nlt (b := 32) h (by omega)) (h2 _ hp)
    · repeat first
        | refine br_t (by decide) ?_
        | refine br_f (by decide) ?_
      exact br_f (nI_nlt (b := 32) h (by omega)) (h3 _ hp)

theorem tw_21 {p : Nat} (F : (tf_F p md mr mu mf ll d r w n os cd hc oh od op co oy onm li nm kd im ad st we wo oo ol ao ap tk gv io ia ik iv ow ck ci ox oz lp fu ip ie rk ra rb rc yk ya yb lo)) : tf_OB lo (p + 2 * d + 1) 21 (k1, k2, k3, k4, k5, k6, k7, k8, k9, (nI md), (nI mr), (nI mu), (nI mf), (nI ll), (nI lp), tS, tE, tN, (nI d), (nI r), (nI w), en, (nI n), op, co, onm, (nI os), (nI cd), (nI hc), (nI oh), (nI od), cu, (nI fu), ip, ie, (-1), 0, re, li, da, rk, ra, rb, rc, nm, kd, ls, im, sr, st, we, ad, wo, tk, gv, io, ia, ck, ci, ce, ou, ox) ((nI md), (nI mr), (nI mu), (nI mf), (nI ll), (nI lp), sv, (nI d), (nI r), (nI w), en, (nI n), (nI hc), (nI od), cu, oy, onm, (nI cd), (nI oh), (nI fu), (-1), re, 0, li, da, yk, ya, yb, nm, kd, ls, im, sr, ad, oo, ol, ao, ap, ik, iv, ow, ce, oz, ck, ou) := by
  have hB := F.1.1
  have hB2 := hB
  unfold tf_B at hB2
  have hT := F.1.2.2.1 21 (by decide)
  refine tl_bi (t := 1) (g := 0) (gr := 0) F (by decide) hT.1 hT.2 (by decide) (by decide) (Or.inl ⟨rfl, by decide⟩) (fun post h => ty145_21 h) ?_
  intro b hb hg y x
  have hb' := hb
  subst hb'
  have e0 : nI (b + 1) - nI 1 = nI b := by rw [pk_sub (by omega), Nat.add_sub_cancel]
  by_cases hin : tf_in w y
  · have hi := hin
    obtain ⟨c, hc1, rfl⟩ := hin
    obtain ⟨q1, q2, _⟩ := tf_in_lt (by omega) hi
    refine ⟨(k1, k2, k3, k4, k5, k6, k7, k8, k9, (nI md), (nI mr), (nI mu), (nI mf), (nI ll), (nI lp), tS, tE, tN, (nI b), (nI r), (nI w), en, (nI n), op, co, onm, (nI os), (nI cd), (nI hc), (nI oh), (nI od), cu, (nI fu), ip, ie, (nI c), 0, re, li, da, rk, ra, rb, rc, nm, kd, ls, im, sr, st, we, ad, wo, tk, gv, io, ia, ck, ci, ce, ou, ox), ((nI md), (nI mr), (nI mu), (nI mf), (nI ll), (nI lp), sv, (nI b), (nI r), (nI w), en, (nI n), (nI hc), (nI od), cu, oy, onm, (nI cd), (nI oh), (nI fu), (nI c), re, 0, li, da, yk, ya, yb, nm, kd, ls, im, sr, ad, oo, ol, ao, ap, ik, iv, ow, ce, oz, ck, ou), Or.inr (Or.inl (tf_MP_in (q := p) ⟨⟨tf_B_d hB (by omega), F.1.2⟩, F.2⟩ hc1 (by omega))), fun post hp => nm_r e0 ?_, fun post hp e va ib _ hva _ => ?_⟩
    · repeat first
        | refine br_t (by decide) ?_
        | refine br_f (by decide) ?_
      exact br_f q1 (br_t q2 (br_f (by decide) hp))
    · have e9 := tf_va1 (by omega) hva hi
      subst e9
      repeat first
        | refine br_t (by decide) ?_
        | refine br_f (by decide) ?_
      exact hp
  · obtain ⟨u', v', h1, h2, h3⟩ := tl_raise (d := b) ⟨⟨tf_B_d hB (by omega), F.1.2⟩, F.2⟩ (-13)
    refine ⟨u', v', tf_M_mono (by omega) h1, fun post hp => nm_r e0 ?_, fun post hp e va ib he hva hib => ?_⟩
    · repeat first
        | refine br_t (by decide) ?_
        | refine br_f (by decide) ?_
      rcases tf_nin (show w < 2 ^ 31 by omega) hin with z | ⟨z, z2⟩
      · exact br_t z (h2 _ hp)
      · exact br_f z (br_f z2 (h2 _ hp))
    · have e9 := tf_va0 hva hin
      subst e9
      repeat first
        | refine br_t (by decide) ?_
        | refine br_f (by decide) ?_
      exact h3 _ hp

theorem tw_22 {p : Nat} (F : (tf_F p md mr mu mf ll d r w n os cd hc oh od op co oy onm li nm kd im ad st we wo oo ol ao ap tk gv io ia ik iv ow ck ci ox oz lp fu ip ie rk ra rb rc yk ya yb lo)) : tf_OB lo (p + 2 * d + 1) 22 (k1, k2, k3, k4, k5, k6, k7, k8, k9, (nI md), (nI mr), (nI mu), (nI mf), (nI ll), (nI lp), tS, tE, tN, (nI d), (nI r), (nI w), en, (nI n), op, co, onm, (nI os), (nI cd), (nI hc), (nI oh), (nI od), cu, (nI fu), ip, ie, (-1), 0, re, li, da, rk, ra, rb, rc, nm, kd, ls, im, sr, st, we, ad, wo, tk, gv, io, ia, ck, ci, ce, ou, ox) ((nI md), (nI mr), (nI mu), (nI mf), (nI ll), (nI lp), sv, (nI d), (nI r), (nI w), en, (nI n), (nI hc), (nI od), cu, oy, onm, (nI cd), (nI oh), (nI fu), (-1), re, 0, li, da, yk, ya, yb, nm, kd, ls, im, sr, ad, oo, ol, ao, ap, ik, iv, ow, ce, oz, ck, ou) := by
  have hB := F.1.1
  have hB2 := hB
  unfold tf_B at hB2
  have hT := F.1.2.2.1 22 (by decide)
  refine tl_bi (t := 1) (g := 1) (gr := 0) F (by decide) hT.1 hT.2 (by decide) (by decide) (Or.inl ⟨rfl, by decide⟩) (fun post h => ty145_22 h) ?_
  intro b hb hg y x
  have hb' := hb
  subst hb'
  have e0 : nI (b + 1) - nI 1 = nI b := by rw [pk_sub (by omega), Nat.add_sub_cancel]
  by_cases hin : tf_in w y
  · have hi := hin
    obtain ⟨c, hc1, rfl⟩ := hin
    obtain ⟨q1, q2, _⟩ := tf_in_lt (by omega) hi
    rcases Nat.lt_or_ge r mr with h | h
    · obtain ⟨f1, f2, q, hRS, hq⟩ := F.2
      refine ⟨(k1, k2, k3, k4, k5, k6, k7, k8, k9, (nI md), (nI mr), (nI mu), (nI mf), (nI ll), (nI lp), tS, tE, tN, (nI b), (nI (r+1)), (nI w), en, (nI n), op, co, onm, (nI os), (nI cd), (nI hc), (nI oh), (nI od), cu, (nI fu), (-2), (-2), (nI c), 0, re, li, da, (upd rk r 4), (upd ra r ip), (upd rb r ie), (upd rc r (nI b)), nm, kd, ls, im, sr, st, we, ad, wo, tk, gv, io, ia, ck, ci, ce, ou, ox), ((nI md), (nI mr), (nI mu), (nI mf), (nI ll), (nI lp), sv, (nI b), (nI (r+1)), (nI w), en, (nI n), (nI hc), (nI od), cu, oy, onm, (nI cd), (nI oh), (nI fu), (nI c), re, 0, li, da, (upd yk r 6), (upd ya r (nI b)), (upd yb r 0), nm, kd, ls, im, sr, ad, oo, ol, ao, ap, ik, iv, ow, ce, oz, ck, ou), Or.inr (Or.inl (tf_MP_in (q := p + 1) ⟨⟨tf_B_dr hB (by omega) (by omega), F.1.2⟩, f1, f2, q + 1, tf_RS_ctch (p := q) (by omega) (Nat.le_refl _) hRS, by omega⟩ hc1 (by omega))), fun post hp => nm_r e0 ?_, fun post hp e va ib _ hva _ => ?_⟩
      · repeat first
          | refine br_t (by decide) ?_
          | refine br_f (by decide) ?_
        exact br_f q1 (br_t q2 (br_t (by decide) (br_t (nI_lt h (by omega)) (tx_pushR h (by omega) hp))))
      · have e9 := tf_va1 (by omega) hva hi
        subst e9
        repeat first
          | refine br_t (by decide) ?_
          | refine br_f (by decide) ?_
        exact br_t (nI_lt h (by omega)) (ty_pushR (by omega) hp)
    · obtain ⟨u', v', h1, h2, h3⟩ := tl_raise (d := b) ⟨⟨tf_B_d hB (by omega), F.1.2⟩, F.2⟩ (-5)
      refine ⟨u', v', tf_M_mono (by omega) h1, fun post hp => nm_r e0 ?_, fun post hp e va ib he hva hib => ?_⟩
      · repeat first
          | refine br_t (by decide) ?_
          | refine br_f (by decide) ?_
        exact br_f q1 (br_t q2 (br_t (by decide) (br_f (nI_nlt h (by omega)) (h2 _ hp))))
      · have e9 := tf_va1 (by omega) hva hi
        subst e9
        repeat first
          | refine br_t (by decide) ?_
          | refine br_f (by decide) ?_
        exact br_f (nI_nlt h (by omega)) (h3 _ hp)
  · obtain ⟨u', v', h1, h2, h3⟩ := tl_raise (d := b) ⟨⟨tf_B_d hB (by omega), F.1.2⟩, F.2⟩ (-13)
    refine ⟨u', v', tf_M_mono (by omega) h1, fun post hp => nm_r e0 ?_, fun post hp e va ib he hva hib => ?_⟩
    · repeat first
        | refine br_t (by decide) ?_
        | refine br_f (by decide) ?_
      rcases tf_nin (show w < 2 ^ 31 by omega) hin with z | ⟨z, z2⟩
      · exact br_t z (h2 _ hp)
      · exact br_f z (br_f z2 (h2 _ hp))
    · have e9 := tf_va0 hva hin
      subst e9
      repeat first
        | refine br_t (by decide) ?_
        | refine br_f (by decide) ?_
      exact h3 _ hp

theorem tw_23 {p : Nat} (F : (tf_F p md mr mu mf ll d r w n os cd hc oh od op co oy onm li nm kd im ad st we wo oo ol ao ap tk gv io ia ik iv ow ck ci ox oz lp fu ip ie rk ra rb rc yk ya yb lo)) : tf_OB lo (p + 2 * d + 1) 23 (k1, k2, k3, k4, k5, k6, k7, k8, k9, (nI md), (nI mr), (nI mu), (nI mf), (nI ll), (nI lp), tS, tE, tN, (nI d), (nI r), (nI w), en, (nI n), op, co, onm, (nI os), (nI cd), (nI hc), (nI oh), (nI od), cu, (nI fu), ip, ie, (-1), 0, re, li, da, rk, ra, rb, rc, nm, kd, ls, im, sr, st, we, ad, wo, tk, gv, io, ia, ck, ci, ce, ou, ox) ((nI md), (nI mr), (nI mu), (nI mf), (nI ll), (nI lp), sv, (nI d), (nI r), (nI w), en, (nI n), (nI hc), (nI od), cu, oy, onm, (nI cd), (nI oh), (nI fu), (-1), re, 0, li, da, yk, ya, yb, nm, kd, ls, im, sr, ad, oo, ol, ao, ap, ik, iv, ow, ce, oz, ck, ou) := by
  have hB := F.1.1
  have hB2 := hB
  unfold tf_B at hB2
  have hT := F.1.2.2.1 23 (by decide)
  refine tl_bi (t := 1) (g := 0) (gr := 0) F (by decide) hT.1 hT.2 (by decide) (by decide) (Or.inl ⟨rfl, by decide⟩) (fun post h => ty145_23 h) ?_
  intro b hb hg y x
  have hb' := hb
  subst hb'
  have e0 : nI (b + 1) - nI 1 = nI b := by rw [pk_sub (by omega), Nat.add_sub_cancel]
  by_cases hz : y = 0
  · refine ⟨(k1, k2, k3, k4, k5, k6, k7, k8, k9, (nI md), (nI mr), (nI mu), (nI mf), (nI ll), (nI lp), tS, tE, tN, (nI b), (nI r), (nI w), en, (nI n), op, co, onm, (nI os), (nI cd), (nI hc), (nI oh), (nI od), cu, (nI fu), ip, ie, (-1), 0, re, li, da, rk, ra, rb, rc, nm, kd, ls, im, sr, st, we, ad, wo, tk, gv, io, ia, ck, ci, ce, ou, ox), ((nI md), (nI mr), (nI mu), (nI mf), (nI ll), (nI lp), sv, (nI b), (nI r), (nI w), en, (nI n), (nI hc), (nI od), cu, oy, onm, (nI cd), (nI oh), (nI fu), (-1), re, 0, li, da, yk, ya, yb, nm, kd, ls, im, sr, ad, oo, ol, ao, ap, ik, iv, ow, ce, oz, ck, ou), tf_M_mono (p := p) (by omega) (Or.inl (tf_MR_in ⟨⟨tf_B_d hB (by omega), F.1.2⟩, F.2⟩)), fun post hp => nm_r e0 ?_, fun post hp e va ib _ _ _ => ?_⟩
    · repeat first
        | refine br_t (by decide) ?_
        | refine br_f (by decide) ?_
      exact br_t hz hp
    · repeat first
        | refine br_t (by decide) ?_
        | refine br_f (by decide) ?_
      exact br_t hz hp
  · obtain ⟨u', v', h1, h2, h3⟩ := tl_raise (d := b) ⟨⟨tf_B_d hB (by omega), F.1.2⟩, F.2⟩ (y)
    refine ⟨u', v', tf_M_mono (by omega) h1, fun post hp => nm_r e0 ?_, fun post hp e va ib he hva hib => ?_⟩
    · repeat first
        | refine br_t (by decide) ?_
        | refine br_f (by decide) ?_
      exact br_f hz (h2 _ hp)
    · repeat first
        | refine br_t (by decide) ?_
        | refine br_f (by decide) ?_
      exact br_f hz (h3 _ hp)

end
end
section
/-! packed names -/
theorem tf_pb_lN {v i : Nat} (h : v < 2 ^ 64) : tf_pb (lN v) i = v / 2 ^ (8 * i) % 256 := by
  unfold tf_pb
  rw [wb_tn h]
theorem tf_by1 {V c i j : Nat} (h : i < j) : (V + c * 2 ^ (8 * j)) / 2 ^ (8 * i) % 256 = V / 2 ^ (8 * i) % 256 := by
  have e : 2 ^ (8 * j) = 2 ^ (8 * i) * (256 * 2 ^ (8 * (j - i - 1))) := by
    have e1 : (256 : Nat) = 2 ^ 8 := rfl
    rw [e1, ← Nat.pow_add, ← Nat.pow_add]
    congr 1
    omega
  rw [e, Nat.mul_left_comm, Nat.add_mul_div_left _ _ (Nat.two_pow_pos _), Nat.mul_left_comm]
  rw [Nat.add_mul_mod_self_left]
theorem tf_by2 {V c j : Nat} (h : V < 2 ^ (8 * j)) (hc : c < 256) : (V + c * 2 ^ (8 * j)) / 2 ^ (8 * j) % 256 = c := by
  rw [Nat.add_mul_div_right _ _ (Nat.two_pow_pos _), Nat.div_eq_of_lt h]
  omega
theorem tf_by3 {V j i : Nat} (h : V < 2 ^ (8 * j)) (hi : j ≤ i) : V / 2 ^ (8 * i) % 256 = 0 := by
  rw [Nat.div_eq_of_lt (Nat.lt_of_lt_of_le h (Nat.pow_le_pow_right (by omega) (by omega)))]
theorem tf_by4 {V c j : Nat} (h : V < 2 ^ (8 * j)) (hc : c < 256) : V + c * 2 ^ (8 * j) < 2 ^ (8 * (j + 1)) := by
  have e : 2 ^ (8 * (j + 1)) = 256 * 2 ^ (8 * j) := by
    have e1 : 8 * (j + 1) = 8 + 8 * j := by omega
    rw [e1, Nat.pow_add]
  rw [e]
  have h2 : c * 2 ^ (8 * j) ≤ 255 * 2 ^ (8 * j) := Nat.mul_le_mul_right _ (by omega)
  omega
theorem tf_orN {V c j : Nat} (h : V < 2 ^ (8 * j)) (hj : j < 8) (hc : c < 128) : lN V ||| ((nI c).toInt64 <<< ((8 * nI j).toInt64 &&& 63)) = lN (V + c * 2 ^ (8 * j)) := by
  have e1 : (8 : Int32) * nI j = nI (8 * j) := pk_mul 8 j
  have h4 := tf_by4 (c := c) h (by omega)
  have h5 : 2 ^ (8 * (j + 1)) ≤ 2 ^ 64 := Nat.pow_le_pow_right (by omega) (by omega)
  rw [e1, nI_l (by omega), wb_shl c (by omega)]
  exact g_or' rfl h (by omega)
theorem tf_na_v {li : Nat → Int32} {a b : Nat} (hL : ∀ t, a ≤ t → t < b → ∃ c : Nat, li t = nI c ∧ 33 ≤ c ∧ c ≤ 126) : ∀ j, j ≤ 8 → ∃ V, V < 2 ^ (8 * j) ∧ tf_na li a b j = lN V ∧ ∀ i, (i < j ∧ a + i < b → 33 ≤ V / 2 ^ (8 * i) % 256 ∧ V / 2 ^ (8 * i) % 256 ≤ 126) ∧ (j ≤ i ∨ b ≤ a + i → V / 2 ^ (8 * i) % 256 = 0)
  | 0, _ => by
    refine ⟨0, by decide, rfl, fun i => ⟨fun z => absurd z.1 (by omega), fun _ => ?_⟩⟩
    rw [Nat.zero_div]
  | j + 1, hj => by
    obtain ⟨V, h1, h2, h3⟩ := tf_na_v hL j (by omega)
    rcases Nat.lt_or_ge (a + j) b with g | g
    · obtain ⟨c, c1, c2, c3⟩ := hL (a + j) (by omega) g
      refine ⟨V + c * 2 ^ (8 * j), tf_by4 h1 (by omega), ?_, fun i => ⟨fun z => ?_, fun z => ?_⟩⟩
      · rw [tf_na_s g, h2, c1, tf_orN h1 (by omega) (by omega)]
      · rcases Nat.lt_or_ge i j with q | q
        · rw [tf_by1 q]; exact (h3 i).1 ⟨q, z.2⟩
        · have e : i = j := by omega
          rw [e, tf_by2 h1 (by omega)]
          exact ⟨c2, c3⟩
      · rcases Nat.lt_or_ge i j with q | q
        · rw [tf_by1 q]; exact (h3 i).2 (by omega)
        · exact tf_by3 (tf_by4 h1 (by omega)) (by omega)
    · refine ⟨V, Nat.lt_of_lt_of_le h1 (Nat.pow_le_pow_right (by omega) (by omega)), ?_, fun i => ⟨fun z => (h3 i).1 ⟨by omega, z.2⟩, fun z => (h3 i).2 (by omega)⟩⟩
      rw [← h2]
      exact if_neg (by omega)
theorem tf_na_GN {li : Nat → Int32} {a b : Nat} (hL : ∀ t, a ≤ t → t < b → ∃ c : Nat, li t = nI c ∧ 33 ≤ c ∧ c ≤ 126) : tf_GN (tf_na li a b 8) := by
  obtain ⟨V, h1, h2, h3⟩ := tf_na_v hL 8 (by omega)
  rw [h2]
  have h64 : V < 2 ^ 64 := h1
  refine ⟨if b ≤ a then 0 else if b - a ≤ 8 then b - a else 8, ?_, fun i hi => ⟨fun z => ?_, fun z => ?_⟩⟩
  · split
    · omega
    · split <;> omega
  · rw [tf_pb_lN h64]
    refine (h3 i).1 ⟨hi, ?_⟩
    split at z
    · omega
    · split at z <;> omega
  · rw [tf_pb_lN h64]
    refine (h3 i).2 (Or.inr ?_)
    split at z
    · omega
    · split at z <;> omega
theorem tf_Tok_GN {li : Nat → Int32} {ll lp a b : Nat} (hL : tf_L ll li) (T : tf_Tok li ll lp a b) : tf_GN (tf_na li a b 8) := by
  refine tf_na_GN (fun t h1 h2 => ?_)
  obtain ⟨t1, t2, t3, t4, t5, t6, t7⟩ := T
  obtain ⟨c, c1, c2, c3⟩ := hL t (by omega)
  refine ⟨c, c1, ?_, c3⟩
  have := t6 t h1 h2
  rcases Nat.lt_or_ge 32 c with g | g
  · omega
  · have e : c = 32 := by omega
    subst e
    exact absurd c1 this
/-! packed search orders -/
def tf_po (od : Nat) (ox : Nat → Int32) : Nat → Int32
  | 0 => nI od
  | i + 1 => tf_po od ox i ||| (ox i <<< ((4 + (2 * nI i)) &&& 31))
theorem tf_pk1 : ∀ a : Fin 4, (nI 1 ||| (nI a <<< ((4 + (2 * nI 0)) &&& 31))) &&& 15 = nI 1 ∧ tf_ub (nI 1 ||| (nI a <<< ((4 + (2 * nI 0)) &&& 31))) 0 = nI a := by decide +kernel
theorem tf_pk2 : ∀ a b : Fin 4, ((nI 2 ||| (nI a <<< ((4 + (2 * nI 0)) &&& 31))) ||| (nI b <<< ((4 + (2 * nI 1)) &&& 31))) &&& 15 = nI 2 ∧ tf_ub ((nI 2 ||| (nI a <<< ((4 + (2 * nI 0)) &&& 31))) ||| (nI b <<< ((4 + (2 * nI 1)) &&& 31))) 0 = nI a ∧ tf_ub ((nI 2 ||| (nI a <<< ((4 + (2 * nI 0)) &&& 31))) ||| (nI b <<< ((4 + (2 * nI 1)) &&& 31))) 1 = nI b := by decide +kernel
theorem tf_pk3 : ∀ a b c : Fin 4, (((nI 3 ||| (nI a <<< ((4 + (2 * nI 0)) &&& 31))) ||| (nI b <<< ((4 + (2 * nI 1)) &&& 31))) ||| (nI c <<< ((4 + (2 * nI 2)) &&& 31))) &&& 15 = nI 3 ∧ tf_ub (((nI 3 ||| (nI a <<< ((4 + (2 * nI 0)) &&& 31))) ||| (nI b <<< ((4 + (2 * nI 1)) &&& 31))) ||| (nI c <<< ((4 + (2 * nI 2)) &&& 31))) 0 = nI a ∧ tf_ub (((nI 3 ||| (nI a <<< ((4 + (2 * nI 0)) &&& 31))) ||| (nI b <<< ((4 + (2 * nI 1)) &&& 31))) ||| (nI c <<< ((4 + (2 * nI 2)) &&& 31))) 1 = nI b ∧ tf_ub (((nI 3 ||| (nI a <<< ((4 + (2 * nI 0)) &&& 31))) ||| (nI b <<< ((4 + (2 * nI 1)) &&& 31))) ||| (nI c <<< ((4 + (2 * nI 2)) &&& 31))) 2 = nI c := by decide +kernel
theorem tf_pk4 : ∀ a b c e : Fin 4, ((((nI 4 ||| (nI a <<< ((4 + (2 * nI 0)) &&& 31))) ||| (nI b <<< ((4 + (2 * nI 1)) &&& 31))) ||| (nI c <<< ((4 + (2 * nI 2)) &&& 31))) ||| (nI e <<< ((4 + (2 * nI 3)) &&& 31))) &&& 15 = nI 4 ∧ tf_ub ((((nI 4 ||| (nI a <<< ((4 + (2 * nI 0)) &&& 31))) ||| (nI b <<< ((4 + (2 * nI 1)) &&& 31))) ||| (nI c <<< ((4 + (2 * nI 2)) &&& 31))) ||| (nI e <<< ((4 + (2 * nI 3)) &&& 31))) 0 = nI a ∧ tf_ub ((((nI 4 ||| (nI a <<< ((4 + (2 * nI 0)) &&& 31))) ||| (nI b <<< ((4 + (2 * nI 1)) &&& 31))) ||| (nI c <<< ((4 + (2 * nI 2)) &&& 31))) ||| (nI e <<< ((4 + (2 * nI 3)) &&& 31))) 1 = nI b ∧ tf_ub ((((nI 4 ||| (nI a <<< ((4 + (2 * nI 0)) &&& 31))) ||| (nI b <<< ((4 + (2 * nI 1)) &&& 31))) ||| (nI c <<< ((4 + (2 * nI 2)) &&& 31))) ||| (nI e <<< ((4 + (2 * nI 3)) &&& 31))) 2 = nI c ∧ tf_ub ((((nI 4 ||| (nI a <<< ((4 + (2 * nI 0)) &&& 31))) ||| (nI b <<< ((4 + (2 * nI 1)) &&& 31))) ||| (nI c <<< ((4 + (2 * nI 2)) &&& 31))) ||| (nI e <<< ((4 + (2 * nI 3)) &&& 31))) 3 = nI e := by decide +kernel
theorem tf_po_ok {od : Nat} {ox : Nat → Int32} (h1 : 1 ≤ od ∧ od ≤ 4) (h : ∀ i, i < od → ∃ y : Nat, y < 4 ∧ ox i = nI y) : tf_po od ox od &&& 15 = nI od ∧ ∀ i, i < od → tf_ub (tf_po od ox od) i = ox i := by
  have hd : od = 1 ∨ od = 2 ∨ od = 3 ∨ od = 4 := by omega
  rcases hd with e | e | e | e
  · subst e
    obtain ⟨a, a1, a2⟩ := h 0 (by omega)
    have K := tf_pk1 ⟨a, a1⟩
    unfold tf_po tf_po
    rw [a2]
    refine ⟨K.1, fun i hi => ?_⟩
    have e : i = 0 := by omega
    rw [e, a2]; exact K.2
  · subst e
    obtain ⟨a, a1, a2⟩ := h 0 (by omega)
    obtain ⟨b, b1, b2⟩ := h 1 (by omega)
    have K := tf_pk2 ⟨a, a1⟩ ⟨b, b1⟩
    unfold tf_po tf_po tf_po
    rw [a2, b2]
    refine ⟨K.1, fun i hi => ?_⟩
    have e : i = 0 ∨ i = 1 := by omega
    rcases e with e | e
    · rw [e, a2]; exact K.2.1
    · rw [e, b2]; exact K.2.2
  · subst e
    obtain ⟨a, a1, a2⟩ := h 0 (by omega)
    obtain ⟨b, b1, b2⟩ := h 1 (by omega)
    obtain ⟨c, c1, c2⟩ := h 2 (by omega)
    have K := tf_pk3 ⟨a, a1⟩ ⟨b, b1⟩ ⟨c, c1⟩
    unfold tf_po tf_po tf_po tf_po
    rw [a2, b2, c2]
    refine ⟨K.1, fun i hi => ?_⟩
    have e : i = 0 ∨ i = 1 ∨ i = 2 := by omega
    rcases e with e | e | e
    · rw [e, a2]; exact K.2.1
    · rw [e, b2]; exact K.2.2.1
    · rw [e, c2]; exact K.2.2.2
  · subst e
    obtain ⟨a, a1, a2⟩ := h 0 (by omega)
    obtain ⟨b, b1, b2⟩ := h 1 (by omega)
    obtain ⟨c, c1, c2⟩ := h 2 (by omega)
    obtain ⟨q, q1, q2⟩ := h 3 (by omega)
    have K := tf_pk4 ⟨a, a1⟩ ⟨b, b1⟩ ⟨c, c1⟩ ⟨q, q1⟩
    unfold tf_po tf_po tf_po tf_po tf_po
    rw [a2, b2, c2, q2]
    refine ⟨K.1, fun i hi => ?_⟩
    have e : i = 0 ∨ i = 1 ∨ i = 2 ∨ i = 3 := by omega
    rcases e with e | e | e | e
    · rw [e, a2]; exact K.2.1
    · rw [e, b2]; exact K.2.2.1
    · rw [e, c2]; exact K.2.2.2.1
    · rw [e, q2]; exact K.2.2.2.2
end
section
/-! a new word, in both -/
theorem tf_updLs {f : Nat → Int64} {k : Nat} {x : Int64} : vp_updL f k x k = x := pk_uLs
/-- the four places of a kept search order -/
def tf_u4 (ol : Nat → Int32) (w : Nat) (oz : Nat → Int32) : Nat → Int32 := upd (upd (upd (upd ol (4 * w + 0) (oz 0)) (4 * w + 1) (oz 1)) (4 * w + 2) (oz 2)) (4 * w + 3) (oz 3)
theorem tf_u4_n {ol : Nat → Int32} {w : Nat} {oz : Nat → Int32} {j : Nat} (h : j < 4 * w) : tf_u4 ol w oz j = ol j := by
  unfold tf_u4
  rw [pk_un (by omega), pk_un (by omega), pk_un (by omega), pk_un (by omega)]
theorem tf_u4_s {ol : Nat → Int32} {w : Nat} {oz : Nat → Int32} {i : Nat} (h : i < 4) : tf_u4 ol w oz (4 * w + i) = oz i := by
  unfold tf_u4
  have e : i = 0 ∨ i = 1 ∨ i = 2 ∨ i = 3 := by omega
  rcases e with e | e | e | e <;> subst e
  · rw [pk_un (by omega), pk_un (by omega), pk_un (by omega), pk_us]
  · rw [pk_un (by omega), pk_un (by omega), pk_us]
  · rw [pk_un (by omega), pk_us]
  · rw [pk_us]
theorem tf_FR_ent {w : Nat} {kd st we : Nat → Int32} {x a b : Int32} {i e o j : Nat} (h : tf_FR w kd st we i e o j) : tf_FR (w + 1) (upd kd w x) (upd st w a) (upd we w b) i e o j := by
  obtain ⟨h1, h2, h3, h4, ⟨s, h5, h5'⟩, h6⟩ := h
  have hn : o ≠ w := by omega
  exact ⟨h1, by omega, by rw [pk_un hn]; exact h3, by rw [pk_un hn]; exact h4, ⟨s, by rw [pk_un hn]; exact h5, h5'⟩, h6⟩
theorem tf_FR_ent' {w k : Nat} {kd st we : Nat → Int32} {x a b : Int32} {i e o j : Nat} (hk : k ≤ w) (h : tf_FR k kd st we i e o j) : tf_FR k (upd kd w x) (upd st w a) (upd we w b) i e o j := by
  obtain ⟨h1, h2, h3, h4, ⟨s, h5, h5'⟩, h6⟩ := h
  have hn : o ≠ w := by omega
  exact ⟨h1, by omega, by rw [pk_un hn]; exact h3, by rw [pk_un hn]; exact h4, ⟨s, by rw [pk_un hn]; exact h5, h5'⟩, h6⟩
theorem tf_S_ent {w n : Nat} {kd st we ao ap ow : Nat → Int32} {x a b : Int32} (h : tf_S w n kd st we ao ap ow) (h1 : x = 1 → tf_S1 n w (upd st w a) (upd we w b) ow) (h4 : x = 4 → tf_S4 n w (upd st w a) ow) (h3 : x ≠ 3) : tf_S (w + 1) n (upd kd w x) (upd st w a) (upd we w b) ao ap ow := by
  intro k hk1 hk2
  rcases Nat.lt_or_ge k w with g | g
  · obtain ⟨q1, q4, q3⟩ := h k hk1 g
    have hn : k ≠ w := by omega
    rw [pk_un hn]
    refine ⟨fun z => ?_, fun z => ?_, fun z => ?_⟩
    · obtain ⟨s, e, r1, r2, r3⟩ := q1 z
      exact ⟨s, e, by rw [pk_un hn]; exact r1, by rw [pk_un hn]; exact r2, r3⟩
    · obtain ⟨s, r1, r2⟩ := q4 z
      exact ⟨s, by rw [pk_un hn]; exact r1, r2⟩
    · obtain ⟨i, e, o, j, r1, r2, r3, r4, r5⟩ := q3 z
      exact ⟨i, e, o, j, by rw [pk_un hn]; exact r1, by rw [pk_un hn]; exact r2, r3, r4, tf_FR_ent' (by omega) r5⟩
  · have e : k = w := by omega
    subst e
    rw [pk_us]
    exact ⟨h1, h4, fun z => absurd z h3⟩
theorem tf_nb0 : vp_nar .boolean 0 = 0 := rfl
theorem tf_nb1 : vp_nar .boolean 1 = 1 := rfl
theorem tf_N_ent {w hc : Nat} {nm : Nat → Int64} {kd im ad : Nat → Int32} {x : Int64} {y : Int32} (hw : 51 ≤ w) (hh : hc ≤ 64) (hx : tf_GN x) (hy : y = 1 ∨ y = 2 ∨ y = 3 ∨ y = 4) (h : tf_N w nm kd im ad) : tf_N (w + 1) (vp_updL nm w x) (upd kd w y) (upd im w 0) (upd ad w (nI hc)) := by
  obtain ⟨h1, h2, h3, h4⟩ := h
  refine ⟨fun k hk => ?_, fun k hk => ?_, fun k hk => ?_, fun k hk1 hk => ?_⟩
  · rcases Nat.lt_or_ge k w with g | g
    · rw [pk_uLn (by omega)]; exact h1 k g
    · have e : k = w := by omega
      rw [e, pk_uLs]; exact hx
  · rcases Nat.lt_or_ge k w with g | g
    · rw [pk_un (by omega)]; exact h2 k g
    · have e : k = w := by omega
      rw [e, pk_us]; exact Or.inl rfl
  · rw [pk_un (by omega)]; exact h3 k hk
  · rcases Nat.lt_or_ge k w with g | g
    · rw [pk_un (by omega), pk_un (by omega)]; exact h4 k hk1 g
    · have e : k = w := by omega
      rw [e, pk_us, pk_us]
      exact ⟨hy, hc, hh, rfl⟩
theorem tf_Q_ent {w od : Nat} {wo oo ol ox oz : Nat → Int32} (hd : 1 ≤ od ∧ od ≤ 4) (hO : tf_O od ox oz) (h : tf_Q w wo oo ol) : tf_Q (w + 1) (upd wo w (tf_po od ox od)) (upd oo w (nI od)) (tf_u4 ol w oz) := by
  intro k hk1 hk
  rcases Nat.lt_or_ge k w with g | g
  · obtain ⟨m, a1, a2, a3, a4, a5⟩ := h k hk1 g
    refine ⟨m, a1, a2, by rw [pk_un (by omega)]; exact a3, by rw [pk_un (by omega)]; exact a4, fun i hi => ?_⟩
    rw [pk_un (by omega), tf_u4_n (by omega)]
    exact a5 i hi
  · have e : k = w := by omega
    subst e
    have K := tf_po_ok (ox := ox) hd (fun i hi => by
      obtain ⟨q1, y, q2, q3⟩ := hO i hi
      exact ⟨y, q2, by rw [q1]; exact q3⟩)
    refine ⟨od, hd.1, hd.2, pk_us, by rw [pk_us]; exact K.1, fun i hi => ?_⟩
    obtain ⟨q1, q2⟩ := hO i hi
    rw [pk_us, tf_u4_s (by omega)]
    exact ⟨by rw [K.2 i hi]; exact q1, q2⟩
theorem tf_I_w {n w w' : Nat} {io ia ik iv ow : Nat → Int32} (hw : w ≤ w') (h : tf_I n w io ia ik iv ow) : tf_I n w' io ia ik iv ow := by
  intro i hi
  obtain ⟨⟨a, b, c⟩, e⟩ := h i hi
  exact ⟨⟨a, b, by omega⟩, e⟩
section
variable {md mr mu mf ll lp d r w n os cd hc oh od fu : Nat} {k1 k2 k3 k4 k5 k6 k7 k8 k9 tS tE en op co cu ip ie pe ab re oy sv : Int32} {tN onm : Int64} {li da rk ra rb rc kd ls im sr st we ad wo tk gv io ia ck ci ce ou ox yk ya yb oo ol ao ap ik iv ow oz : Nat → Int32} {nm : Nat → Int64} {lo : Nat}
theorem tx_po7 {post : Int32 → Prop} (ho : od ≤ 4) (k : post (tf_po od ox od)) : ∀ m i, i + m = od → wX_packOrder_7 post k1 k2 k3 k4 k5 k6 k7 k8 k9 (nI md) (nI mr) (nI mu) (nI mf) (nI ll) (nI lp) tS tE tN (nI d) (nI r) (nI w) en (nI n) op co onm (nI os) (nI cd) (nI hc) (nI oh) (nI od) cu (nI fu) ip ie pe ab re li da rk ra rb rc nm kd ls im sr st we ad wo tk gv io ia ck ci ce ou ox (m + 1) (tf_po od ox i) (nI i)
  | 0, i, h => by
    have e : i = od := by omega
    subst e
    exact br_t (nI_le (Nat.le_refl _) (by omega)) k
  | m + 1, i, h => by
    refine br_f (nI_ge (by omega) (by omega)) (And.intro (vp_in_nI (by omega) (by omega)) (nm_r (e' := tf_po od ox (i + 1)) ?_ (nm_r (nI_1 i) ?_)))
    · rw [nI_clamp (show i < 2 ^ 31 by omega)]
      rfl
    · exact tx_po7 ho k m (i + 1) (by omega)
theorem tx_po {post : Int32 → Prop} (ho : od ≤ 4) (k : post (tf_po od ox od)) : wpX_packOrder post (k1, k2, k3, k4, k5, k6, k7, k8, k9, (nI md), (nI mr), (nI mu), (nI mf), (nI ll), (nI lp), tS, tE, tN, (nI d), (nI r), (nI w), en, (nI n), op, co, onm, (nI os), (nI cd), (nI hc), (nI oh), (nI od), cu, (nI fu), ip, ie, pe, ab, re, li, da, rk, ra, rb, rc, nm, kd, ls, im, sr, st, we, ad, wo, tk, gv, io, ia, ck, ci, ce, ou, ox) :=
  Exists.intro (od + 1) (tx_po7 ho k od 0 (by omega))
theorem tx_enter {post : SX → Prop} {x : Int64} {y : Int32} (hw : w < 75) (ho : od ≤ 4) (k : post (k1, k2, k3, k4, k5, k6, k7, k8, k9, (nI md), (nI mr), (nI mu), (nI mf), (nI ll), (nI lp), tS, tE, tN, (nI d), (nI r), (nI (w+1)), (en+1), (nI n), op, co, onm, (nI os), (nI cd), (nI hc), (nI oh), (nI od), cu, (nI fu), ip, ie, pe, ab, re, li, da, rk, ra, rb, rc, (vp_updL nm w x), (upd kd w y), (upd ls w cu), (upd im w 0), (upd sr w (en+1)), (upd st w (nI n)), (upd we w (nI n)), (upd ad w (nI hc)), (upd wo w (tf_po od ox od)), tk, gv, io, ia, ck, ci, ce, ou, ox)) : wpX_enter post (k1, k2, k3, k4, k5, k6, k7, k8, k9, (nI md), (nI mr), (nI mu), (nI mf), (nI ll), (nI lp), tS, tE, tN, (nI d), (nI r), (nI w), en, (nI n), op, co, onm, (nI os), (nI cd), (nI hc), (nI oh), (nI od), cu, (nI fu), ip, ie, pe, ab, re, li, da, rk, ra, rb, rc, nm, kd, ls, im, sr, st, we, ad, wo, tk, gv, io, ia, ck, ci, ce, ou, ox) x y := by
  have hi : vp_in (nI w) 75 := vp_in_nI hw (by omega)
  have hb : w < 2 ^ 31 := by omega
  refine br_t (nI_lt (b := 75) hw (by decide)) (nm_e ?_)
  refine And.intro hi (nm_r (tf_ucL hb) (And.intro hi (nm_r (tf_uc hb) (And.intro hi (nm_r (tf_uc hb) (And.intro hi (nm_r ((tf_uc hb).trans (by rw [tf_nb0])) ?_)))))))
  refine And.intro hi (nm_r (tf_uc hb) (And.intro hi (nm_r (tf_uc hb) (And.intro hi (nm_r (tf_uc hb) (And.intro hi (nm_r (tf_uc hb) ?_)))))))
  refine tx_po ho ?_
  exact And.intro hi (nm_r (tf_uc hb) (nm_r (nI_1 w) k))
theorem ty_enter95 {post : SY → Prop} {g : Nat → Int32} (hw : w < 75) (k : post ((nI md), (nI mr), (nI mu), (nI mf), (nI ll), (nI lp), sv, (nI d), (nI r), (nI (w+1)), en, (nI n), (nI hc), (nI od), cu, oy, onm, (nI cd), (nI oh), (nI fu), pe, re, ab, li, da, yk, ya, yb, nm, kd, ls, im, sr, ad, oo, (tf_u4 g w oz), ao, ap, ik, iv, ow, ce, oz, ck, ou)) : wY_enter_95 post (nI md) (nI mr) (nI mu) (nI mf) (nI ll) (nI lp) sv (nI d) (nI r) (nI w) en (nI n) (nI hc) (nI od) cu oy onm (nI cd) (nI oh) (nI fu) pe re ab 5 0 li da yk ya yb nm kd ls im sr ad oo g ao ap ik iv ow ce oz ck ou := by
  have hb : w < 2 ^ 31 := by omega
  have e4 : ∀ i, i < 4 → 4 * nI w + nI i = nI (4 * w + i) := by
    intro i _
    have e1 : (4 : Int32) * nI w = nI (4 * w) := pk_mul 4 w
    rw [e1, nI_add]
  have hv : ∀ i, i < 4 → vp_in (4 * nI w + nI i) 300 := by
    intro i h
    rw [e4 i h]; exact vp_in_nI (by omega) (by omega)
  have hu : ∀ (f : Nat → Int32) (i : Nat) (x y : Int32), i < 4 → x = y → upd f (4 * nI w + nI i).toNatClampNeg x = upd f (4 * w + i) y := by
    intro f i x y h e
    rw [e4 i h, nI_clamp (by omega), e]
  refine br_f (by decide) (And.intro (vp_in_nI (n := 0) (by omega) (by omega)) (And.intro (hv 0 (by omega)) (nm_r (hu _ 0 _ (oz 0) (by omega) rfl) (nm_r (nI_1 0) ?_))))
  refine br_f (by decide) (And.intro (vp_in_nI (n := 1) (by omega) (by omega)) (And.intro (hv 1 (by omega)) (nm_r (hu _ 1 _ (oz 1) (by omega) rfl) (nm_r (nI_1 1) ?_))))
  refine br_f (by decide) (And.intro (vp_in_nI (n := 2) (by omega) (by omega)) (And.intro (hv 2 (by omega)) (nm_r (hu _ 2 _ (oz 2) (by omega) rfl) (nm_r (nI_1 2) ?_))))
  refine br_f (by decide) (And.intro (vp_in_nI (n := 3) (by omega) (by omega)) (And.intro (hv 3 (by omega)) (nm_r (hu _ 3 _ (oz 3) (by omega) rfl) (nm_r (nI_1 3) ?_))))
  exact br_t (by decide) (nm_r (nI_1 w) k)
theorem ty_enter {post : SY → Prop} {x : Int64} {y : Int32} (hw : w < 75) (k : post ((nI md), (nI mr), (nI mu), (nI mf), (nI ll), (nI lp), sv, (nI d), (nI r), (nI (w+1)), (en+1), (nI n), (nI hc), (nI od), cu, oy, onm, (nI cd), (nI oh), (nI fu), pe, re, ab, li, da, yk, ya, yb, (vp_updL nm w x), (upd kd w y), (upd ls w cu), (upd im w 0), (upd sr w (en+1)), (upd ad w (nI hc)), (upd oo w (nI od)), (tf_u4 ol w oz), ao, ap, ik, iv, ow, ce, oz, ck, ou)) : wpY_enter post ((nI md), (nI mr), (nI mu), (nI mf), (nI ll), (nI lp), sv, (nI d), (nI r), (nI w), en, (nI n), (nI hc), (nI od), cu, oy, onm, (nI cd), (nI oh), (nI fu), pe, re, ab, li, da, yk, ya, yb, nm, kd, ls, im, sr, ad, oo, ol, ao, ap, ik, iv, ow, ce, oz, ck, ou) y x := by
  have hi : vp_in (nI w) 75 := vp_in_nI hw (by omega)
  have hb : w < 2 ^ 31 := by omega
  refine nm_e ?_
  refine And.intro hi (nm_r (tf_ucL hb) (And.intro hi (nm_r (tf_uc hb) (And.intro hi (nm_r (tf_uc hb) (And.intro hi (nm_r ((tf_uc hb).trans (by rw [tf_nb0])) ?_)))))))
  refine And.intro hi (nm_r (tf_uc hb) (And.intro hi (nm_r (tf_uc hb) (And.intro hi (nm_r (tf_uc hb) ?_)))))
  exact Exists.intro 5 (ty_enter95 hw k)
/-- the relation behind a new word -/
theorem tf_C_ent {x : Int64} {y a b : Int32} (hx : tf_GN x) (hy : y = 1 ∨ y = 2 ∨ y = 4) (hw : w < 51 + mu) (h1 : y = 1 → tf_S1 n w (upd st w a) (upd we w b) ow) (h4 : y = 4 → tf_S4 n w (upd st w a) ow) (hcd : cd = 0) (C : (tf_C md mr mu mf ll d r w n os cd hc oh od op co oy onm li nm kd im ad st we wo oo ol ao ap tk gv io ia ik iv ow ck ci ox oz)) : (tf_C md mr mu mf ll d r (w+1) n os cd hc oh od 0 co 0 onm li (vp_updL nm w x) (upd kd w y) (upd im w 0) (upd ad w (nI hc)) (upd st w a) (upd we w b) (upd wo w (tf_po od ox od)) (upd oo w (nI od)) (tf_u4 ol w oz) ao ap tk gv io ia ik iv ow ck ci ox oz) := by
  obtain ⟨hB, hL, hT, hO, hN, hQ, hS, hI, hP, hK, hG⟩ := C
  have hB' := hB
  unfold tf_B at hB'
  refine ⟨by unfold tf_B; omega, hL, hT, hO, tf_N_ent (by omega) (by omega) hx ?_ hN, tf_Q_ent (by omega) hO hQ, tf_S_ent hS h1 h4 ?_, tf_I_w (by omega) hI, ?_, hK, hG⟩
  · rcases hy with e | e | e
    · exact Or.inl e
    · exact Or.inr (Or.inl e)
    · exact Or.inr (Or.inr (Or.inr e))
  · rcases hy with e | e | e <;> subst e <;> decide
  · refine Or.inl ⟨rfl, rfl, hcd, fun i hi => ?_⟩
    obtain ⟨⟨_, _, q⟩, _⟩ := hI i hi
    omega
theorem tf_R_ent {p : Nat} {y a b : Int32} (R : (tf_R p md ll lp fu r ip ie w kd st we rk ra rb rc yk ya yb lo)) : (tf_R p md ll lp fu r ip ie (w+1) (upd kd w y) (upd st w a) (upd we w b) rk ra rb rc yk ya yb lo) := by
  obtain ⟨h1, h2, q, h3, h4⟩ := R
  exact ⟨h1, h2, q, tf_RS_map (Nat.le_refl _) (fun _ _ _ _ h => tf_FR_ent h) (fun t _ => ⟨rfl, rfl, rfl, rfl, rfl, rfl, rfl⟩) h3, h4⟩
end
end
section
section
variable {md mr mu mf ll lp d r w n os cd hc oh od fu : Nat} {k1 k2 k3 k4 k5 k6 k7 k8 k9 tS tE en op co cu ip ie pe ab re oy sv : Int32} {tN onm : Int64} {li da rk ra rb rc kd ls im sr st we ad wo tk gv io ia ck ci ce ou ox yk ya yb oo ol ao ap ik iv ow oz : Nat → Int32} {nm : Nat → Int64} {lo : Nat}
theorem tf_R_lp {p b : Nat} (h1 : lp ≤ b) (h2 : b ≤ ll) (R : (tf_R p md ll lp fu r ip ie w kd st we rk ra rb rc yk ya yb lo)) : (tf_R p md ll b fu r ip ie w kd st we rk ra rb rc yk ya yb lo) := by
  obtain ⟨g1, g2, q, g3, g4⟩ := R
  exact ⟨h2, g2, q, g3, by omega⟩
theorem ty_p106 {post : SY → Prop} {x1 x3 : Int32} {a b : Nat} (hb : b ≤ 128) (hab : a ≤ b) (k : wY_parsing_157 post x1 x3 (tf_na li a b 8) (nI md) (nI mr) (nI mu) (nI mf) (nI ll) (nI b) (nI a) (nI d) (nI r) (nI w) en (nI n) (nI hc) (nI od) cu oy onm (nI cd) (nI oh) (nI fu) pe re ab li da yk ya yb nm kd ls im sr ad oo ol ao ap ik iv ow ce oz ck ou) : ∀ m j, j + m = 8 → wY_parsing_106 post x1 x3 (nI md) (nI mr) (nI mu) (nI mf) (nI ll) (nI b) (nI a) (nI d) (nI r) (nI w) en (nI n) (nI hc) (nI od) cu oy onm (nI cd) (nI oh) (nI fu) pe re ab li da yk ya yb nm kd ls im sr ad oo ol ao ap ik iv ow ce oz ck ou (m + 1) (tf_na li a b j) (nI j)
  | 0, j, h => by
    have e : j = 8 := by omega
    subst e
    exact br_t (by decide) k
  | m + 1, j, h => by
    refine br_f (nI_ge (a := j) (b := 8) (by omega) (by decide)) ?_
    rcases Nat.lt_or_ge (a + j) b with g | g
    · have e1 : nI a + nI j = nI (a + j) := nI_add a j
      refine br_f (by rw [e1]; exact nI_ge g (by omega)) (And.intro (by rw [e1]; exact vp_in_nI (by omega) (by omega)) (nm_r (e' := tf_na li a b (j + 1)) (by rw [e1, nI_clamp (by omega), tf_na_s g]) (nm_r (nI_1 j) ?_)))
      exact ty_p106 hb hab k m (j + 1) (by omega)
    · refine br_t (by rw [nI_add]; exact nI_le g (by omega)) ?_
      have e : (8 : Nat) = j + (m + 1) := by omega
      rw [e, tf_na_e g] at k
      exact k
/-- one more plain item, in both -/
theorem tl_item {p : Nat} (F : (tf_F p md mr mu mf ll d r w n os cd hc oh od 1 co oy onm li nm kd im ad st we wo oo ol ao ap tk gv io ia ik iv ow ck ci ox oz lp fu ip ie rk ra rb rc yk ya yb lo)) {xo xk v : Int32} (hrel : (xk = 1 ∧ xo = 0) ∨ (xk = 3 ∧ xo = 1 ∧ ∃ c : Nat, c ≤ w ∧ v = nI c) ∨ (xk = 2 ∧ xo = 2 ∧ ∃ c : Nat, c < w ∧ v = nI c)) : ∃ u' v', tf_M lo p u' v' ∧ (∀ post : SX → Prop, post u' → wpX_compileItem post (k1, k2, k3, k4, k5, k6, k7, k8, k9, (nI md), (nI mr), (nI mu), (nI mf), (nI ll), (nI lp), tS, tE, tN, (nI d), (nI r), (nI w), en, (nI n), 1, co, onm, (nI os), (nI cd), (nI hc), (nI oh), (nI od), cu, (nI fu), ip, ie, (-1), 0, re, li, da, rk, ra, rb, rc, nm, kd, ls, im, sr, st, we, ad, wo, tk, gv, io, ia, ck, ci, ce, ou, ox) xo v) ∧ (∀ post : SY → Prop, post v' → wpY_addItem post ((nI md), (nI mr), (nI mu), (nI mf), (nI ll), (nI lp), sv, (nI d), (nI r), (nI w), en, (nI n), (nI hc), (nI od), cu, oy, onm, (nI cd), (nI oh), (nI fu), (-1), re, 0, li, da, yk, ya, yb, nm, kd, ls, im, sr, ad, oo, ol, ao, ap, ik, iv, ow, ce, oz, ck, ou) xk v) := by
  have hB := F.1.1
  have hB2 := hB
  unfold tf_B at hB2
  rcases Nat.lt_or_ge n 96 with h | h
  · obtain ⟨⟨_, hL, hT, hO, hN, hQ, Z⟩, R⟩ := F
    refine ⟨(k1, k2, k3, k4, k5, k6, k7, k8, k9, (nI md), (nI mr), (nI mu), (nI mf), (nI ll), (nI lp), tS, tE, tN, (nI d), (nI r), (nI w), en, (nI (n+1)), 1, co, onm, (nI os), (nI cd), (nI hc), (nI oh), (nI od), cu, (nI fu), ip, ie, (-1), 0, re, li, da, rk, ra, rb, rc, nm, kd, ls, im, sr, st, we, ad, wo, tk, gv, (upd io n xo), (upd ia n v), ck, ci, ce, ou, ox), ((nI md), (nI mr), (nI mu), (nI mf), (nI ll), (nI lp), sv, (nI d), (nI r), (nI w), en, (nI (n+1)), (nI hc), (nI od), cu, oy, onm, (nI cd), (nI oh), (nI fu), (-1), re, 0, li, da, yk, ya, yb, nm, kd, ls, im, sr, ad, oo, ol, ao, ap, (upd ik n xk), (upd iv n v), (upd ow n (nI w)), ce, oz, ck, ou), Or.inl (tf_MR_in ⟨⟨?_, hL, hT, hO, hN, hQ, tf_Z_neut (by omega) h ?_ ?_ Z⟩, R⟩), fun post hp => tx_item h hp, fun post hp => ty_item h hp⟩
    · unfold tf_B; omega
    · rcases hrel with ⟨e, _⟩ | ⟨e, _⟩ | ⟨e, _⟩ <;> subst e <;> decide
    · unfold tf_I1
      rw [pk_us, pk_us, pk_us, pk_us, tf_oN_s (by omega)]
      rcases hrel with ⟨e, e2⟩ | ⟨e, e2, e3⟩ | ⟨e, e2, e3⟩
      · exact Or.inl ⟨e, e2, rfl⟩
      · exact Or.inr (Or.inl ⟨e, e2, rfl, e3⟩)
      · exact Or.inr (Or.inr (Or.inl ⟨e, e2, rfl, e3⟩))
  · obtain ⟨u', v', h1, h2, h3⟩ := tl_raise F (-8)
    exact ⟨u', v', h1, fun post hp => br_f (nI_nlt (b := 96) h (by omega)) (h2 _ hp), fun post hp => br_f (nI_nlt (b := 96) h (by omega)) (h3 _ hp)⟩
theorem tf_res_some {k : Nat} (hk : k ≤ 75) : 0 ≤ nI k ∧ ¬ nI k < 0 := ⟨nI_pos' (by omega), nI_pos (by omega)⟩
end
section
variable {md mr mu mf ll lp d r w n os cd hc oh od fu : Nat} {k1 k2 k3 k4 k5 k6 k7 k8 k9 tS tE en op co cu ip ie pe ab re oy sv : Int32} {tN onm : Int64} {li da rk ra rb rc kd ls im sr st we ad wo tk gv io ia ck ci ce ou ox yk ya yb oo ol ao ap ik iv ow oz : Nat → Int32} {nm : Nat → Int64} {lo : Nat}
theorem tw_24 {p : Nat} (F : (tf_F p md mr mu mf ll d r w n os cd hc oh od op co oy onm li nm kd im ad st we wo oo ol ao ap tk gv io ia ik iv ow ck ci ox oz lp fu ip ie rk ra rb rc yk ya yb lo)) : tf_OB lo (p + 2 * d + 1) 24 (k1, k2, k3, k4, k5, k6, k7, k8, k9, (nI md), (nI mr), (nI mu), (nI mf), (nI ll), (nI lp), tS, tE, tN, (nI d), (nI r), (nI w), en, (nI n), op, co, onm, (nI os), (nI cd), (nI hc), (nI oh), (nI od), cu, (nI fu), ip, ie, (-1), 0, re, li, da, rk, ra, rb, rc, nm, kd, ls, im, sr, st, we, ad, wo, tk, gv, io, ia, ck, ci, ce, ou, ox) ((nI md), (nI mr), (nI mu), (nI mf), (nI ll), (nI lp), sv, (nI d), (nI r), (nI w), en, (nI n), (nI hc), (nI od), cu, oy, onm, (nI cd), (nI oh), (nI fu), (-1), re, 0, li, da, yk, ya, yb, nm, kd, ls, im, sr, ad, oo, ol, ao, ap, ik, iv, ow, ce, oz, ck, ou) := by
  have hB := F.1.1
  have hB2 := hB
  unfold tf_B at hB2
  have hT := F.1.2.2.1 24 (by decide)
  refine tl_bi (t := 0) (g := 1) (gr := 1) F (by decide) hT.1 hT.2 (by decide) (by decide) (Or.inr ⟨rfl, rfl⟩) (fun post h => ty145_24 h) ?_
  intro b hb hg y x
  have hb' : b = d := hb.symm
  subst hb'
  have e0 : nI (b + 0) - nI 0 = nI b := by rw [pk_sub (by omega), Nat.add_sub_cancel]
  obtain ⟨a, b', T⟩ := tf_Tok_ex li F.2.1
  have hT2 := T
  obtain ⟨t1, t2, t3, _⟩ := hT2

  rcases Nat.lt_or_ge a b' with g | g
  · cases ef : tf_fo ls nm w oz (tf_na li a b' 8) od with
    | none =>
      obtain ⟨u', v', h1, h2, h3⟩ := tl_raise (d := b) (lp := b') ⟨⟨tf_B_d hB (by omega), F.1.2⟩, tf_R_lp (show lp ≤ b' by omega) t3 F.2⟩ (-13)
      refine ⟨u', v', tf_M_mono (by omega) h1, fun post hp => nm_r e0 ?_, fun post hp e va ib _ _ _ => ?_⟩
      · repeat first
          | refine br_t (by decide) ?_
          | refine br_f (by decide) ?_
        refine tx_rt (by omega) F.2.1 T (fun _ => ?_) (fun z => by omega)
        refine br_f (by decide) (tx_find (by omega) (by omega) (fun i hi => (F.1.2.2.2.1 i hi).1) ?_)
        rw [ef]
        exact br_f (by decide) (h2 _ hp)
      · repeat first
          | refine br_t (by decide) ?_
          | refine br_f (by decide) ?_
        refine ty_rt (by omega) F.2.1 T (fun _ => ?_) (fun z => by omega)
        refine br_f (by decide) (ty_find (by omega) t2 (by omega) (by omega) (Exists.intro 9 (ty_p106 (by omega) t2 ?_ 8 0 (by omega))))
        rw [ef]
        repeat first
          | refine br_t (by decide) ?_
          | refine br_f (by decide) ?_
        exact h3 _ hp
    | some k =>
      have hk := tf_fo_lt ef
      obtain ⟨q1, q2⟩ := tf_res_some (k := k) (by omega)
      refine ⟨(k1, k2, k3, k4, k5, k6, k7, k8, k9, (nI md), (nI mr), (nI mu), (nI mf), (nI ll), (nI b'), (nI a), (nI b'), (tf_na li a b' 8), (nI (b + 1)), (nI r), (nI w), en, (nI n), op, co, onm, (nI os), (nI cd), (nI hc), (nI oh), (nI od), cu, (nI fu), ip, ie, (-1), 0, re, li, (upd da b (nI k)), rk, ra, rb, rc, nm, kd, ls, im, sr, st, we, ad, wo, tk, gv, io, ia, ck, ci, ce, ou, ox), ((nI md), (nI mr), (nI mu), (nI mf), (nI ll), (nI b'), (nI a), (nI (b + 1)), (nI r), (nI w), en, (nI n), (nI hc), (nI od), cu, oy, onm, (nI cd), (nI oh), (nI fu), (-1), re, 0, li, (upd da b (nI k)), yk, ya, yb, nm, kd, ls, im, sr, ad, oo, ol, ao, ap, ik, iv, ow, ce, oz, ck, ou), tf_M_mono (p := p) (by omega) (Or.inl (tf_MR_in ⟨⟨tf_B_d hB (by omega), F.1.2⟩, tf_R_lp (show lp ≤ b' by omega) t3 F.2⟩)), fun post hp => nm_r e0 ?_, fun post hp e va ib _ _ _ => ?_⟩
      · repeat first
          | refine br_t (by decide) ?_
          | refine br_f (by decide) ?_
        refine tx_rt (by omega) F.2.1 T (fun _ => ?_) (fun z => by omega)
        refine br_f (by decide) (tx_find (by omega) (by omega) (fun i hi => (F.1.2.2.2.1 i hi).1) ?_)
        rw [ef]
        exact br_t q1 (tx_push (by omega) (by omega) hp)
      · repeat first
          | refine br_t (by decide) ?_
          | refine br_f (by decide) ?_
        refine ty_rt (by omega) F.2.1 T (fun _ => ?_) (fun z => by omega)
        refine br_f (by decide) (ty_find (by omega) t2 (by omega) (by omega) (Exists.intro 9 (ty_p106 (by omega) t2 ?_ 8 0 (by omega))))
        rw [ef]
        repeat first
          | refine br_t (by decide) ?_
          | refine br_f (by decide) ?_
        refine br_t q1 ?_
        repeat first
          | refine br_t (by decide) ?_
          | refine br_f (by decide) ?_
        exact ty_push (by omega) hp
  · obtain ⟨u', v', h1, h2, h3⟩ := tl_raise (d := b) (lp := b') ⟨⟨tf_B_d hB (by omega), F.1.2⟩, tf_R_lp (show lp ≤ b' by omega) t3 F.2⟩ (-16)
    refine ⟨u', v', tf_M_mono (by omega) h1, fun post hp => nm_r e0 ?_, fun post hp e va ib _ _ _ => ?_⟩
    · repeat first
        | refine br_t (by decide) ?_
        | refine br_f (by decide) ?_
      refine tx_rt (by omega) F.2.1 T (fun z => by omega) (fun _ => ?_)
      exact br_t rfl (h2 _ hp)
    · repeat first
        | refine br_t (by decide) ?_
        | refine br_f (by decide) ?_
      refine ty_rt (by omega) F.2.1 T (fun z => by omega) (fun _ => ?_)
      exact br_t rfl (h3 _ hp)

theorem tw_25 {p : Nat} (F : (tf_F p md mr mu mf ll d r w n os cd hc oh od op co oy onm li nm kd im ad st we wo oo ol ao ap tk gv io ia ik iv ow ck ci ox oz lp fu ip ie rk ra rb rc yk ya yb lo)) : tf_OB lo (p + 2 * d + 1) 25 (k1, k2, k3, k4, k5, k6, k7, k8, k9, (nI md), (nI mr), (nI mu), (nI mf), (nI ll), (nI lp), tS, tE, tN, (nI d), (nI r), (nI w), en, (nI n), op, co, onm, (nI os), (nI cd), (nI hc), (nI oh), (nI od), cu, (nI fu), ip, ie, (-1), 0, re, li, da, rk, ra, rb, rc, nm, kd, ls, im, sr, st, we, ad, wo, tk, gv, io, ia, ck, ci, ce, ou, ox) ((nI md), (nI mr), (nI mu), (nI mf), (nI ll), (nI lp), sv, (nI d), (nI r), (nI w), en, (nI n), (nI hc), (nI od), cu, oy, onm, (nI cd), (nI oh), (nI fu), (-1), re, 0, li, da, yk, ya, yb, nm, kd, ls, im, sr, ad, oo, ol, ao, ap, ik, iv, ow, ce, oz, ck, ou) := by
  have hB := F.1.1
  have hB2 := hB
  unfold tf_B at hB2
  have hT := F.1.2.2.1 25 (by decide)
  refine tl_bi (t := 0) (g := 0) (gr := 0) F (by decide) hT.1 hT.2 (by decide) (by decide) (Or.inl ⟨rfl, by decide⟩) (fun post h => ty145_25 h) ?_
  intro b hb hg y x
  have hb' : b = d := hb.symm
  subst hb'
  have e0 : nI (b + 0) - nI 0 = nI b := by rw [pk_sub (by omega), Nat.add_sub_cancel]
  obtain ⟨a, b', T⟩ := tf_Tok_ex li F.2.1
  have hT2 := T
  obtain ⟨t1, t2, t3, _⟩ := hT2

  rcases tf_opc F.1 with ⟨o1, o2, o3, o4⟩ | ⟨o1, o2, o3, o4, o5⟩
  · subst o1
    subst o2
    subst o3
    have ew : nI w - 51 = nI (w - 51) := pk_sub (a := w) (b := 51) (by omega)
    rcases Nat.lt_or_ge (w - 51) mu with hm | hm
    · rcases Nat.lt_or_ge a b' with g | g
      · refine ⟨(k1, k2, k3, k4, k5, k6, k7, k8, k9, (nI md), (nI mr), (nI mu), (nI mf), (nI ll), (nI b'), (nI a), (nI b'), (tf_na li a b' 8), (nI b), (nI r), (nI w), en, (nI n), 1, 1, (tf_na li a b' 8), (nI n), (nI 0), (nI hc), (nI oh), (nI od), cu, (nI fu), ip, ie, (-1), 0, re, li, da, rk, ra, rb, rc, nm, kd, ls, im, sr, st, we, ad, wo, tk, gv, io, ia, ck, ci, ce, ou, ox), ((nI md), (nI mr), (nI mu), (nI mf), (nI ll), (nI b'), (nI a), (nI b), (nI r), (nI w), en, (nI n), (nI hc), (nI od), cu, 2, (tf_na li a b' 8), (nI 0), (nI oh), (nI fu), (-1), re, 0, li, da, yk, ya, yb, nm, kd, ls, im, sr, ad, oo, ol, ao, ap, ik, iv, ow, ce, oz, ck, ou), tf_M_mono (p := p) (by omega) (Or.inl (tf_MR_in ⟨⟨by unfold tf_B; omega, F.1.2.1, F.1.2.2.1, F.1.2.2.2.1, F.1.2.2.2.2.1, F.1.2.2.2.2.2.1, F.1.2.2.2.2.2.2.1, F.1.2.2.2.2.2.2.2.1, Or.inr ⟨rfl, Or.inr ⟨rfl, rfl⟩, by omega, Nat.le_refl _, tf_Tok_GN F.1.2.1 T, o4⟩, ⟨fun j hj => absurd hj (by omega), fun i j hi _ _ => absurd hi (by omega)⟩, F.1.2.2.2.2.2.2.2.2.2.2⟩, tf_R_lp (show lp ≤ b' by omega) t3 F.2⟩)), fun post hp => nm_r e0 ?_, fun post hp e va ib _ _ _ => ?_⟩
        · repeat first
            | refine br_t (by decide) ?_
            | refine br_f (by decide) ?_
          refine br_t (by rw [ew]; exact nI_lt hm (by omega)) (tx_rt (by omega) F.2.1 T (fun _ => ?_) (fun z => by omega))
          exact br_f (by decide) (br_t (by decide) hp)
        · repeat first
            | refine br_t (by decide) ?_
            | refine br_f (by decide) ?_
          refine br_t (by rw [ew]; exact nI_lt hm (by omega)) (ty_rt (by omega) F.2.1 T (fun _ => ?_) (fun z => by omega))
          refine br_f (by decide) (ty_find (by omega) t2 (by omega) (by omega) (Exists.intro 9 (ty_p106 (by omega) t2 ?_ 8 0 (by omega))))
          repeat first
            | refine br_t (by decide) ?_
            | refine br_f (by decide) ?_
          exact hp
      · obtain ⟨u', v', h1, h2, h3⟩ := tl_raise (d := b) (lp := b') ⟨⟨tf_B_d hB (by omega), F.1.2⟩, tf_R_lp (show lp ≤ b' by omega) t3 F.2⟩ (-16)
        refine ⟨u', v', tf_M_mono (by omega) h1, fun post hp => nm_r e0 ?_, fun post hp e va ib _ _ _ => ?_⟩
        · repeat first
            | refine br_t (by decide) ?_
            | refine br_f (by decide) ?_
          refine br_t (by rw [ew]; exact nI_lt hm (by omega)) (tx_rt (by omega) F.2.1 T (fun z => by omega) (fun _ => ?_))
          exact br_t rfl (h2 _ hp)
        · repeat first
            | refine br_t (by decide) ?_
            | refine br_f (by decide) ?_
          refine br_t (by rw [ew]; exact nI_lt hm (by omega)) (ty_rt (by omega) F.2.1 T (fun z => by omega) (fun _ => ?_))
          exact br_t rfl (h3 _ hp)
    · obtain ⟨u', v', h1, h2, h3⟩ := tl_raise (d := b) ⟨⟨tf_B_d hB (by omega), F.1.2⟩, F.2⟩ (-8)
      refine ⟨u', v', tf_M_mono (by omega) h1, fun post hp => nm_r e0 ?_, fun post hp e va ib _ _ _ => ?_⟩
      · repeat first
          | refine br_t (by decide) ?_
          | refine br_f (by decide) ?_
        exact br_f (by rw [ew]; exact nI_nlt hm (by omega)) (h2 _ hp)
      · repeat first
          | refine br_t (by decide) ?_
          | refine br_f (by decide) ?_
        exact br_f (by rw [ew]; exact nI_nlt hm (by omega)) (h3 _ hp)
  · subst o1
    obtain ⟨u', v', h1, h2, h3⟩ := tl_raise (d := b) ⟨⟨tf_B_d hB (by omega), F.1.2⟩, F.2⟩ (-29)
    refine ⟨u', v', tf_M_mono (by omega) h1, fun post hp => nm_r e0 ?_, fun post hp e va ib _ _ _ => ?_⟩
    · repeat first
        | refine br_t (by decide) ?_
        | refine br_f (by decide) ?_
      exact h2 _ hp
    · rcases o2 with ⟨_, o2⟩ | ⟨_, o2⟩ <;> subst o2
      · repeat first
          | refine br_t (by decide) ?_
          | refine br_f (by decide) ?_
        exact h3 _ hp
      · repeat first
          | refine br_t (by decide) ?_
          | refine br_f (by decide) ?_
        exact h3 _ hp

theorem tw_26 {p : Nat} (F : (tf_F p md mr mu mf ll d r w n os cd hc oh od op co oy onm li nm kd im ad st we wo oo ol ao ap tk gv io ia ik iv ow ck ci ox oz lp fu ip ie rk ra rb rc yk ya yb lo)) : tf_OB lo (p + 2 * d + 1) 26 (k1, k2, k3, k4, k5, k6, k7, k8, k9, (nI md), (nI mr), (nI mu), (nI mf), (nI ll), (nI lp), tS, tE, tN, (nI d), (nI r), (nI w), en, (nI n), op, co, onm, (nI os), (nI cd), (nI hc), (nI oh), (nI od), cu, (nI fu), ip, ie, (-1), 0, re, li, da, rk, ra, rb, rc, nm, kd, ls, im, sr, st, we, ad, wo, tk, gv, io, ia, ck, ci, ce, ou, ox) ((nI md), (nI mr), (nI mu), (nI mf), (nI ll), (nI lp), sv, (nI d), (nI r), (nI w), en, (nI n), (nI hc), (nI od), cu, oy, onm, (nI cd), (nI oh), (nI fu), (-1), re, 0, li, da, yk, ya, yb, nm, kd, ls, im, sr, ad, oo, ol, ao, ap, ik, iv, ow, ce, oz, ck, ou) := by
  have hB := F.1.1
  have hB2 := hB
  unfold tf_B at hB2
  have hT := F.1.2.2.1 26 (by decide)
  refine tl_bi (t := 0) (g := 0) (gr := 0) F (by decide) hT.1 hT.2 (by decide) (by decide) (Or.inl ⟨rfl, by decide⟩) (fun post h => ty145_26 h) ?_
  intro b hb hg y x
  have hb' : b = d := hb.symm
  subst hb'
  have e0 : nI (b + 0) - nI 0 = nI b := by rw [pk_sub (by omega), Nat.add_sub_cancel]
  obtain ⟨a, b', T⟩ := tf_Tok_ex li F.2.1
  have hT2 := T
  obtain ⟨t1, t2, t3, _⟩ := hT2

  rcases tf_opc F.1 with ⟨o1, o2, o3, o4⟩ | ⟨o1, o2, o3, o4, o5⟩
  · subst o1
    subst o2
    skip
    have ew : nI w - 51 = nI (w - 51) := pk_sub (a := w) (b := 51) (by omega)
    rcases Nat.lt_or_ge (w - 51) mu with hm | hm
    · rcases Nat.lt_or_ge a b' with g | g
      · refine ⟨(k1, k2, k3, k4, k5, k6, k7, k8, k9, (nI md), (nI mr), (nI mu), (nI mf), (nI ll), (nI b'), (nI a), (nI b'), (tf_na li a b' 8), (nI b), (nI r), (nI (w+1)), (en+1), (nI n), 0, co, onm, (nI os), (nI cd), (nI hc), (nI oh), (nI od), cu, (nI fu), ip, ie, (-1), 0, re, li, da, rk, ra, rb, rc, (vp_updL nm w (tf_na li a b' 8)), (upd kd w 2), (upd ls w cu), (upd im w 0), (upd sr w (en+1)), (upd st w (nI n)), (upd we w (nI n)), (upd ad w (nI hc)), (upd wo w (tf_po od ox od)), tk, gv, io, ia, ck, ci, ce, ou, ox), ((nI md), (nI mr), (nI mu), (nI mf), (nI ll), (nI b'), (nI a), (nI b), (nI r), (nI (w+1)), (en+1), (nI n), (nI hc), (nI od), cu, 0, onm, (nI cd), (nI oh), (nI fu), (-1), re, 0, li, da, yk, ya, yb, (vp_updL nm w (tf_na li a b' 8)), (upd kd w 2), (upd ls w cu), (upd im w 0), (upd sr w (en+1)), (upd ad w (nI hc)), (upd oo w (nI od)), (tf_u4 ol w oz), ao, ap, ik, iv, ow, ce, oz, ck, ou), tf_M_mono (p := p) (by omega) (Or.inl (tf_MR_in ⟨tf_C_ent (d := b) (tf_Tok_GN F.1.2.1 T) (by decide) (by omega) (fun z => absurd z (by decide)) (fun z => absurd z (by decide)) o3 ⟨tf_B_d hB (by omega), F.1.2⟩, tf_R_ent (tf_R_lp (show lp ≤ b' by omega) t3 F.2)⟩)), fun post hp => nm_r e0 ?_, fun post hp e va ib _ _ _ => ?_⟩
        · repeat first
            | refine br_t (by decide) ?_
            | refine br_f (by decide) ?_
          refine br_t (by rw [ew]; exact nI_lt hm (by omega)) (tx_rt (by omega) F.2.1 T (fun _ => ?_) (fun z => by omega))
          exact br_f (by decide) (br_f (by decide) (br_t (by decide) (tx_enter (by omega) (by omega) hp)))
        · repeat first
            | refine br_t (by decide) ?_
            | refine br_f (by decide) ?_
          refine br_t (by rw [ew]; exact nI_lt hm (by omega)) (ty_rt (by omega) F.2.1 T (fun _ => ?_) (fun z => by omega))
          refine br_f (by decide) (ty_find (by omega) t2 (by omega) (by omega) (Exists.intro 9 (ty_p106 (by omega) t2 ?_ 8 0 (by omega))))
          repeat first
            | refine br_t (by decide) ?_
            | refine br_f (by decide) ?_
          exact ty_enter (by omega) hp
      · obtain ⟨u', v', h1, h2, h3⟩ := tl_raise (d := b) (lp := b') ⟨⟨tf_B_d hB (by omega), F.1.2⟩, tf_R_lp (show lp ≤ b' by omega) t3 F.2⟩ (-16)
        refine ⟨u', v', tf_M_mono (by omega) h1, fun post hp => nm_r e0 ?_, fun post hp e va ib _ _ _ => ?_⟩
        · repeat first
            | refine br_t (by decide) ?_
            | refine br_f (by decide) ?_
          refine br_t (by rw [ew]; exact nI_lt hm (by omega)) (tx_rt (by omega) F.2.1 T (fun z => by omega) (fun _ => ?_))
          exact br_t rfl (h2 _ hp)
        · repeat first
            | refine br_t (by decide) ?_
            | refine br_f (by decide) ?_
          refine br_t (by rw [ew]; exact nI_lt hm (by omega)) (ty_rt (by omega) F.2.1 T (fun z => by omega) (fun _ => ?_))
          exact br_t rfl (h3 _ hp)
    · obtain ⟨u', v', h1, h2, h3⟩ := tl_raise (d := b) ⟨⟨tf_B_d hB (by omega), F.1.2⟩, F.2⟩ (-8)
      refine ⟨u', v', tf_M_mono (by omega) h1, fun post hp => nm_r e0 ?_, fun post hp e va ib _ _ _ => ?_⟩
      · repeat first
          | refine br_t (by decide) ?_
          | refine br_f (by decide) ?_
        exact br_f (by rw [ew]; exact nI_nlt hm (by omega)) (h2 _ hp)
      · repeat first
          | refine br_t (by decide) ?_
          | refine br_f (by decide) ?_
        exact br_f (by rw [ew]; exact nI_nlt hm (by omega)) (h3 _ hp)
  · subst o1
    obtain ⟨u', v', h1, h2, h3⟩ := tl_raise (d := b) ⟨⟨tf_B_d hB (by omega), F.1.2⟩, F.2⟩ (-29)
    refine ⟨u', v', tf_M_mono (by omega) h1, fun post hp => nm_r e0 ?_, fun post hp e va ib _ _ _ => ?_⟩
    · repeat first
        | refine br_t (by decide) ?_
        | refine br_f (by decide) ?_
      exact h2 _ hp
    · rcases o2 with ⟨_, o2⟩ | ⟨_, o2⟩ <;> subst o2
      · repeat first
          | refine br_t (by decide) ?_
          | refine br_f (by decide) ?_
        exact h3 _ hp
      · repeat first
          | refine br_t (by decide) ?_
          | refine br_f (by decide) ?_
        exact h3 _ hp

theorem tw_27 {p : Nat} (F : (tf_F p md mr mu mf ll d r w n os cd hc oh od op co oy onm li nm kd im ad st we wo oo ol ao ap tk gv io ia ik iv ow ck ci ox oz lp fu ip ie rk ra rb rc yk ya yb lo)) : tf_OB lo (p + 2 * d + 1) 27 (k1, k2, k3, k4, k5, k6, k7, k8, k9, (nI md), (nI mr), (nI mu), (nI mf), (nI ll), (nI lp), tS, tE, tN, (nI d), (nI r), (nI w), en, (nI n), op, co, onm, (nI os), (nI cd), (nI hc), (nI oh), (nI od), cu, (nI fu), ip, ie, (-1), 0, re, li, da, rk, ra, rb, rc, nm, kd, ls, im, sr, st, we, ad, wo, tk, gv, io, ia, ck, ci, ce, ou, ox) ((nI md), (nI mr), (nI mu), (nI mf), (nI ll), (nI lp), sv, (nI d), (nI r), (nI w), en, (nI n), (nI hc), (nI od), cu, oy, onm, (nI cd), (nI oh), (nI fu), (-1), re, 0, li, da, yk, ya, yb, nm, kd, ls, im, sr, ad, oo, ol, ao, ap, ik, iv, ow, ce, oz, ck, ou) := by
  have hB := F.1.1
  have hB2 := hB
  unfold tf_B at hB2
  have hT := F.1.2.2.1 27 (by decide)
  refine tl_bi (t := 0) (g := 0) (gr := 0) F (by decide) hT.1 hT.2 (by decide) (by decide) (Or.inl ⟨rfl, by decide⟩) (fun post h => ty145_27 h) ?_
  intro b hb hg y x
  have hb' : b = d := hb.symm
  subst hb'
  have e0 : nI (b + 0) - nI 0 = nI b := by rw [pk_sub (by omega), Nat.add_sub_cancel]
  obtain ⟨a, b', T⟩ := tf_Tok_ex li F.2.1
  have hT2 := T
  obtain ⟨t1, t2, t3, _⟩ := hT2

  rcases tf_opc F.1 with ⟨o1, o2, o3, o4⟩ | ⟨o1, o2, o3, o4, o5⟩
  · subst o1
    subst o2
    skip
    have ew : nI w - 51 = nI (w - 51) := pk_sub (a := w) (b := 51) (by omega)
    rcases Nat.lt_or_ge (w - 51) mu with hm | hm
    · rcases Nat.lt_or_ge a b' with g | g
      · refine ⟨(k1, k2, k3, k4, k5, k6, k7, k8, k9, (nI md), (nI mr), (nI mu), (nI mf), (nI ll), (nI b'), (nI a), (nI b'), (tf_na li a b' 8), (nI b), (nI r), (nI (w+1)), (en+1), (nI n), 0, co, onm, (nI os), (nI cd), (nI hc), (nI oh), (nI od), cu, (nI fu), ip, ie, (-1), 0, re, li, da, rk, ra, rb, rc, (vp_updL nm w (tf_na li a b' 8)), (upd kd w 4), (upd ls w cu), (upd im w 0), (upd sr w (en+1)), (upd st w (nI n)), (upd we w (nI n)), (upd ad w (nI hc)), (upd wo w (tf_po od ox od)), tk, gv, io, ia, ck, ci, ce, ou, ox), ((nI md), (nI mr), (nI mu), (nI mf), (nI ll), (nI b'), (nI a), (nI b), (nI r), (nI (w+1)), (en+1), (nI n), (nI hc), (nI od), cu, 0, onm, (nI cd), (nI oh), (nI fu), (-1), re, 0, li, da, yk, ya, yb, (vp_updL nm w (tf_na li a b' 8)), (upd kd w 4), (upd ls w cu), (upd im w 0), (upd sr w (en+1)), (upd ad w (nI hc)), (upd oo w (nI od)), (tf_u4 ol w oz), ao, ap, ik, iv, ow, ce, oz, ck, ou), tf_M_mono (p := p) (by omega) (Or.inl (tf_MR_in ⟨tf_C_ent (d := b) (tf_Tok_GN F.1.2.1 T) (by decide) (by omega) (fun z => absurd z (by decide)) (fun _ => ⟨n, pk_us, Nat.le_refl _, o4⟩) o3 ⟨tf_B_d hB (by omega), F.1.2⟩, tf_R_ent (tf_R_lp (show lp ≤ b' by omega) t3 F.2)⟩)), fun post hp => nm_r e0 ?_, fun post hp e va ib _ _ _ => ?_⟩
        · repeat first
            | refine br_t (by decide) ?_
            | refine br_f (by decide) ?_
          refine br_t (by rw [ew]; exact nI_lt hm (by omega)) (tx_rt (by omega) F.2.1 T (fun _ => ?_) (fun z => by omega))
          exact br_f (by decide) (br_f (by decide) (br_f (by decide) (tx_enter (by omega) (by omega) hp)))
        · repeat first
            | refine br_t (by decide) ?_
            | refine br_f (by decide) ?_
          refine br_t (by rw [ew]; exact nI_lt hm (by omega)) (ty_rt (by omega) F.2.1 T (fun _ => ?_) (fun z => by omega))
          refine br_f (by decide) (ty_find (by omega) t2 (by omega) (by omega) (Exists.intro 9 (ty_p106 (by omega) t2 ?_ 8 0 (by omega))))
          repeat first
            | refine br_t (by decide) ?_
            | refine br_f (by decide) ?_
          exact ty_enter (by omega) hp
      · obtain ⟨u', v', h1, h2, h3⟩ := tl_raise (d := b) (lp := b') ⟨⟨tf_B_d hB (by omega), F.1.2⟩, tf_R_lp (show lp ≤ b' by omega) t3 F.2⟩ (-16)
        refine ⟨u', v', tf_M_mono (by omega) h1, fun post hp => nm_r e0 ?_, fun post hp e va ib _ _ _ => ?_⟩
        · repeat first
            | refine br_t (by decide) ?_
            | refine br_f (by decide) ?_
          refine br_t (by rw [ew]; exact nI_lt hm (by omega)) (tx_rt (by omega) F.2.1 T (fun z => by omega) (fun _ => ?_))
          exact br_t rfl (h2 _ hp)
        · repeat first
            | refine br_t (by decide) ?_
            | refine br_f (by decide) ?_
          refine br_t (by rw [ew]; exact nI_lt hm (by omega)) (ty_rt (by omega) F.2.1 T (fun z => by omega) (fun _ => ?_))
          exact br_t rfl (h3 _ hp)
    · obtain ⟨u', v', h1, h2, h3⟩ := tl_raise (d := b) ⟨⟨tf_B_d hB (by omega), F.1.2⟩, F.2⟩ (-8)
      refine ⟨u', v', tf_M_mono (by omega) h1, fun post hp => nm_r e0 ?_, fun post hp e va ib _ _ _ => ?_⟩
      · repeat first
          | refine br_t (by decide) ?_
          | refine br_f (by decide) ?_
        exact br_f (by rw [ew]; exact nI_nlt hm (by omega)) (h2 _ hp)
      · repeat first
          | refine br_t (by decide) ?_
          | refine br_f (by decide) ?_
        exact br_f (by rw [ew]; exact nI_nlt hm (by omega)) (h3 _ hp)
  · subst o1
    obtain ⟨u', v', h1, h2, h3⟩ := tl_raise (d := b) ⟨⟨tf_B_d hB (by omega), F.1.2⟩, F.2⟩ (-29)
    refine ⟨u', v', tf_M_mono (by omega) h1, fun post hp => nm_r e0 ?_, fun post hp e va ib _ _ _ => ?_⟩
    · repeat first
        | refine br_t (by decide) ?_
        | refine br_f (by decide) ?_
      exact h2 _ hp
    · rcases o2 with ⟨_, o2⟩ | ⟨_, o2⟩ <;> subst o2
      · repeat first
          | refine br_t (by decide) ?_
          | refine br_f (by decide) ?_
        exact h3 _ hp
      · repeat first
          | refine br_t (by decide) ?_
          | refine br_f (by decide) ?_
        exact h3 _ hp

end
end
section
section
variable {md mr mu mf ll lp d r w n os cd hc oh od fu : Nat} {k1 k2 k3 k4 k5 k6 k7 k8 k9 tS tE en op co cu ip ie pe ab re oy sv : Int32} {tN onm : Int64} {li da rk ra rb rc kd ls im sr st we ad wo tk gv io ia ck ci ce ou ox yk ya yb oo ol ao ap ik iv ow oz : Nat → Int32} {nm : Nat → Int64} {lo : Nat}
theorem tw_29 {p : Nat} (F : (tf_F p md mr mu mf ll d r w n os cd hc oh od op co oy onm li nm kd im ad st we wo oo ol ao ap tk gv io ia ik iv ow ck ci ox oz lp fu ip ie rk ra rb rc yk ya yb lo)) : tf_OB lo (p + 2 * d + 1) 29 (k1, k2, k3, k4, k5, k6, k7, k8, k9, (nI md), (nI mr), (nI mu), (nI mf), (nI ll), (nI lp), tS, tE, tN, (nI d), (nI r), (nI w), en, (nI n), op, co, onm, (nI os), (nI cd), (nI hc), (nI oh), (nI od), cu, (nI fu), ip, ie, (-1), 0, re, li, da, rk, ra, rb, rc, nm, kd, ls, im, sr, st, we, ad, wo, tk, gv, io, ia, ck, ci, ce, ou, ox) ((nI md), (nI mr), (nI mu), (nI mf), (nI ll), (nI lp), sv, (nI d), (nI r), (nI w), en, (nI n), (nI hc), (nI od), cu, oy, onm, (nI cd), (nI oh), (nI fu), (-1), re, 0, li, da, yk, ya, yb, nm, kd, ls, im, sr, ad, oo, ol, ao, ap, ik, iv, ow, ce, oz, ck, ou) := by
  have hB := F.1.1
  have hB2 := hB
  unfold tf_B at hB2
  have hT := F.1.2.2.1 29 (by decide)
  refine tl_bi (t := 0) (g := 0) (gr := 0) F (by decide) hT.1 hT.2 (by decide) (by decide) (Or.inl ⟨rfl, by decide⟩) (fun post h => ty145_29 h) ?_
  intro b hb hg y x
  have hb' : b = d := hb.symm
  subst hb'
  have e0 : nI (b + 0) - nI 0 = nI b := by rw [pk_sub (by omega), Nat.add_sub_cancel]
  rcases tf_opc F.1 with ⟨o1, o2, o3, o4⟩ | ⟨o1, o2, o3, o4, o5⟩
  · subst o1
    subst o2
    obtain ⟨u', v', h1, h2, h3⟩ := tl_raise (d := b) ⟨⟨tf_B_d hB (by omega), F.1.2⟩, F.2⟩ (-14)
    refine ⟨u', v', tf_M_mono (by omega) h1, fun post hp => nm_r e0 ?_, fun post hp e va ib _ _ _ => ?_⟩
    · repeat first
        | refine br_t (by decide) ?_
        | refine br_f (by decide) ?_
      exact h2 _ hp
    · repeat first
        | refine br_t (by decide) ?_
        | refine br_f (by decide) ?_
      exact h3 _ hp
  · subst o1
    have hP : tf_P w n mu 1 1 2 onm os cd ow := by
      rcases F.1.2.2.2.2.2.2.2.2.1 with ⟨z, _⟩ | ⟨_, _, z1, z2, z3, z4⟩
      · exact absurd z (by decide)
      · exact Or.inr ⟨rfl, Or.inr ⟨rfl, rfl⟩, z1, z2, z3, z4⟩
    refine ⟨(k1, k2, k3, k4, k5, k6, k7, k8, k9, (nI md), (nI mr), (nI mu), (nI mf), (nI ll), (nI lp), tS, tE, tN, (nI b), (nI r), (nI w), en, (nI n), 1, 1, onm, (nI os), (nI cd), (nI hc), (nI oh), (nI od), cu, (nI fu), ip, ie, (-1), 0, re, li, da, rk, ra, rb, rc, nm, kd, ls, im, sr, st, we, ad, wo, tk, gv, io, ia, ck, ci, ce, ou, ox), ((nI md), (nI mr), (nI mu), (nI mf), (nI ll), (nI lp), sv, (nI b), (nI r), (nI w), en, (nI n), (nI hc), (nI od), cu, 2, onm, (nI cd), (nI oh), (nI fu), (-1), re, 0, li, da, yk, ya, yb, nm, kd, ls, im, sr, ad, oo, ol, ao, ap, ik, iv, ow, ce, oz, ck, ou), tf_M_mono (p := p) (by omega) (Or.inl (tf_MR_in ⟨⟨tf_B_d hB (by omega), F.1.2.1, F.1.2.2.1, F.1.2.2.2.1, F.1.2.2.2.2.1, F.1.2.2.2.2.2.1, F.1.2.2.2.2.2.2.1, F.1.2.2.2.2.2.2.2.1, hP, F.1.2.2.2.2.2.2.2.2.2⟩, F.2⟩)), fun post hp => nm_r e0 ?_, fun post hp e va ib _ _ _ => ?_⟩
    · repeat first
        | refine br_t (by decide) ?_
        | refine br_f (by decide) ?_
      exact hp
    · rcases o2 with ⟨o6, o2⟩ | ⟨o6, o2⟩ <;> subst o2
      · repeat first
          | refine br_t (by decide) ?_
          | refine br_f (by decide) ?_
        exact hp
      · repeat first
          | refine br_t (by decide) ?_
          | refine br_f (by decide) ?_
        exact hp

theorem tw_34 {p : Nat} (F : (tf_F p md mr mu mf ll d r w n os cd hc oh od op co oy onm li nm kd im ad st we wo oo ol ao ap tk gv io ia ik iv ow ck ci ox oz lp fu ip ie rk ra rb rc yk ya yb lo)) : tf_OB lo (p + 2 * d + 1) 34 (k1, k2, k3, k4, k5, k6, k7, k8, k9, (nI md), (nI mr), (nI mu), (nI mf), (nI ll), (nI lp), tS, tE, tN, (nI d), (nI r), (nI w), en, (nI n), op, co, onm, (nI os), (nI cd), (nI hc), (nI oh), (nI od), cu, (nI fu), ip, ie, (-1), 0, re, li, da, rk, ra, rb, rc, nm, kd, ls, im, sr, st, we, ad, wo, tk, gv, io, ia, ck, ci, ce, ou, ox) ((nI md), (nI mr), (nI mu), (nI mf), (nI ll), (nI lp), sv, (nI d), (nI r), (nI w), en, (nI n), (nI hc), (nI od), cu, oy, onm, (nI cd), (nI oh), (nI fu), (-1), re, 0, li, da, yk, ya, yb, nm, kd, ls, im, sr, ad, oo, ol, ao, ap, ik, iv, ow, ce, oz, ck, ou) := by
  have hB := F.1.1
  have hB2 := hB
  unfold tf_B at hB2
  have hT := F.1.2.2.1 34 (by decide)
  refine tl_bi (t := 0) (g := 0) (gr := 0) F (by decide) hT.1 hT.2 (by decide) (by decide) (Or.inl ⟨rfl, by decide⟩) (fun post h => ty145_34 h) ?_
  intro b hb hg y x
  have hb' : b = d := hb.symm
  subst hb'
  have e0 : nI (b + 0) - nI 0 = nI b := by rw [pk_sub (by omega), Nat.add_sub_cancel]
  rcases tf_opc F.1 with ⟨o1, o2, o3, o4⟩ | ⟨o1, o2, o3, o4, o5⟩
  · subst o1
    subst o2
    obtain ⟨u', v', h1, h2, h3⟩ := tl_raise (d := b) ⟨⟨tf_B_d hB (by omega), F.1.2⟩, F.2⟩ (-14)
    refine ⟨u', v', tf_M_mono (by omega) h1, fun post hp => nm_r e0 ?_, fun post hp e va ib _ _ _ => ?_⟩
    · repeat first
        | refine br_t (by decide) ?_
        | refine br_f (by decide) ?_
      exact h2 _ hp
    · repeat first
        | refine br_t (by decide) ?_
        | refine br_f (by decide) ?_
      exact h3 _ hp
  · subst o1
    have hP : tf_P w n mu 1 0 1 onm os cd ow := by
      rcases F.1.2.2.2.2.2.2.2.2.1 with ⟨z, _⟩ | ⟨_, _, z1, z2, z3, z4⟩
      · exact absurd z (by decide)
      · exact Or.inr ⟨rfl, Or.inl ⟨rfl, rfl⟩, z1, z2, z3, z4⟩
    refine ⟨(k1, k2, k3, k4, k5, k6, k7, k8, k9, (nI md), (nI mr), (nI mu), (nI mf), (nI ll), (nI lp), tS, tE, tN, (nI b), (nI r), (nI w), en, (nI n), 1, 0, onm, (nI os), (nI cd), (nI hc), (nI oh), (nI od), cu, (nI fu), ip, ie, (-1), 0, re, li, da, rk, ra, rb, rc, nm, kd, ls, im, sr, st, we, ad, wo, tk, gv, io, ia, ck, ci, ce, ou, ox), ((nI md), (nI mr), (nI mu), (nI mf), (nI ll), (nI lp), sv, (nI b), (nI r), (nI w), en, (nI n), (nI hc), (nI od), cu, 1, onm, (nI cd), (nI oh), (nI fu), (-1), re, 0, li, da, yk, ya, yb, nm, kd, ls, im, sr, ad, oo, ol, ao, ap, ik, iv, ow, ce, oz, ck, ou), tf_M_mono (p := p) (by omega) (Or.inl (tf_MR_in ⟨⟨tf_B_d hB (by omega), F.1.2.1, F.1.2.2.1, F.1.2.2.2.1, F.1.2.2.2.2.1, F.1.2.2.2.2.2.1, F.1.2.2.2.2.2.2.1, F.1.2.2.2.2.2.2.2.1, hP, F.1.2.2.2.2.2.2.2.2.2⟩, F.2⟩)), fun post hp => nm_r e0 ?_, fun post hp e va ib _ _ _ => ?_⟩
    · repeat first
        | refine br_t (by decide) ?_
        | refine br_f (by decide) ?_
      exact hp
    · rcases o2 with ⟨o6, o2⟩ | ⟨o6, o2⟩ <;> subst o2
      · repeat first
          | refine br_t (by decide) ?_
          | refine br_f (by decide) ?_
        exact hp
      · repeat first
          | refine br_t (by decide) ?_
          | refine br_f (by decide) ?_
        exact hp

theorem tw_47 {p : Nat} (F : (tf_F p md mr mu mf ll d r w n os cd hc oh od op co oy onm li nm kd im ad st we wo oo ol ao ap tk gv io ia ik iv ow ck ci ox oz lp fu ip ie rk ra rb rc yk ya yb lo)) : tf_OB lo (p + 2 * d + 1) 47 (k1, k2, k3, k4, k5, k6, k7, k8, k9, (nI md), (nI mr), (nI mu), (nI mf), (nI ll), (nI lp), tS, tE, tN, (nI d), (nI r), (nI w), en, (nI n), op, co, onm, (nI os), (nI cd), (nI hc), (nI oh), (nI od), cu, (nI fu), ip, ie, (-1), 0, re, li, da, rk, ra, rb, rc, nm, kd, ls, im, sr, st, we, ad, wo, tk, gv, io, ia, ck, ci, ce, ou, ox) ((nI md), (nI mr), (nI mu), (nI mf), (nI ll), (nI lp), sv, (nI d), (nI r), (nI w), en, (nI n), (nI hc), (nI od), cu, oy, onm, (nI cd), (nI oh), (nI fu), (-1), re, 0, li, da, yk, ya, yb, nm, kd, ls, im, sr, ad, oo, ol, ao, ap, ik, iv, ow, ce, oz, ck, ou) := by
  have hB := F.1.1
  have hB2 := hB
  unfold tf_B at hB2
  have hT := F.1.2.2.1 47 (by decide)
  refine tl_bi (t := 0) (g := 0) (gr := 0) F (by decide) hT.1 hT.2 (by decide) (by decide) (Or.inl ⟨rfl, by decide⟩) (fun post h => ty145_47 h) ?_
  intro b hb hg y x
  have hb' : b = d := hb.symm
  subst hb'
  have e0 : nI (b + 0) - nI 0 = nI b := by rw [pk_sub (by omega), Nat.add_sub_cancel]
  rcases tf_opc F.1 with ⟨o1, o2, o3, o4⟩ | ⟨o1, o2, o3, o4, o5⟩
  · subst o1
    subst o2
    obtain ⟨u', v', h1, h2, h3⟩ := tl_raise (d := b) ⟨⟨tf_B_d hB (by omega), F.1.2⟩, F.2⟩ (-14)
    refine ⟨u', v', tf_M_mono (by omega) h1, fun post hp => nm_r e0 ?_, fun post hp e va ib _ _ _ => ?_⟩
    · repeat first
        | refine br_t (by decide) ?_
        | refine br_f (by decide) ?_
      exact h2 _ hp
    · repeat first
        | refine br_t (by decide) ?_
        | refine br_f (by decide) ?_
      exact h3 _ hp
  · subst o1
    obtain ⟨u', v', h1, h2, h3⟩ := tl_item (d := b) (xo := 1) (xk := 3) (v := nI w) ⟨⟨tf_B_d hB (by omega), F.1.2⟩, F.2⟩ (Or.inr (Or.inl ⟨rfl, rfl, w, Nat.le_refl _, rfl⟩))
    refine ⟨u', v', tf_M_mono (by omega) h1, fun post hp => nm_r e0 ?_, fun post hp e va ib _ _ _ => ?_⟩
    · repeat first
        | refine br_t (by decide) ?_
        | refine br_f (by decide) ?_
      exact h2 _ hp
    · rcases o2 with ⟨o6, o2⟩ | ⟨o6, o2⟩ <;> subst o2
      · repeat first
          | refine br_t (by decide) ?_
          | refine br_f (by decide) ?_
        exact h3 _ hp
      · repeat first
          | refine br_t (by decide) ?_
          | refine br_f (by decide) ?_
        exact h3 _ hp

theorem tw_48 {p : Nat} (F : (tf_F p md mr mu mf ll d r w n os cd hc oh od op co oy onm li nm kd im ad st we wo oo ol ao ap tk gv io ia ik iv ow ck ci ox oz lp fu ip ie rk ra rb rc yk ya yb lo)) : tf_OB lo (p + 2 * d + 1) 48 (k1, k2, k3, k4, k5, k6, k7, k8, k9, (nI md), (nI mr), (nI mu), (nI mf), (nI ll), (nI lp), tS, tE, tN, (nI d), (nI r), (nI w), en, (nI n), op, co, onm, (nI os), (nI cd), (nI hc), (nI oh), (nI od), cu, (nI fu), ip, ie, (-1), 0, re, li, da, rk, ra, rb, rc, nm, kd, ls, im, sr, st, we, ad, wo, tk, gv, io, ia, ck, ci, ce, ou, ox) ((nI md), (nI mr), (nI mu), (nI mf), (nI ll), (nI lp), sv, (nI d), (nI r), (nI w), en, (nI n), (nI hc), (nI od), cu, oy, onm, (nI cd), (nI oh), (nI fu), (-1), re, 0, li, da, yk, ya, yb, nm, kd, ls, im, sr, ad, oo, ol, ao, ap, ik, iv, ow, ce, oz, ck, ou) := by
  have hB := F.1.1
  have hB2 := hB
  unfold tf_B at hB2
  have hT := F.1.2.2.1 48 (by decide)
  refine tl_bi (t := 1) (g := 0) (gr := 0) F (by decide) hT.1 hT.2 (by decide) (by decide) (Or.inl ⟨rfl, by decide⟩) (fun post h => ty145_48 h) ?_
  intro b hb hg y x
  have hb' := hb
  subst hb'
  have e0 : nI (b + 1) - nI 1 = nI b := by rw [pk_sub (by omega), Nat.add_sub_cancel]
  rcases tf_opc F.1 with ⟨o1, o2, o3, o4⟩ | ⟨o1, o2, o3, o4, o5⟩
  · subst o1
    subst o2
    obtain ⟨u', v', h1, h2, h3⟩ := tl_raise (d := b) ⟨⟨tf_B_d hB (by omega), F.1.2⟩, F.2⟩ (-14)
    refine ⟨u', v', tf_M_mono (by omega) h1, fun post hp => nm_r e0 ?_, fun post hp e va ib _ _ _ => ?_⟩
    · repeat first
        | refine br_t (by decide) ?_
        | refine br_f (by decide) ?_
      exact h2 _ hp
    · repeat first
        | refine br_t (by decide) ?_
        | refine br_f (by decide) ?_
      exact h3 _ hp
  · subst o1
    obtain ⟨u', v', h1, h2, h3⟩ := tl_item (d := b) (xo := 0) (xk := 1) (v := y) ⟨⟨tf_B_d hB (by omega), F.1.2⟩, F.2⟩ (Or.inl ⟨rfl, rfl⟩)
    refine ⟨u', v', tf_M_mono (by omega) h1, fun post hp => nm_r e0 ?_, fun post hp e va ib _ _ _ => ?_⟩
    · repeat first
        | refine br_t (by decide) ?_
        | refine br_f (by decide) ?_
      exact h2 _ hp
    · rcases o2 with ⟨o6, o2⟩ | ⟨o6, o2⟩ <;> subst o2
      · repeat first
          | refine br_t (by decide) ?_
          | refine br_f (by decide) ?_
        exact h3 _ hp
      · repeat first
          | refine br_t (by decide) ?_
          | refine br_f (by decide) ?_
        exact h3 _ hp

theorem tw_30 {p : Nat} (F : (tf_F p md mr mu mf ll d r w n os cd hc oh od op co oy onm li nm kd im ad st we wo oo ol ao ap tk gv io ia ik iv ow ck ci ox oz lp fu ip ie rk ra rb rc yk ya yb lo)) : tf_OB lo (p + 2 * d + 1) 30 (k1, k2, k3, k4, k5, k6, k7, k8, k9, (nI md), (nI mr), (nI mu), (nI mf), (nI ll), (nI lp), tS, tE, tN, (nI d), (nI r), (nI w), en, (nI n), op, co, onm, (nI os), (nI cd), (nI hc), (nI oh), (nI od), cu, (nI fu), ip, ie, (-1), 0, re, li, da, rk, ra, rb, rc, nm, kd, ls, im, sr, st, we, ad, wo, tk, gv, io, ia, ck, ci, ce, ou, ox) ((nI md), (nI mr), (nI mu), (nI mf), (nI ll), (nI lp), sv, (nI d), (nI r), (nI w), en, (nI n), (nI hc), (nI od), cu, oy, onm, (nI cd), (nI oh), (nI fu), (-1), re, 0, li, da, yk, ya, yb, nm, kd, ls, im, sr, ad, oo, ol, ao, ap, ik, iv, ow, ce, oz, ck, ou) := by
  have hB := F.1.1
  have hB2 := hB
  unfold tf_B at hB2
  have hT := F.1.2.2.1 30 (by decide)
  refine tl_bi (t := 1) (g := 0) (gr := 0) F (by decide) hT.1 hT.2 (by decide) (by decide) (Or.inl ⟨rfl, by decide⟩) (fun post h => ty145_30 h) ?_
  intro b hb hg y x
  have hb' := hb
  subst hb'
  have e0 : nI (b + 1) - nI 1 = nI b := by rw [pk_sub (by omega), Nat.add_sub_cancel]
  rcases tf_opc F.1 with ⟨o1, o2, o3, o4⟩ | ⟨o1, o2, o3, o4, o5⟩
  · subst o1
    subst o2
    obtain ⟨u', v', h1, h2, h3⟩ := tl_raise (d := b) ⟨⟨tf_B_d hB (by omega), F.1.2⟩, F.2⟩ (-14)
    refine ⟨u', v', tf_M_mono (by omega) h1, fun post hp => nm_r e0 ?_, fun post hp e va ib _ _ _ => ?_⟩
    · repeat first
        | refine br_t (by decide) ?_
        | refine br_f (by decide) ?_
      exact h2 _ hp
    · repeat first
        | refine br_t (by decide) ?_
        | refine br_f (by decide) ?_
      exact h3 _ hp
  · subst o1
    by_cases hin : tf_in w y
    · have hi := hin
      obtain ⟨c, hc1, rfl⟩ := hin
      obtain ⟨q1, q2, _⟩ := tf_in_lt (by omega) hi
      obtain ⟨u', v', h1, h2, h3⟩ := tl_item (d := b) (xo := 1) (xk := 3) (v := nI c) ⟨⟨tf_B_d hB (by omega), F.1.2⟩, F.2⟩ (Or.inr (Or.inl ⟨rfl, rfl, c, by omega, rfl⟩))
      refine ⟨u', v', tf_M_mono (by omega) h1, fun post hp => nm_r e0 ?_, fun post hp e va ib _ hva _ => ?_⟩
      · repeat first
          | refine br_t (by decide) ?_
          | refine br_f (by decide) ?_
        exact br_f q1 (br_t q2 (h2 _ hp))
      · have e9 := tf_va1 (by omega) hva hi
        subst e9
        rcases o2 with ⟨o6, o2⟩ | ⟨o6, o2⟩ <;> subst o2
        · repeat first
            | refine br_t (by decide) ?_
            | refine br_f (by decide) ?_
          exact h3 _ hp
        · repeat first
            | refine br_t (by decide) ?_
            | refine br_f (by decide) ?_
          exact h3 _ hp
    · obtain ⟨u', v', h1, h2, h3⟩ := tl_raise (d := b) ⟨⟨tf_B_d hB (by omega), F.1.2⟩, F.2⟩ (-13)
      refine ⟨u', v', tf_M_mono (by omega) h1, fun post hp => nm_r e0 ?_, fun post hp e va ib _ hva _ => ?_⟩
      · repeat first
          | refine br_t (by decide) ?_
          | refine br_f (by decide) ?_
        rcases tf_nin (show w < 2 ^ 31 by omega) hin with z | ⟨z, z2⟩
        · exact br_t z (h2 _ hp)
        · exact br_f z (br_f z2 (h2 _ hp))
      · have e9 := tf_va0 hva hin
        subst e9
        rcases o2 with ⟨o6, o2⟩ | ⟨o6, o2⟩ <;> subst o2
        · repeat first
            | refine br_t (by decide) ?_
            | refine br_f (by decide) ?_
          exact h3 _ hp
        · repeat first
            | refine br_t (by decide) ?_
            | refine br_f (by decide) ?_
          exact h3 _ hp

theorem tw_28 {p : Nat} (F : (tf_F p md mr mu mf ll d r w n os cd hc oh od op co oy onm li nm kd im ad st we wo oo ol ao ap tk gv io ia ik iv ow ck ci ox oz lp fu ip ie rk ra rb rc yk ya yb lo)) : tf_OB lo (p + 2 * d + 1) 28 (k1, k2, k3, k4, k5, k6, k7, k8, k9, (nI md), (nI mr), (nI mu), (nI mf), (nI ll), (nI lp), tS, tE, tN, (nI d), (nI r), (nI w), en, (nI n), op, co, onm, (nI os), (nI cd), (nI hc), (nI oh), (nI od), cu, (nI fu), ip, ie, (-1), 0, re, li, da, rk, ra, rb, rc, nm, kd, ls, im, sr, st, we, ad, wo, tk, gv, io, ia, ck, ci, ce, ou, ox) ((nI md), (nI mr), (nI mu), (nI mf), (nI ll), (nI lp), sv, (nI d), (nI r), (nI w), en, (nI n), (nI hc), (nI od), cu, oy, onm, (nI cd), (nI oh), (nI fu), (-1), re, 0, li, da, yk, ya, yb, nm, kd, ls, im, sr, ad, oo, ol, ao, ap, ik, iv, ow, ce, oz, ck, ou) := by
  have hB := F.1.1
  have hB2 := hB
  unfold tf_B at hB2
  have hT := F.1.2.2.1 28 (by decide)
  refine tl_bi (t := 0) (g := 0) (gr := 0) F (by decide) hT.1 hT.2 (by decide) (by decide) (Or.inl ⟨rfl, by decide⟩) (fun post h => ty145_28 h) ?_
  intro b hb hg y x
  have hb' : b = d := hb.symm
  subst hb'
  have e0 : nI (b + 0) - nI 0 = nI b := by rw [pk_sub (by omega), Nat.add_sub_cancel]
  rcases Nat.lt_or_ge 51 w with h | h
  · obtain ⟨m, hm⟩ : ∃ m, w = m + 1 := ⟨w - 1, by omega⟩
    subst hm
    have hN := F.1.2.2.2.2.1
    refine ⟨(k1, k2, k3, k4, k5, k6, k7, k8, k9, (nI md), (nI mr), (nI mu), (nI mf), (nI ll), (nI lp), tS, tE, tN, (nI b), (nI r), (nI (m+1)), en, (nI n), op, co, onm, (nI os), (nI cd), (nI hc), (nI oh), (nI od), cu, (nI fu), ip, ie, (-1), 0, re, li, da, rk, ra, rb, rc, nm, kd, ls, (upd im m 1), sr, st, we, ad, wo, tk, gv, io, ia, ck, ci, ce, ou, ox), ((nI md), (nI mr), (nI mu), (nI mf), (nI ll), (nI lp), sv, (nI b), (nI r), (nI (m+1)), en, (nI n), (nI hc), (nI od), cu, oy, onm, (nI cd), (nI oh), (nI fu), (-1), re, 0, li, da, yk, ya, yb, nm, kd, ls, (upd im m 1), sr, ad, oo, ol, ao, ap, ik, iv, ow, ce, oz, ck, ou), tf_M_mono (p := p) (by omega) (Or.inl (tf_MR_in ⟨⟨tf_B_d hB (by omega), F.1.2.1, F.1.2.2.1, F.1.2.2.2.1, ⟨hN.1, fun k hk => ?_, hN.2.2.1, hN.2.2.2⟩, F.1.2.2.2.2.2⟩, F.2⟩)), fun post hp => nm_r e0 ?_, fun post hp e va ib _ _ _ => ?_⟩
    · by_cases z : k = m
      · rw [z, pk_us]; exact Or.inr rfl
      · rw [pk_un z]; exact hN.2.1 k hk
    · repeat first
        | refine br_t (by decide) ?_
        | refine br_f (by decide) ?_
      refine br_t (nI_lt (a := 51) h (by omega)) ?_
      rw [nI_pred]
      exact And.intro (vp_in_nI (by omega) (by omega)) (nm_r (tf_uc (by omega)) hp)
    · repeat first
        | refine br_t (by decide) ?_
        | refine br_f (by decide) ?_
      refine br_f (fun z => by have := (nI_eq (a := m + 1) (b := 51) (by omega) (by omega)).mp z; omega) ?_
      rw [nI_pred]
      exact And.intro (vp_in_nI (by omega) (by omega)) (nm_r (tf_uc (by omega)) hp)
  · have hw : w = 51 := by omega
    subst hw
    obtain ⟨u', v', h1, h2, h3⟩ := tl_raise (d := b) ⟨⟨tf_B_d hB (by omega), F.1.2⟩, F.2⟩ (-31)
    refine ⟨u', v', tf_M_mono (by omega) h1, fun post hp => nm_r e0 ?_, fun post hp e va ib _ _ _ => ?_⟩
    · repeat first
        | refine br_t (by decide) ?_
        | refine br_f (by decide) ?_
      exact h2 _ hp
    · repeat first
        | refine br_t (by decide) ?_
        | refine br_f (by decide) ?_
      exact h3 _ hp

theorem tw_31 {p : Nat} (F : (tf_F p md mr mu mf ll d r w n os cd hc oh od op co oy onm li nm kd im ad st we wo oo ol ao ap tk gv io ia ik iv ow ck ci ox oz lp fu ip ie rk ra rb rc yk ya yb lo)) : tf_OB lo (p + 2 * d + 1) 31 (k1, k2, k3, k4, k5, k6, k7, k8, k9, (nI md), (nI mr), (nI mu), (nI mf), (nI ll), (nI lp), tS, tE, tN, (nI d), (nI r), (nI w), en, (nI n), op, co, onm, (nI os), (nI cd), (nI hc), (nI oh), (nI od), cu, (nI fu), ip, ie, (-1), 0, re, li, da, rk, ra, rb, rc, nm, kd, ls, im, sr, st, we, ad, wo, tk, gv, io, ia, ck, ci, ce, ou, ox) ((nI md), (nI mr), (nI mu), (nI mf), (nI ll), (nI lp), sv, (nI d), (nI r), (nI w), en, (nI n), (nI hc), (nI od), cu, oy, onm, (nI cd), (nI oh), (nI fu), (-1), re, 0, li, da, yk, ya, yb, nm, kd, ls, im, sr, ad, oo, ol, ao, ap, ik, iv, ow, ce, oz, ck, ou) := by
  have hB := F.1.1
  have hB2 := hB
  unfold tf_B at hB2
  have hT := F.1.2.2.1 31 (by decide)
  refine tl_bi (t := 1) (g := 0) (gr := 0) F (by decide) hT.1 hT.2 (by decide) (by decide) (Or.inl ⟨rfl, by decide⟩) (fun post h => ty145_31 h) ?_
  intro b hb hg y x
  have hb' := hb
  subst hb'
  have e0 : nI (b + 1) - nI 1 = nI b := by rw [pk_sub (by omega), Nat.add_sub_cancel]
  by_cases hin : tf_in 4 y
  · have hi := hin
    obtain ⟨c, hc1, rfl⟩ := hin
    obtain ⟨q1, q2, _⟩ := tf_in_lt (by omega) hi
    have q3 : nI c ≤ 3 := nI_le (b := 3) (by omega) (by omega)
    rcases Nat.lt_or_ge od 4 with h | h
    · refine ⟨(k1, k2, k3, k4, k5, k6, k7, k8, k9, (nI md), (nI mr), (nI mu), (nI mf), (nI ll), (nI lp), tS, tE, tN, (nI b), (nI r), (nI w), en, (nI n), op, co, onm, (nI os), (nI cd), (nI hc), (nI oh), (nI (od+1)), cu, (nI fu), ip, ie, (-1), 0, re, li, da, rk, ra, rb, rc, nm, kd, ls, im, sr, st, we, ad, wo, tk, gv, io, ia, ck, ci, ce, ou, (upd ox od (nI c))), ((nI md), (nI mr), (nI mu), (nI mf), (nI ll), (nI lp), sv, (nI b), (nI r), (nI w), en, (nI n), (nI hc), (nI (od+1)), cu, oy, onm, (nI cd), (nI oh), (nI fu), (-1), re, 0, li, da, yk, ya, yb, nm, kd, ls, im, sr, ad, oo, ol, ao, ap, ik, iv, ow, ce, (upd oz od (nI c)), ck, ou), tf_M_mono (p := p) (by omega) (Or.inl (tf_MR_in ⟨⟨by unfold tf_B; omega, F.1.2.1, F.1.2.2.1, fun i hi => ?_, F.1.2.2.2.2⟩, F.2⟩)), fun post hp => nm_r e0 ?_, fun post hp e va ib _ _ _ => ?_⟩
      · rcases Nat.lt_or_ge i od with g | g
        · rw [pk_un (by omega), pk_un (by omega)]; exact F.1.2.2.2.1 i g
        · have e : i = od := by omega
          rw [e, pk_us, pk_us]; exact ⟨rfl, c, hc1, rfl⟩
      · repeat first
          | refine br_t (by decide) ?_
          | refine br_f (by decide) ?_
        exact br_f q1 (br_t q3 (br_t (nI_lt (b := 4) h (by decide)) (And.intro (vp_in_nI h (by omega)) (nm_r (tf_uc (by omega)) (nm_r (nI_1 od) hp)))))
      · repeat first
          | refine br_t (by decide) ?_
          | refine br_f (by decide) ?_
        exact br_f q1 (br_t q3 (br_t (nI_lt (b := 4) h (by decide)) (And.intro (vp_in_nI h (by omega)) (nm_r (tf_uc (by omega)) (nm_r (nI_1 od) hp)))))
    · obtain ⟨u', v', h1, h2, h3⟩ := tl_raise (d := b) ⟨⟨tf_B_d hB (by omega), F.1.2⟩, F.2⟩ (-49)
      refine ⟨u', v', tf_M_mono (by omega) h1, fun post hp => nm_r e0 ?_, fun post hp e va ib _ _ _ => ?_⟩
      · repeat first
          | refine br_t (by decide) ?_
          | refine br_f (by decide) ?_
        exact br_f q1 (br_t q3 (br_f (nI_nlt (b := 4) h (by omega)) (h2 _ hp)))
      · repeat first
          | refine br_t (by decide) ?_
          | refine br_f (by decide) ?_
        exact br_f q1 (br_t q3 (br_f (nI_nlt (b := 4) h (by omega)) (h3 _ hp)))
  · obtain ⟨u', v', h1, h2, h3⟩ := tl_raise (d := b) ⟨⟨tf_B_d hB (by omega), F.1.2⟩, F.2⟩ (-9)
    have hz : y < 0 ∨ (¬ y < 0 ∧ ¬ y ≤ 3) := by
      rcases tf_nin (show 4 < 2 ^ 31 by omega) hin with z | ⟨z, z2⟩
      · exact Or.inl z
      · refine Or.inr ⟨z, fun z3 => hin ?_⟩
        obtain ⟨j, j1, j2⟩ := nI_of2 (M := 3) (n := 3) (by decide) z z3
        exact ⟨j, by omega, j2⟩
    refine ⟨u', v', tf_M_mono (by omega) h1, fun post hp => nm_r e0 ?_, fun post hp e va ib _ _ _ => ?_⟩
    · repeat first
        | refine br_t (by decide) ?_
        | refine br_f (by decide) ?_
      rcases hz with z | ⟨z, z2⟩
      · exact br_t z (h2 _ hp)
      · exact br_f z (br_f z2 (h2 _ hp))
    · repeat first
        | refine br_t (by decide) ?_
        | refine br_f (by decide) ?_
      rcases hz with z | ⟨z, z2⟩
      · exact br_t z (h3 _ hp)
      · exact br_f z (br_f z2 (h3 _ hp))

theorem tw_32 {p : Nat} (F : (tf_F p md mr mu mf ll d r w n os cd hc oh od op co oy onm li nm kd im ad st we wo oo ol ao ap tk gv io ia ik iv ow ck ci ox oz lp fu ip ie rk ra rb rc yk ya yb lo)) : tf_OB lo (p + 2 * d + 1) 32 (k1, k2, k3, k4, k5, k6, k7, k8, k9, (nI md), (nI mr), (nI mu), (nI mf), (nI ll), (nI lp), tS, tE, tN, (nI d), (nI r), (nI w), en, (nI n), op, co, onm, (nI os), (nI cd), (nI hc), (nI oh), (nI od), cu, (nI fu), ip, ie, (-1), 0, re, li, da, rk, ra, rb, rc, nm, kd, ls, im, sr, st, we, ad, wo, tk, gv, io, ia, ck, ci, ce, ou, ox) ((nI md), (nI mr), (nI mu), (nI mf), (nI ll), (nI lp), sv, (nI d), (nI r), (nI w), en, (nI n), (nI hc), (nI od), cu, oy, onm, (nI cd), (nI oh), (nI fu), (-1), re, 0, li, da, yk, ya, yb, nm, kd, ls, im, sr, ad, oo, ol, ao, ap, ik, iv, ow, ce, oz, ck, ou) := by
  have hB := F.1.1
  have hB2 := hB
  unfold tf_B at hB2
  have hT := F.1.2.2.1 32 (by decide)
  refine tl_bi (t := 0) (g := 0) (gr := 0) F (by decide) hT.1 hT.2 (by decide) (by decide) (Or.inl ⟨rfl, by decide⟩) (fun post h => ty145_32 h) ?_
  intro b hb hg y x
  have hb' : b = d := hb.symm
  subst hb'
  have e0 : nI (b + 0) - nI 0 = nI b := by rw [pk_sub (by omega), Nat.add_sub_cancel]
  rcases Nat.lt_or_ge 1 od with h | h
  · obtain ⟨m, hm⟩ : ∃ m, od = m + 1 := ⟨od - 1, by omega⟩
    subst hm
    refine ⟨(k1, k2, k3, k4, k5, k6, k7, k8, k9, (nI md), (nI mr), (nI mu), (nI mf), (nI ll), (nI lp), tS, tE, tN, (nI b), (nI r), (nI w), en, (nI n), op, co, onm, (nI os), (nI cd), (nI hc), (nI oh), (nI m), cu, (nI fu), ip, ie, (-1), 0, re, li, da, rk, ra, rb, rc, nm, kd, ls, im, sr, st, we, ad, wo, tk, gv, io, ia, ck, ci, ce, ou, ox), ((nI md), (nI mr), (nI mu), (nI mf), (nI ll), (nI lp), sv, (nI b), (nI r), (nI w), en, (nI n), (nI hc), (nI m), cu, oy, onm, (nI cd), (nI oh), (nI fu), (-1), re, 0, li, da, yk, ya, yb, nm, kd, ls, im, sr, ad, oo, ol, ao, ap, ik, iv, ow, ce, oz, ck, ou), tf_M_mono (p := p) (by omega) (Or.inl (tf_MR_in ⟨⟨by unfold tf_B; omega, F.1.2.1, F.1.2.2.1, fun i hi => F.1.2.2.2.1 i (by omega), F.1.2.2.2.2⟩, F.2⟩)), fun post hp => nm_r e0 ?_, fun post hp e va ib _ _ _ => ?_⟩
    · repeat first
        | refine br_t (by decide) ?_
        | refine br_f (by decide) ?_
      exact br_t (nI_lt (a := 1) h (by omega)) (nm_r (nI_pred m) hp)
    · repeat first
        | refine br_t (by decide) ?_
        | refine br_f (by decide) ?_
      exact br_t (nI_lt (a := 1) h (by omega)) (nm_r (nI_pred m) hp)
  · obtain ⟨u', v', h1, h2, h3⟩ := tl_raise (d := b) ⟨⟨tf_B_d hB (by omega), F.1.2⟩, F.2⟩ (-50)
    refine ⟨u', v', tf_M_mono (by omega) h1, fun post hp => nm_r e0 ?_, fun post hp e va ib _ _ _ => ?_⟩
    · repeat first
        | refine br_t (by decide) ?_
        | refine br_f (by decide) ?_
      exact br_f (nI_nlt (a := 1) h (by omega)) (h2 _ hp)
    · repeat first
        | refine br_t (by decide) ?_
        | refine br_f (by decide) ?_
      exact br_f (nI_nlt (a := 1) h (by omega)) (h3 _ hp)

theorem tw_33 {p : Nat} (F : (tf_F p md mr mu mf ll d r w n os cd hc oh od op co oy onm li nm kd im ad st we wo oo ol ao ap tk gv io ia ik iv ow ck ci ox oz lp fu ip ie rk ra rb rc yk ya yb lo)) : tf_OB lo (p + 2 * d + 1) 33 (k1, k2, k3, k4, k5, k6, k7, k8, k9, (nI md), (nI mr), (nI mu), (nI mf), (nI ll), (nI lp), tS, tE, tN, (nI d), (nI r), (nI w), en, (nI n), op, co, onm, (nI os), (nI cd), (nI hc), (nI oh), (nI od), cu, (nI fu), ip, ie, (-1), 0, re, li, da, rk, ra, rb, rc, nm, kd, ls, im, sr, st, we, ad, wo, tk, gv, io, ia, ck, ci, ce, ou, ox) ((nI md), (nI mr), (nI mu), (nI mf), (nI ll), (nI lp), sv, (nI d), (nI r), (nI w), en, (nI n), (nI hc), (nI od), cu, oy, onm, (nI cd), (nI oh), (nI fu), (-1), re, 0, li, da, yk, ya, yb, nm, kd, ls, im, sr, ad, oo, ol, ao, ap, ik, iv, ow, ce, oz, ck, ou) := by
  have hB := F.1.1
  have hB2 := hB
  unfold tf_B at hB2
  have hT := F.1.2.2.1 33 (by decide)
  refine tl_bi (t := 0) (g := 0) (gr := 0) F (by decide) hT.1 hT.2 (by decide) (by decide) (Or.inl ⟨rfl, by decide⟩) (fun post h => ty145_33 h) ?_
  intro b hb hg y x
  have hb' : b = d := hb.symm
  subst hb'
  have e0 : nI (b + 0) - nI 0 = nI b := by rw [pk_sub (by omega), Nat.add_sub_cancel]
  obtain ⟨m, hm⟩ : ∃ m, od = m + 1 := ⟨od - 1, by omega⟩
  subst hm
  have hO := (F.1.2.2.2.1 m (by omega)).1
  refine ⟨(k1, k2, k3, k4, k5, k6, k7, k8, k9, (nI md), (nI mr), (nI mu), (nI mf), (nI ll), (nI lp), tS, tE, tN, (nI b), (nI r), (nI w), en, (nI n), op, co, onm, (nI os), (nI cd), (nI hc), (nI oh), (nI (m+1)), (oz m), (nI fu), ip, ie, (-1), 0, re, li, da, rk, ra, rb, rc, nm, kd, ls, im, sr, st, we, ad, wo, tk, gv, io, ia, ck, ci, ce, ou, ox), ((nI md), (nI mr), (nI mu), (nI mf), (nI ll), (nI lp), sv, (nI b), (nI r), (nI w), en, (nI n), (nI hc), (nI (m+1)), (oz m), oy, onm, (nI cd), (nI oh), (nI fu), (-1), re, 0, li, da, yk, ya, yb, nm, kd, ls, im, sr, ad, oo, ol, ao, ap, ik, iv, ow, ce, oz, ck, ou), tf_M_mono (p := p) (by omega) (Or.inl (tf_MR_in ⟨⟨tf_B_d hB (by omega), F.1.2⟩, F.2⟩)), fun post hp => nm_r e0 ?_, fun post hp e va ib _ _ _ => ?_⟩
  · repeat first
      | refine br_t (by decide) ?_
      | refine br_f (by decide) ?_
    rw [nI_pred]
    exact And.intro (vp_in_nI (by omega) (by omega)) (nm_r ((tf_rc (by omega)).trans hO) hp)
  · repeat first
      | refine br_t (by decide) ?_
      | refine br_f (by decide) ?_
    rw [nI_pred]
    exact And.intro (vp_in_nI (by omega) (by omega)) (nm_r (tf_rc (by omega)) hp)

theorem tf_C_ent0 {x : Int64} (hx : tf_GN x) (hw : w < 51 + mu) (h1 : tf_S1 n w (upd st w (nI os)) (upd we w (nI n)) ow) (C : (tf_C md mr mu mf ll d r w n os 0 hc oh od op co oy onm li nm kd im ad st we wo oo ol ao ap tk gv io ia ik iv ow ck ci ox oz)) : (tf_C md mr mu mf ll d r (w+1) n os 0 hc oh od 0 0 0 onm li (vp_updL nm w x) (upd kd w 1) (upd im w 0) (upd ad w (nI hc)) (upd st w (nI os)) (upd we w (nI n)) (upd wo w (tf_po od ox od)) (upd oo w (nI od)) (tf_u4 ol w oz) ao ap tk gv io ia ik iv ow ck ci ox oz) := by
  have K := tf_C_ent (y := 1) hx (by decide) hw (fun _ => h1) (fun z => absurd z (by decide)) rfl C
  obtain ⟨a1, a2, a3, a4, a5, a6, a7, a8, a9, a10⟩ := K
  refine ⟨a1, a2, a3, a4, a5, a6, a7, a8, ?_, a10⟩
  rcases a9 with z | ⟨z, _⟩
  · exact Or.inl z
  · exact absurd z (by decide)
theorem tw_35 {p : Nat} (F : (tf_F p md mr mu mf ll d r w n os cd hc oh od op co oy onm li nm kd im ad st we wo oo ol ao ap tk gv io ia ik iv ow ck ci ox oz lp fu ip ie rk ra rb rc yk ya yb lo)) : tf_OB lo (p + 2 * d + 1) 35 (k1, k2, k3, k4, k5, k6, k7, k8, k9, (nI md), (nI mr), (nI mu), (nI mf), (nI ll), (nI lp), tS, tE, tN, (nI d), (nI r), (nI w), en, (nI n), op, co, onm, (nI os), (nI cd), (nI hc), (nI oh), (nI od), cu, (nI fu), ip, ie, (-1), 0, re, li, da, rk, ra, rb, rc, nm, kd, ls, im, sr, st, we, ad, wo, tk, gv, io, ia, ck, ci, ce, ou, ox) ((nI md), (nI mr), (nI mu), (nI mf), (nI ll), (nI lp), sv, (nI d), (nI r), (nI w), en, (nI n), (nI hc), (nI od), cu, oy, onm, (nI cd), (nI oh), (nI fu), (-1), re, 0, li, da, yk, ya, yb, nm, kd, ls, im, sr, ad, oo, ol, ao, ap, ik, iv, ow, ce, oz, ck, ou) := by
  have hB := F.1.1
  have hB2 := hB
  unfold tf_B at hB2
  have hT := F.1.2.2.1 35 (by decide)
  refine tl_bi (t := 0) (g := 0) (gr := 0) F (by decide) hT.1 hT.2 (by decide) (by decide) (Or.inl ⟨rfl, by decide⟩) (fun post h => ty145_35 h) ?_
  intro b hb hg y x
  have hb' : b = d := hb.symm
  subst hb'
  have e0 : nI (b + 0) - nI 0 = nI b := by rw [pk_sub (by omega), Nat.add_sub_cancel]
  rcases tf_opc F.1 with ⟨o1, o2, o3, o4⟩ | ⟨o1, o2, o3, o4, o5⟩
  · subst o1
    subst o2
    obtain ⟨u', v', h1, h2, h3⟩ := tl_raise (d := b) ⟨⟨tf_B_d hB (by omega), F.1.2⟩, F.2⟩ (-14)
    refine ⟨u', v', tf_M_mono (by omega) h1, fun post hp => nm_r e0 ?_, fun post hp e va ib _ _ _ => ?_⟩
    · repeat first
        | refine br_t (by decide) ?_
        | refine br_f (by decide) ?_
      exact h2 _ hp
    · repeat first
        | refine br_t (by decide) ?_
        | refine br_f (by decide) ?_
      exact h3 _ hp
  · subst o1
    rcases Nat.eq_zero_or_pos cd with hz | hz
    · subst hz
      have hG : tf_GN onm := by
        rcases F.1.2.2.2.2.2.2.2.2.1 with ⟨z, _⟩ | ⟨_, _, _, _, z, _⟩
        · exact absurd z (by decide)
        · exact z
      have hS1 : tf_S1 n w (upd st w (nI os)) (upd we w (nI n)) ow := by
        refine ⟨os, n, pk_us, pk_us, o3, Nat.le_refl _, fun i hi => ⟨o5 i hi, fun _ => ?_, fun _ => hi⟩⟩
        obtain ⟨⟨_, _, q⟩, _⟩ := F.1.2.2.2.2.2.2.2.1 i hi
        exact q
      refine ⟨(k1, k2, k3, k4, k5, k6, k7, k8, k9, (nI md), (nI mr), (nI mu), (nI mf), (nI ll), (nI lp), tS, tE, tN, (nI b), (nI r), (nI (w+1)), (en+1), (nI n), 0, 0, onm, (nI os), (nI 0), (nI hc), (nI oh), (nI od), cu, (nI fu), ip, ie, (-1), 0, re, li, da, rk, ra, rb, rc, (vp_updL nm w onm), (upd kd w 1), (upd ls w cu), (upd im w 0), (upd sr w (en+1)), (upd st w (nI os)), (upd we w (nI n)), (upd ad w (nI hc)), (upd wo w (tf_po od ox od)), tk, gv, io, ia, ck, ci, ce, ou, ox), ((nI md), (nI mr), (nI mu), (nI mf), (nI ll), (nI lp), sv, (nI b), (nI r), (nI (w+1)), (en+1), (nI n), (nI hc), (nI od), cu, 0, onm, (nI 0), (nI oh), (nI fu), (-1), re, 0, li, da, yk, ya, yb, (vp_updL nm w onm), (upd kd w 1), (upd ls w cu), (upd im w 0), (upd sr w (en+1)), (upd ad w (nI hc)), (upd oo w (nI od)), (tf_u4 ol w oz), ao, ap, ik, iv, ow, ce, oz, ck, ou), tf_M_mono (p := p) (by omega) (Or.inl (tf_MR_in ⟨tf_C_ent0 (d := b) hG o4 hS1 ⟨tf_B_d hB (by omega), F.1.2⟩, tf_R_ent F.2⟩)), fun post hp => nm_r e0 ?_, fun post hp e va ib _ _ _ => ?_⟩
      · repeat first
          | refine br_t (by decide) ?_
          | refine br_f (by decide) ?_
        refine tx_enter (by omega) (by omega) ?_
        have hi : vp_in (nI w) 75 := vp_in_nI (by omega) (by omega)
        exact And.intro hi (nm_r ((tf_uc (by omega)).trans tf_upd2) (And.intro hi (nm_r ((tf_uc (by omega)).trans tf_upd2) hp)))
      · rcases o2 with ⟨o6, o2⟩ | ⟨o6, o2⟩ <;> subst o2
        · repeat first
            | refine br_t (by decide) ?_
            | refine br_f (by decide) ?_
          exact ty_enter (by omega) hp
        · repeat first
            | refine br_t (by decide) ?_
            | refine br_f (by decide) ?_
          exact ty_enter (by omega) hp
    · obtain ⟨u', v', h1, h2, h3⟩ := tl_raise (d := b) ⟨⟨tf_B_d hB (by omega), F.1.2⟩, F.2⟩ (-22)
      refine ⟨u', v', tf_M_mono (by omega) h1, fun post hp => nm_r e0 ?_, fun post hp e va ib _ _ _ => ?_⟩
      · repeat first
          | refine br_t (by decide) ?_
          | refine br_f (by decide) ?_
        exact br_f (nI_nle hz (by omega)) (h2 _ hp)
      · rcases o2 with ⟨o6, o2⟩ | ⟨o6, o2⟩ <;> subst o2
        · repeat first
            | refine br_t (by decide) ?_
            | refine br_f (by decide) ?_
          exact br_f (nI_nle hz (by omega)) (h3 _ hp)
        · repeat first
            | refine br_t (by decide) ?_
            | refine br_f (by decide) ?_
          exact br_f (nI_nle hz (by omega)) (h3 _ hp)

theorem tw_49 {p : Nat} (F : (tf_F p md mr mu mf ll d r w n os cd hc oh od op co oy onm li nm kd im ad st we wo oo ol ao ap tk gv io ia ik iv ow ck ci ox oz lp fu ip ie rk ra rb rc yk ya yb lo)) : tf_OB lo (p + 2 * d + 1) 49 (k1, k2, k3, k4, k5, k6, k7, k8, k9, (nI md), (nI mr), (nI mu), (nI mf), (nI ll), (nI lp), tS, tE, tN, (nI d), (nI r), (nI w), en, (nI n), op, co, onm, (nI os), (nI cd), (nI hc), (nI oh), (nI od), cu, (nI fu), ip, ie, (-1), 0, re, li, da, rk, ra, rb, rc, nm, kd, ls, im, sr, st, we, ad, wo, tk, gv, io, ia, ck, ci, ce, ou, ox) ((nI md), (nI mr), (nI mu), (nI mf), (nI ll), (nI lp), sv, (nI d), (nI r), (nI w), en, (nI n), (nI hc), (nI od), cu, oy, onm, (nI cd), (nI oh), (nI fu), (-1), re, 0, li, da, yk, ya, yb, nm, kd, ls, im, sr, ad, oo, ol, ao, ap, ik, iv, ow, ce, oz, ck, ou) := by
  have hB := F.1.1
  have hB2 := hB
  unfold tf_B at hB2
  have hT := F.1.2.2.1 49 (by decide)
  refine tl_bi (t := 0) (g := 0) (gr := 0) F (by decide) hT.1 hT.2 (by decide) (by decide) (Or.inl ⟨rfl, by decide⟩) (fun post h => ty145_49 h) ?_
  intro b hb hg y x
  have hb' : b = d := hb.symm
  subst hb'
  have e0 : nI (b + 0) - nI 0 = nI b := by rw [pk_sub (by omega), Nat.add_sub_cancel]
  obtain ⟨a, b', T⟩ := tf_Tok_ex li F.2.1
  have hT2 := T
  obtain ⟨t1, t2, t3, _⟩ := hT2

  rcases tf_opc F.1 with ⟨o1, o2, o3, o4⟩ | ⟨o1, o2, o3, o4, o5⟩
  · subst o1
    subst o2
    obtain ⟨u', v', h1, h2, h3⟩ := tl_raise (d := b) ⟨⟨tf_B_d hB (by omega), F.1.2⟩, F.2⟩ (-14)
    refine ⟨u', v', tf_M_mono (by omega) h1, fun post hp => nm_r e0 ?_, fun post hp e va ib _ _ _ => ?_⟩
    · repeat first
        | refine br_t (by decide) ?_
        | refine br_f (by decide) ?_
      exact h2 _ hp
    · repeat first
        | refine br_t (by decide) ?_
        | refine br_f (by decide) ?_
      exact h3 _ hp
  · subst o1
    have hoy : ∃ z : Int32, oy = z ∧ (z = 1 ∨ z = 2) := by
      rcases o2 with ⟨_, o2⟩ | ⟨_, o2⟩
      · exact ⟨1, o2, Or.inl rfl⟩
      · exact ⟨2, o2, Or.inr rfl⟩
    have hne : ¬ oy = 0 := by
      obtain ⟨z, z1, z2⟩ := hoy
      rw [z1]
      rcases z2 with z2 | z2 <;> subst z2 <;> decide
    rcases Nat.lt_or_ge a b' with g | g
    · cases ef : tf_fo ls nm w oz (tf_na li a b' 8) od with
      | none =>
        obtain ⟨u', v', h1, h2, h3⟩ := tl_raise (d := b) (lp := b') (op := 1) ⟨⟨tf_B_d hB (by omega), F.1.2⟩, tf_R_lp (show lp ≤ b' by omega) t3 F.2⟩ (-13)
        refine ⟨u', v', tf_M_mono (by omega) h1, fun post hp => nm_r e0 ?_, fun post hp e va ib _ _ _ => ?_⟩
        · repeat first
            | refine br_t (by decide) ?_
            | refine br_f (by decide) ?_
          refine tx_rt (by omega) F.2.1 T (fun _ => ?_) (fun z => by omega)
          refine br_f (by decide) (tx_find (by omega) (by omega) (fun i hi => (F.1.2.2.2.1 i hi).1) ?_)
          rw [ef]
          exact br_f (by decide) (h2 _ hp)
        · repeat first
            | refine br_t (by decide) ?_
            | refine br_f (by decide) ?_
          refine br_f hne ?_
          repeat first
            | refine br_t (by decide) ?_
            | refine br_f (by decide) ?_
          refine ty_rt (by omega) F.2.1 T (fun _ => ?_) (fun z => by omega)
          refine br_f (by decide) (ty_find (by omega) t2 (by omega) (by omega) (Exists.intro 9 (ty_p106 (by omega) t2 ?_ 8 0 (by omega))))
          rw [ef]
          repeat first
            | refine br_t (by decide) ?_
            | refine br_f (by decide) ?_
          exact h3 _ hp
      | some k =>
        have hk := tf_fo_lt ef
        obtain ⟨q1, q2⟩ := tf_res_some (k := k) (by omega)
        have hik : vp_in (nI k) 75 := vp_in_nI (by omega) (by omega)
        by_cases him : im k = 0
        · obtain ⟨u', v', h1, h2, h3⟩ := tl_item (d := b) (lp := b') (xo := 2) (xk := 2) (v := nI k) ⟨⟨tf_B_d hB (by omega), F.1.2⟩, tf_R_lp (show lp ≤ b' by omega) t3 F.2⟩ (Or.inr (Or.inr ⟨rfl, rfl, k, hk, rfl⟩))
          refine ⟨u', v', tf_M_mono (by omega) h1, fun post hp => nm_r e0 ?_, fun post hp e va ib _ _ _ => ?_⟩
          · repeat first
              | refine br_t (by decide) ?_
              | refine br_f (by decide) ?_
            refine tx_rt (by omega) F.2.1 T (fun _ => ?_) (fun z => by omega)
            refine br_f (by decide) (tx_find (by omega) (by omega) (fun i hi => (F.1.2.2.2.1 i hi).1) ?_)
            rw [ef]
            refine br_t q1 (And.intro hik (br_t (by rw [tf_rs, nI_clamp (show k < 2 ^ 31 by omega)]; exact him) (h2 _ hp)))
          · repeat first
              | refine br_t (by decide) ?_
              | refine br_f (by decide) ?_
            refine br_f hne ?_
            repeat first
              | refine br_t (by decide) ?_
              | refine br_f (by decide) ?_
            refine ty_rt (by omega) F.2.1 T (fun _ => ?_) (fun z => by omega)
            refine br_f (by decide) (ty_find (by omega) t2 (by omega) (by omega) (Exists.intro 9 (ty_p106 (by omega) t2 ?_ 8 0 (by omega))))
            rw [ef]
            repeat first
              | refine br_t (by decide) ?_
              | refine br_f (by decide) ?_
            refine br_t q1 ?_
            repeat first
              | refine br_t (by decide) ?_
              | refine br_f (by decide) ?_
            exact And.intro hik (br_t (by rw [tf_rs, nI_clamp (show k < 2 ^ 31 by omega)]; exact him) (h3 _ hp))
        · obtain ⟨u', v', h1, h2, h3⟩ := tl_item (d := b) (lp := b') (xo := 1) (xk := 3) (v := nI k) ⟨⟨tf_B_d hB (by omega), F.1.2⟩, tf_R_lp (show lp ≤ b' by omega) t3 F.2⟩ (Or.inr (Or.inl ⟨rfl, rfl, k, by omega, rfl⟩))
          refine ⟨u', v', tf_M_mono (by omega) h1, fun post hp => nm_r e0 ?_, fun post hp e va ib _ _ _ => ?_⟩
          · repeat first
              | refine br_t (by decide) ?_
              | refine br_f (by decide) ?_
            refine tx_rt (by omega) F.2.1 T (fun _ => ?_) (fun z => by omega)
            refine br_f (by decide) (tx_find (by omega) (by omega) (fun i hi => (F.1.2.2.2.1 i hi).1) ?_)
            rw [ef]
            refine br_t q1 (And.intro hik (br_f (by rw [tf_rs, nI_clamp (show k < 2 ^ 31 by omega)]; exact him) (h2 _ hp)))
          · repeat first
              | refine br_t (by decide) ?_
              | refine br_f (by decide) ?_
            refine br_f hne ?_
            repeat first
              | refine br_t (by decide) ?_
              | refine br_f (by decide) ?_
            refine ty_rt (by omega) F.2.1 T (fun _ => ?_) (fun z => by omega)
            refine br_f (by decide) (ty_find (by omega) t2 (by omega) (by omega) (Exists.intro 9 (ty_p106 (by omega) t2 ?_ 8 0 (by omega))))
            rw [ef]
            repeat first
              | refine br_t (by decide) ?_
              | refine br_f (by decide) ?_
            refine br_t q1 ?_
            repeat first
              | refine br_t (by decide) ?_
              | refine br_f (by decide) ?_
            exact And.intro hik (br_f (by rw [tf_rs, nI_clamp (show k < 2 ^ 31 by omega)]; exact him) (h3 _ hp))
    · obtain ⟨u', v', h1, h2, h3⟩ := tl_raise (d := b) (lp := b') (op := 1) ⟨⟨tf_B_d hB (by omega), F.1.2⟩, tf_R_lp (show lp ≤ b' by omega) t3 F.2⟩ (-16)
      refine ⟨u', v', tf_M_mono (by omega) h1, fun post hp => nm_r e0 ?_, fun post hp e va ib _ _ _ => ?_⟩
      · repeat first
          | refine br_t (by decide) ?_
          | refine br_f (by decide) ?_
        refine tx_rt (by omega) F.2.1 T (fun z => by omega) (fun _ => ?_)
        exact br_t rfl (h2 _ hp)
      · repeat first
          | refine br_t (by decide) ?_
          | refine br_f (by decide) ?_
        refine br_f hne ?_
        repeat first
          | refine br_t (by decide) ?_
          | refine br_f (by decide) ?_
        refine ty_rt (by omega) F.2.1 T (fun z => by omega) (fun _ => ?_)
        exact br_t rfl (h3 _ hp)

end
end
section
/-! small methods of the compiling control words -/
theorem tf_uc1 {f : Nat → Int32} {k n : Nat} (h : k < 2 ^ 31) : upd f (nI k).toNatClampNeg (nI n + 1) = upd f k (nI (n + 1)) := by rw [nI_clamp h, nI_1]
theorem tf_rl_0 {io ia : Nat → Int32} {c n : Nat} : tf_rl io ia c n (c + 1) = ia := by
  funext i
  unfold tf_rl
  rw [if_neg (fun z => by have := z.1; have := z.2.1; omega)]
theorem tf_rl_y {io ia : Nat → Int32} {c n m : Nat} (hm : c < m) (h1 : io m = 45) (h2 : ia m = nI c) : upd (tf_rl io ia c n m) m (nI (n + 1)) = tf_rl io ia c n (m + 1) := by
  funext i
  by_cases e : i = m
  · subst e
    rw [pk_us]
    unfold tf_rl
    rw [if_pos ⟨hm, by omega, h1, h2⟩]
  · rw [pk_un e]
    unfold tf_rl
    by_cases z : c < i ∧ i < m ∧ io i = 45 ∧ ia i = nI c
    · rw [if_pos z, if_pos ⟨z.1, by have := z.2.1; omega, z.2.2⟩]
    · rw [if_neg z, if_neg (fun y => z ⟨y.1, by have := y.2.1; omega, y.2.2⟩)]
theorem tf_rl_n {io ia : Nat → Int32} {c n m : Nat} (h : ¬ (io m = 45 ∧ ia m = nI c)) : tf_rl io ia c n m = tf_rl io ia c n (m + 1) := by
  funext i
  unfold tf_rl
  by_cases e : i = m
  · subst e
    rw [if_neg (fun z => by have := z.2.1; omega), if_neg (fun z => h z.2.2)]
  · by_cases z : c < i ∧ i < m ∧ io i = 45 ∧ ia i = nI c
    · rw [if_pos z, if_pos ⟨z.1, by have := z.2.1; omega, z.2.2⟩]
    · rw [if_neg z, if_neg (fun y => z ⟨y.1, by have := y.2.1; omega, y.2.2⟩)]
theorem tf_rl_m {io ia : Nat → Int32} {c n m : Nat} : tf_rl io ia c n m m = ia m := by
  unfold tf_rl
  rw [if_neg (fun z => by have := z.2.1; omega)]
section
variable {md mr mu mf ll lp d r w n os cd hc oh od fu : Nat} {k1 k2 k3 k4 k5 k6 k7 k8 k9 tS tE en op co cu ip ie pe ab re oy sv : Int32} {tN onm : Int64} {li da rk ra rb rc kd ls im sr st we ad wo tk gv io ia ck ci ce ou ox yk ya yb oo ol ao ap ik iv ow oz : Nat → Int32} {nm : Nat → Int64} {lo : Nat}
theorem tx_td7 {post : Int32 → Prop} {f : Nat} (hf : ck f = 43) (k : post (nI f)) : ∀ m, m ≤ 8 → f < m → (∀ t, f < t → t < m → ck t ≠ 43) → wX_topmostDo_7 post k1 k2 k3 k4 k5 k6 k7 k8 k9 (nI md) (nI mr) (nI mu) (nI mf) (nI ll) (nI lp) tS tE tN (nI d) (nI r) (nI w) en (nI n) op co onm (nI os) (nI cd) (nI hc) (nI oh) (nI od) cu (nI fu) ip ie pe ab re li da rk ra rb rc nm kd ls im sr st we ad wo tk gv io ia ck ci ce ou ox (m + 1) (nI m - 1)
  | 0, _, h, _ => absurd h (by omega)
  | m + 1, hm, h, hn => by
    rw [nI_pred]
    have h0 : ¬ nI m < 0 := nI_pos (by omega)
    have hi : vp_in (nI m) 8 := vp_in_nI (by omega) (by omega)
    rcases Nat.lt_or_ge f m with g | g
    · have hx : ¬ ck (nI m).toNatClampNeg = 43 := by rw [nI_clamp (show m < 2 ^ 31 by omega)]; exact hn m g (by omega)
      exact br_f h0 (And.intro hi (br_f hx (nm_r (tf_am _) (tx_td7 hf k m (by omega) g (fun t a b => hn t a (by omega))))))
    · have e : f = m := by omega
      subst e
      have hx : ck (nI f).toNatClampNeg = 43 := by rw [nI_clamp (show f < 2 ^ 31 by omega)]; exact hf
      exact br_f h0 (And.intro hi (br_t hx k))
theorem tx_td7n {post : Int32 → Prop} (k : post (-1)) : ∀ m, m ≤ 8 → (∀ t, t < m → ck t ≠ 43) → wX_topmostDo_7 post k1 k2 k3 k4 k5 k6 k7 k8 k9 (nI md) (nI mr) (nI mu) (nI mf) (nI ll) (nI lp) tS tE tN (nI d) (nI r) (nI w) en (nI n) op co onm (nI os) (nI cd) (nI hc) (nI oh) (nI od) cu (nI fu) ip ie pe ab re li da rk ra rb rc nm kd ls im sr st we ad wo tk gv io ia ck ci ce ou ox (m + 1) (nI m - 1)
  | 0, _, _ => by
    rw [tf_m0]
    exact br_t tf_neg1 k
  | m + 1, hm, hn => by
    rw [nI_pred]
    have h0 : ¬ nI m < 0 := nI_pos (by omega)
    have hi : vp_in (nI m) 8 := vp_in_nI (by omega) (by omega)
    have hx : ¬ ck (nI m).toNatClampNeg = 43 := by rw [nI_clamp (show m < 2 ^ 31 by omega)]; exact hn m (by omega)
    exact br_f h0 (And.intro hi (br_f hx (nm_r (tf_am _) (tx_td7n k m (by omega) (fun t a => hn t (by omega))))))
theorem tx_td {post : Int32 → Prop} {f : Nat} (hf : ck f = 43) (hr : cd ≤ 8) (h : f < cd) (hn : ∀ t, f < t → t < cd → ck t ≠ 43) (k : post (nI f)) : wpX_topmostDo post (k1, k2, k3, k4, k5, k6, k7, k8, k9, (nI md), (nI mr), (nI mu), (nI mf), (nI ll), (nI lp), tS, tE, tN, (nI d), (nI r), (nI w), en, (nI n), op, co, onm, (nI os), (nI cd), (nI hc), (nI oh), (nI od), cu, (nI fu), ip, ie, pe, ab, re, li, da, rk, ra, rb, rc, nm, kd, ls, im, sr, st, we, ad, wo, tk, gv, io, ia, ck, ci, ce, ou, ox) :=
  nm_e (Exists.intro (cd + 1) (tx_td7 hf k cd hr h hn))
theorem tx_tdn {post : Int32 → Prop} (hr : cd ≤ 8) (hn : ∀ t, t < cd → ck t ≠ 43) (k : post (-1)) : wpX_topmostDo post (k1, k2, k3, k4, k5, k6, k7, k8, k9, (nI md), (nI mr), (nI mu), (nI mf), (nI ll), (nI lp), tS, tE, tN, (nI d), (nI r), (nI w), en, (nI n), op, co, onm, (nI os), (nI cd), (nI hc), (nI oh), (nI od), cu, (nI fu), ip, ie, pe, ab, re, li, da, rk, ra, rb, rc, nm, kd, ls, im, sr, st, we, ad, wo, tk, gv, io, ia, ck, ci, ce, ou, ox) :=
  nm_e (Exists.intro (cd + 1) (tx_td7n k cd hr hn))
theorem tf_topDo (ck : Nat → Int32) : ∀ m, (∀ t, t < m → ck t ≠ 43) ∨ ∃ f, f < m ∧ ck f = 43 ∧ ∀ t, f < t → t < m → ck t ≠ 43
  | 0 => Or.inl (fun t h => absurd h (by omega))
  | m + 1 => by
    by_cases e : ck m = 43
    · exact Or.inr ⟨m, by omega, e, fun t a b => by omega⟩
    · rcases tf_topDo ck m with h | ⟨f, f1, f2, f3⟩
      · refine Or.inl (fun t ht => ?_)
        rcases Nat.lt_or_ge t m with g | g
        · exact h t g
        · have e1 : t = m := by omega
          rw [e1]; exact e
      · refine Or.inr ⟨f, by omega, f2, fun t a b => ?_⟩
        rcases Nat.lt_or_ge t m with g | g
        · exact f3 t a g
        · have e1 : t = m := by omega
          rw [e1]; exact e
theorem tx_rl4 {post : SX → Prop} {c q : Nat} (hq : q ≤ 96) (k : post (k1, k2, k3, k4, k5, k6, k7, k8, k9, (nI md), (nI mr), (nI mu), (nI mf), (nI ll), (nI lp), tS, tE, tN, (nI d), (nI r), (nI w), en, (nI n), op, co, onm, (nI os), (nI cd), (nI hc), (nI oh), (nI od), cu, (nI fu), ip, ie, pe, ab, re, li, da, rk, ra, rb, rc, nm, kd, ls, im, sr, st, we, ad, wo, tk, gv, io, (tf_rl io ia c q q), ck, ci, ce, ou, ox)) : ∀ m i, i + m = q → c < i → wX_resolveLeaves_4 post (nI c) (nI q) k1 k2 k3 k4 k5 k6 k7 k8 k9 (nI md) (nI mr) (nI mu) (nI mf) (nI ll) (nI lp) tS tE tN (nI d) (nI r) (nI w) en (nI n) op co onm (nI os) (nI cd) (nI hc) (nI oh) (nI od) cu (nI fu) ip ie pe ab re (m + 1) (nI i) li da rk ra rb rc nm kd ls im sr st we ad wo tk gv io (tf_rl io ia c q i) ck ci ce ou ox
  | 0, i, h, _ => by
    have e : i = q := by omega
    subst e
    exact br_t (nI_le (Nat.le_refl _) (by omega)) k
  | m + 1, i, h, hc' => by
    have hi : vp_in (nI i) 96 := vp_in_nI (by omega) (by omega)
    refine br_f (nI_ge (by omega) (by omega)) (And.intro hi ?_)
    by_cases h1 : io i = 45
    · refine br_t (by rw [nI_clamp (show i < 2 ^ 31 by omega)]; exact h1) (And.intro hi ?_)
      by_cases h2 : ia i = nI c
      · refine br_t (by rw [nI_clamp (show i < 2 ^ 31 by omega), tf_rl_m]; exact h2) (And.intro hi (nm_r ((tf_uc1 (by omega)).trans (tf_rl_y hc' h1 h2)) (nm_r (nI_1 i) ?_)))
        exact tx_rl4 hq k m (i + 1) (by omega) (by omega)
      · refine br_f (by rw [nI_clamp (show i < 2 ^ 31 by omega), tf_rl_m]; exact h2) (nm_r (nI_1 i) ?_)
        rw [tf_rl_n (fun z => h2 z.2)]
        exact tx_rl4 hq k m (i + 1) (by omega) (by omega)
    · refine br_f (by rw [nI_clamp (show i < 2 ^ 31 by omega)]; exact h1) (nm_r (nI_1 i) ?_)
      rw [tf_rl_n (fun z => h1 z.1)]
      exact tx_rl4 hq k m (i + 1) (by omega) (by omega)
theorem tx_rl {post : SX → Prop} {c q : Nat} (hq : q ≤ 96) (hc' : c < q) (k : post (k1, k2, k3, k4, k5, k6, k7, k8, k9, (nI md), (nI mr), (nI mu), (nI mf), (nI ll), (nI lp), tS, tE, tN, (nI d), (nI r), (nI w), en, (nI n), op, co, onm, (nI os), (nI cd), (nI hc), (nI oh), (nI od), cu, (nI fu), ip, ie, pe, ab, re, li, da, rk, ra, rb, rc, nm, kd, ls, im, sr, st, we, ad, wo, tk, gv, io, (tf_rl io ia c q q), ck, ci, ce, ou, ox)) : wpX_resolveLeaves post (k1, k2, k3, k4, k5, k6, k7, k8, k9, (nI md), (nI mr), (nI mu), (nI mf), (nI ll), (nI lp), tS, tE, tN, (nI d), (nI r), (nI w), en, (nI n), op, co, onm, (nI os), (nI cd), (nI hc), (nI oh), (nI od), cu, (nI fu), ip, ie, pe, ab, re, li, da, rk, ra, rb, rc, nm, kd, ls, im, sr, st, we, ad, wo, tk, gv, io, ia, ck, ci, ce, ou, ox) (nI c) (nI q) := by
  have K := tx_rl4 hq k (q - (c + 1)) (c + 1) (by omega) (by omega)
  rw [tf_rl_0] at K
  exact nm_r (nI_1 c) (Exists.intro _ K)
theorem ty_c38 {post : SY → Prop} {x1 x2 : Int32} (hcd : cd ≤ 8) : ∀ m i x3, i + m = cd → (∀ z, ((z = 1 ∧ (x3 = 1 ∨ ∃ t, i ≤ t ∧ t < cd ∧ ck t = 43)) ∨ (z = x3 ∧ ∀ t, i ≤ t → t < cd → ck t ≠ 43)) → wY_control_38 post x1 x2 (nI md) (nI mr) (nI mu) (nI mf) (nI ll) (nI lp) sv (nI d) (nI r) (nI w) en (nI n) (nI hc) (nI od) cu oy onm (nI cd) (nI oh) (nI fu) pe re ab li da yk ya yb nm kd ls im sr ad oo ol ao ap ik iv ow ce oz ck ou 1 z (nI cd)) → wY_control_38 post x1 x2 (nI md) (nI mr) (nI mu) (nI mf) (nI ll) (nI lp) sv (nI d) (nI r) (nI w) en (nI n) (nI hc) (nI od) cu oy onm (nI cd) (nI oh) (nI fu) pe re ab li da yk ya yb nm kd ls im sr ad oo ol ao ap ik iv ow ce oz ck ou (m + 1) x3 (nI i)
  | 0, i, x3, h, k => by
    have e : i = cd := by omega
    subst e
    exact k x3 (Or.inr ⟨rfl, fun t a b => by omega⟩)
  | m + 1, i, x3, h, k => by
    refine br_f (nI_ge (by omega) (by omega)) (And.intro (vp_in_nI (by omega) (by omega)) ?_)
    by_cases h1 : ck i = 43
    · refine br_t (by rw [nI_clamp (show i < 2 ^ 31 by omega)]; exact h1) (nm_r (nI_1 i) (ty_c38 hcd m (i + 1) 1 (by omega) (fun z hz => k z ?_)))
      rcases hz with ⟨z1, _⟩ | ⟨z1, _⟩
      · exact Or.inl ⟨z1, Or.inr ⟨i, Nat.le_refl _, by omega, h1⟩⟩
      · exact Or.inl ⟨z1, Or.inr ⟨i, Nat.le_refl _, by omega, h1⟩⟩
    · refine br_f (by rw [nI_clamp (show i < 2 ^ 31 by omega)]; exact h1) (nm_r (nI_1 i) (ty_c38 hcd m (i + 1) x3 (by omega) (fun z hz => k z ?_)))
      rcases hz with ⟨z1, z2 | ⟨t, t1, t2, t3⟩⟩ | ⟨z1, z2⟩
      · exact Or.inl ⟨z1, Or.inl z2⟩
      · exact Or.inl ⟨z1, Or.inr ⟨t, by omega, t2, t3⟩⟩
      · refine Or.inr ⟨z1, fun t ta tb => ?_⟩
        rcases Nat.lt_or_ge i t with g | g
        · exact z2 t (by omega) tb
        · have e : t = i := by omega
          rw [e]; exact h1
end
end
section
section
variable {md mr mu mf ll lp d r w n os cd hc oh od fu : Nat} {k1 k2 k3 k4 k5 k6 k7 k8 k9 tS tE en op co cu ip ie pe ab re oy sv : Int32} {tN onm : Int64} {li da rk ra rb rc kd ls im sr st we ad wo tk gv io ia ck ci ce ou ox yk ya yb oo ol ao ap ik iv ow oz : Nat → Int32} {nm : Nat → Int64} {lo : Nat}
theorem tw_36 {p : Nat} (F : (tf_F p md mr mu mf ll d r w n os cd hc oh od op co oy onm li nm kd im ad st we wo oo ol ao ap tk gv io ia ik iv ow ck ci ox oz lp fu ip ie rk ra rb rc yk ya yb lo)) : tf_OB lo (p + 2 * d + 1) 36 (k1, k2, k3, k4, k5, k6, k7, k8, k9, (nI md), (nI mr), (nI mu), (nI mf), (nI ll), (nI lp), tS, tE, tN, (nI d), (nI r), (nI w), en, (nI n), op, co, onm, (nI os), (nI cd), (nI hc), (nI oh), (nI od), cu, (nI fu), ip, ie, (-1), 0, re, li, da, rk, ra, rb, rc, nm, kd, ls, im, sr, st, we, ad, wo, tk, gv, io, ia, ck, ci, ce, ou, ox) ((nI md), (nI mr), (nI mu), (nI mf), (nI ll), (nI lp), sv, (nI d), (nI r), (nI w), en, (nI n), (nI hc), (nI od), cu, oy, onm, (nI cd), (nI oh), (nI fu), (-1), re, 0, li, da, yk, ya, yb, nm, kd, ls, im, sr, ad, oo, ol, ao, ap, ik, iv, ow, ce, oz, ck, ou) := by
  have hB := F.1.1
  have hB2 := hB
  unfold tf_B at hB2
  have hT := F.1.2.2.1 36 (by decide)
  refine tl_bi (t := 0) (g := 0) (gr := 0) F (by decide) hT.1 hT.2 (by decide) (by decide) (Or.inl ⟨rfl, by decide⟩) (fun post h => ty145_36 h) ?_
  intro b hb hg y x
  have hb' : b = d := hb.symm
  subst hb'
  have e0 : nI (b + 0) - nI 0 = nI b := by rw [pk_sub (by omega), Nat.add_sub_cancel]
  rcases tf_opc F.1 with ⟨o1, o2, o3, o4⟩ | ⟨o1, o2, o3, o4, o5⟩
  · subst o1
    subst o2
    subst o3
    obtain ⟨u', v', h1, h2, h3⟩ := tl_raise (d := b) ⟨⟨tf_B_d hB (by omega), F.1.2⟩, F.2⟩ (-14)
    refine ⟨u', v', tf_M_mono (by omega) h1, fun post hp => nm_r e0 ?_, fun post hp e va ib _ _ _ => ?_⟩
    · repeat first
        | refine br_t (by decide) ?_
        | refine br_f (by decide) ?_
      exact h2 _ hp
    · repeat first
        | refine br_t (by decide) ?_
        | refine br_f (by decide) ?_
      refine Exists.intro 1 ?_
      repeat first
        | refine br_t (by decide) ?_
        | refine br_f (by decide) ?_
      exact h3 _ hp
  · subst o1
    have hne : ¬ oy = 0 := by
      rcases o2 with ⟨_, o2⟩ | ⟨_, o2⟩ <;> subst o2 <;> decide
    rcases Nat.eq_zero_or_pos cd with hz | hz
    · subst hz
      rcases Nat.lt_or_ge n 96 with h96 | h96
      · refine ⟨(k1, k2, k3, k4, k5, k6, k7, k8, k9, (nI md), (nI mr), (nI mu), (nI mf), (nI ll), (nI lp), tS, tE, tN, (nI b), (nI r), (nI w), en, (nI (n+1)), 1, co, onm, (nI os), (nI (0 + 1)), (nI hc), (nI oh), (nI od), cu, (nI fu), ip, ie, (-1), 0, re, li, da, rk, ra, rb, rc, nm, kd, ls, im, sr, st, we, ad, wo, tk, gv, (upd io n 36), (upd ia n 0), (upd ck (0) 36), (upd ci (0) (nI n)), ce, ou, ox), ((nI md), (nI mr), (nI mu), (nI mf), (nI ll), (nI lp), sv, (nI b), (nI r), (nI w), en, (nI (n+1)), (nI hc), (nI od), cu, oy, onm, (nI (0 + 1)), (nI oh), (nI fu), (-1), re, 0, li, da, yk, ya, yb, nm, kd, ls, im, sr, ad, oo, ol, ao, ap, (upd ik n 36), (upd iv n 0), (upd ow n (nI w)), ce, oz, (upd ck (0) 36), ou), tf_M_mono (p := p) (by omega) (Or.inl (tf_MR_in ⟨⟨by unfold tf_B; omega, F.1.2.1, F.1.2.2.1, F.1.2.2.2.1, F.1.2.2.2.2.1, F.1.2.2.2.2.2.1, tf_Z_push (by omega) h96 (by decide) (by omega) (fun z => absurd z (by decide)) F.1.2.2.2.2.2.2⟩, F.2⟩)), fun post hp => nm_r e0 ?_, fun post hp e va ib _ _ _ => ?_⟩
        · repeat first
            | refine br_t (by decide) ?_
            | refine br_f (by decide) ?_
          refine br_t (nI_lt (b := 96) h96 (by decide)) (tx_item h96 ?_)
          repeat first
            | refine br_t (by decide) ?_
            | refine br_f (by decide) ?_
          exact And.intro (vp_in_nI (n := 0) (by omega) (by omega)) (nm_r (tf_uc (k := 0) (by omega)) (And.intro (vp_in_nI (n := 0) (by omega) (by omega)) (nm_r (tf_uc (k := 0) (by omega)) (nm_r (nI_1 (0)) hp))))
        · repeat first
            | refine br_t (by decide) ?_
            | refine br_f (by decide) ?_
          refine Exists.intro 1 ?_
          repeat first
            | refine br_t (by decide) ?_
            | refine br_f (by decide) ?_
          refine br_f hne ?_
          repeat first
            | refine br_t (by decide) ?_
            | refine br_f (by decide) ?_
          refine br_t (nI_lt (b := 96) h96 (by decide)) (ty_item h96 ?_)
          repeat first
            | refine br_t (by decide) ?_
            | refine br_f (by decide) ?_
          refine And.intro (vp_in_nI (n := 0) (by omega) (by omega)) (nm_r (tf_uc (k := 0) (by omega)) (nm_r (nI_1 (0)) ?_))
          repeat first
            | refine br_t (by decide) ?_
            | refine br_f (by decide) ?_
          exact hp
      · obtain ⟨u', v', h1, h2, h3⟩ := tl_raise (d := b) ⟨⟨tf_B_d hB (by omega), F.1.2⟩, F.2⟩ (-8)
        refine ⟨u', v', tf_M_mono (by omega) h1, fun post hp => nm_r e0 ?_, fun post hp e va ib _ _ _ => ?_⟩
        · repeat first
            | refine br_t (by decide) ?_
            | refine br_f (by decide) ?_
          exact br_f (nI_nlt (b := 96) h96 (by omega)) (h2 _ hp)
        · repeat first
            | refine br_t (by decide) ?_
            | refine br_f (by decide) ?_
          refine Exists.intro 1 ?_
          repeat first
            | refine br_t (by decide) ?_
            | refine br_f (by decide) ?_
          refine br_f hne ?_
          repeat first
            | refine br_t (by decide) ?_
            | refine br_f (by decide) ?_
          exact br_f (nI_nlt (b := 96) h96 (by omega)) (h3 _ hp)
    · obtain ⟨m, hm⟩ : ∃ m, cd = m + 1 := ⟨cd - 1, by omega⟩
      subst hm
      obtain ⟨c, hci, hos, hcn, hik, hck5, hfs, hwh⟩ := F.1.2.2.2.2.2.2.2.2.2.1.1 m (by omega)
      have him : vp_in (nI m) 8 := vp_in_nI (by omega) (by omega)
      have hi96 : vp_in (nI c) 96 := vp_in_nI (by omega) (by omega)
      rcases Nat.lt_or_ge (m + 1) 8 with h8 | h8
      · rcases Nat.lt_or_ge n 96 with h96 | h96
        · refine ⟨(k1, k2, k3, k4, k5, k6, k7, k8, k9, (nI md), (nI mr), (nI mu), (nI mf), (nI ll), (nI lp), tS, tE, tN, (nI b), (nI r), (nI w), en, (nI (n+1)), 1, co, onm, (nI os), (nI (m + 1 + 1)), (nI hc), (nI oh), (nI od), cu, (nI fu), ip, ie, (-1), 0, re, li, da, rk, ra, rb, rc, nm, kd, ls, im, sr, st, we, ad, wo, tk, gv, (upd io n 36), (upd ia n 0), (upd ck (m + 1) 36), (upd ci (m + 1) (nI n)), ce, ou, ox), ((nI md), (nI mr), (nI mu), (nI mf), (nI ll), (nI lp), sv, (nI b), (nI r), (nI w), en, (nI (n+1)), (nI hc), (nI od), cu, oy, onm, (nI (m + 1 + 1)), (nI oh), (nI fu), (-1), re, 0, li, da, yk, ya, yb, nm, kd, ls, im, sr, ad, oo, ol, ao, ap, (upd ik n 36), (upd iv n 0), (upd ow n (nI w)), ce, oz, (upd ck (m + 1) 36), ou), tf_M_mono (p := p) (by omega) (Or.inl (tf_MR_in ⟨⟨by unfold tf_B; omega, F.1.2.1, F.1.2.2.1, F.1.2.2.2.1, F.1.2.2.2.2.1, F.1.2.2.2.2.2.1, tf_Z_push (by omega) h96 (by decide) (by omega) (fun z => absurd z (by decide)) F.1.2.2.2.2.2.2⟩, F.2⟩)), fun post hp => nm_r e0 ?_, fun post hp e va ib _ _ _ => ?_⟩
          · repeat first
              | refine br_t (by decide) ?_
              | refine br_f (by decide) ?_
            refine br_f (nI_nle (by omega) (by omega)) ?_
            rw [nI_pred, nI_clamp (show m < 2 ^ 31 by omega)]
            refine And.intro (vp_in_nI (by omega) (by omega)) ?_
            repeat first
              | refine br_t (by decide) ?_
              | refine br_f (by decide) ?_
            refine br_t (nI_lt (b := 8) h8 (by decide)) ?_
            refine br_t (nI_lt (b := 96) h96 (by decide)) (tx_item h96 ?_)
            repeat first
              | refine br_t (by decide) ?_
              | refine br_f (by decide) ?_
            exact And.intro (vp_in_nI (n := m + 1) (by omega) (by omega)) (nm_r (tf_uc (k := m + 1) (by omega)) (And.intro (vp_in_nI (n := m + 1) (by omega) (by omega)) (nm_r (tf_uc (k := m + 1) (by omega)) (nm_r (nI_1 (m + 1)) hp))))
          · repeat first
              | refine br_t (by decide) ?_
              | refine br_f (by decide) ?_
            refine br_f (nI_nle (by omega) (by omega)) ?_
            rw [nI_pred, nI_clamp (show m < 2 ^ 31 by omega)]
            refine And.intro (vp_in_nI (by omega) (by omega)) ?_
            repeat first
              | refine br_t (by decide) ?_
              | refine br_f (by decide) ?_
            refine Exists.intro (m + 1 + 1) (ty_c38 (by omega) (m + 1) 0 1 (by omega) (fun z hz => ?_))
            have ez : z = 1 := by
              rcases hz with ⟨z1, _⟩ | ⟨z1, _⟩ <;> exact z1
            subst ez
            refine br_t (nI_le (Nat.le_refl _) (by omega)) ?_
            repeat first
              | refine br_t (by decide) ?_
              | refine br_f (by decide) ?_
            refine br_f hne ?_
            repeat first
              | refine br_t (by decide) ?_
              | refine br_f (by decide) ?_
            refine br_t (nI_lt (b := 8) h8 (by decide)) ?_
            repeat first
              | refine br_t (by decide) ?_
              | refine br_f (by decide) ?_
            refine br_t (nI_lt (b := 96) h96 (by decide)) (ty_item h96 ?_)
            repeat first
              | refine br_t (by decide) ?_
              | refine br_f (by decide) ?_
            refine And.intro (vp_in_nI (n := m + 1) (by omega) (by omega)) (nm_r (tf_uc (k := m + 1) (by omega)) (nm_r (nI_1 (m + 1)) ?_))
            repeat first
              | refine br_t (by decide) ?_
              | refine br_f (by decide) ?_
            exact hp
        · obtain ⟨u', v', h1, h2, h3⟩ := tl_raise (d := b) ⟨⟨tf_B_d hB (by omega), F.1.2⟩, F.2⟩ (-8)
          refine ⟨u', v', tf_M_mono (by omega) h1, fun post hp => nm_r e0 ?_, fun post hp e va ib _ _ _ => ?_⟩
          · repeat first
              | refine br_t (by decide) ?_
              | refine br_f (by decide) ?_
            refine br_f (nI_nle (by omega) (by omega)) ?_
            rw [nI_pred, nI_clamp (show m < 2 ^ 31 by omega)]
            refine And.intro (vp_in_nI (by omega) (by omega)) ?_
            repeat first
              | refine br_t (by decide) ?_
              | refine br_f (by decide) ?_
            refine br_t (nI_lt (b := 8) h8 (by decide)) ?_
            exact br_f (nI_nlt (b := 96) h96 (by omega)) (h2 _ hp)
          · repeat first
              | refine br_t (by decide) ?_
              | refine br_f (by decide) ?_
            refine br_f (nI_nle (by omega) (by omega)) ?_
            rw [nI_pred, nI_clamp (show m < 2 ^ 31 by omega)]
            refine And.intro (vp_in_nI (by omega) (by omega)) ?_
            repeat first
              | refine br_t (by decide) ?_
              | refine br_f (by decide) ?_
            refine Exists.intro (m + 1 + 1) (ty_c38 (by omega) (m + 1) 0 1 (by omega) (fun z hz => ?_))
            have ez : z = 1 := by
              rcases hz with ⟨z1, _⟩ | ⟨z1, _⟩ <;> exact z1
            subst ez
            refine br_t (nI_le (Nat.le_refl _) (by omega)) ?_
            repeat first
              | refine br_t (by decide) ?_
              | refine br_f (by decide) ?_
            refine br_f hne ?_
            repeat first
              | refine br_t (by decide) ?_
              | refine br_f (by decide) ?_
            refine br_t (nI_lt (b := 8) h8 (by decide)) ?_
            repeat first
              | refine br_t (by decide) ?_
              | refine br_f (by decide) ?_
            exact br_f (nI_nlt (b := 96) h96 (by omega)) (h3 _ hp)
      · obtain ⟨u', v', h1, h2, h3⟩ := tl_raise (d := b) ⟨⟨tf_B_d hB (by omega), F.1.2⟩, F.2⟩ (-52)
        refine ⟨u', v', tf_M_mono (by omega) h1, fun post hp => nm_r e0 ?_, fun post hp e va ib _ _ _ => ?_⟩
        · repeat first
            | refine br_t (by decide) ?_
            | refine br_f (by decide) ?_
          refine br_f (nI_nle (by omega) (by omega)) ?_
          rw [nI_pred, nI_clamp (show m < 2 ^ 31 by omega)]
          refine And.intro (vp_in_nI (by omega) (by omega)) ?_
          repeat first
            | refine br_t (by decide) ?_
            | refine br_f (by decide) ?_
          exact br_f (nI_nlt (b := 8) h8 (by omega)) (h2 _ hp)
        · repeat first
            | refine br_t (by decide) ?_
            | refine br_f (by decide) ?_
          refine br_f (nI_nle (by omega) (by omega)) ?_
          rw [nI_pred, nI_clamp (show m < 2 ^ 31 by omega)]
          refine And.intro (vp_in_nI (by omega) (by omega)) ?_
          repeat first
            | refine br_t (by decide) ?_
            | refine br_f (by decide) ?_
          refine Exists.intro (m + 1 + 1) (ty_c38 (by omega) (m + 1) 0 1 (by omega) (fun z hz => ?_))
          have ez : z = 1 := by
            rcases hz with ⟨z1, _⟩ | ⟨z1, _⟩ <;> exact z1
          subst ez
          refine br_t (nI_le (Nat.le_refl _) (by omega)) ?_
          repeat first
            | refine br_t (by decide) ?_
            | refine br_f (by decide) ?_
          refine br_f hne ?_
          repeat first
            | refine br_t (by decide) ?_
            | refine br_f (by decide) ?_
          exact br_f (nI_nlt (b := 8) h8 (by omega)) (h3 _ hp)
end
section
variable {md mr mu mf ll lp d r w n os cd hc oh od fu : Nat} {k1 k2 k3 k4 k5 k6 k7 k8 k9 tS tE en op co cu ip ie pe ab re oy sv : Int32} {tN onm : Int64} {li da rk ra rb rc kd ls im sr st we ad wo tk gv io ia ck ci ce ou ox yk ya yb oo ol ao ap ik iv ow oz : Nat → Int32} {nm : Nat → Int64} {lo : Nat}
theorem tw_37 {p : Nat} (F : (tf_F p md mr mu mf ll d r w n os cd hc oh od op co oy onm li nm kd im ad st we wo oo ol ao ap tk gv io ia ik iv ow ck ci ox oz lp fu ip ie rk ra rb rc yk ya yb lo)) : tf_OB lo (p + 2 * d + 1) 37 (k1, k2, k3, k4, k5, k6, k7, k8, k9, (nI md), (nI mr), (nI mu), (nI mf), (nI ll), (nI lp), tS, tE, tN, (nI d), (nI r), (nI w), en, (nI n), op, co, onm, (nI os), (nI cd), (nI hc), (nI oh), (nI od), cu, (nI fu), ip, ie, (-1), 0, re, li, da, rk, ra, rb, rc, nm, kd, ls, im, sr, st, we, ad, wo, tk, gv, io, ia, ck, ci, ce, ou, ox) ((nI md), (nI mr), (nI mu), (nI mf), (nI ll), (nI lp), sv, (nI d), (nI r), (nI w), en, (nI n), (nI hc), (nI od), cu, oy, onm, (nI cd), (nI oh), (nI fu), (-1), re, 0, li, da, yk, ya, yb, nm, kd, ls, im, sr, ad, oo, ol, ao, ap, ik, iv, ow, ce, oz, ck, ou) := by
  have hB := F.1.1
  have hB2 := hB
  unfold tf_B at hB2
  have hT := F.1.2.2.1 37 (by decide)
  refine tl_bi (t := 0) (g := 0) (gr := 0) F (by decide) hT.1 hT.2 (by decide) (by decide) (Or.inl ⟨rfl, by decide⟩) (fun post h => ty145_37 h) ?_
  intro b hb hg y x
  have hb' : b = d := hb.symm
  subst hb'
  have e0 : nI (b + 0) - nI 0 = nI b := by rw [pk_sub (by omega), Nat.add_sub_cancel]
  rcases tf_opc F.1 with ⟨o1, o2, o3, o4⟩ | ⟨o1, o2, o3, o4, o5⟩
  · subst o1
    subst o2
    subst o3
    obtain ⟨u', v', h1, h2, h3⟩ := tl_raise (d := b) ⟨⟨tf_B_d hB (by omega), F.1.2⟩, F.2⟩ (-14)
    refine ⟨u', v', tf_M_mono (by omega) h1, fun post hp => nm_r e0 ?_, fun post hp e va ib _ _ _ => ?_⟩
    · repeat first
        | refine br_t (by decide) ?_
        | refine br_f (by decide) ?_
      exact h2 _ hp
    · repeat first
        | refine br_t (by decide) ?_
        | refine br_f (by decide) ?_
      refine Exists.intro 1 ?_
      repeat first
        | refine br_t (by decide) ?_
        | refine br_f (by decide) ?_
      exact h3 _ hp
  · subst o1
    have hne : ¬ oy = 0 := by
      rcases o2 with ⟨_, o2⟩ | ⟨_, o2⟩ <;> subst o2 <;> decide
    rcases Nat.eq_zero_or_pos cd with hz | hz
    · subst hz
      obtain ⟨u', v', h1, h2, h3⟩ := tl_raise (d := b) ⟨⟨tf_B_d hB (by omega), F.1.2⟩, F.2⟩ (-22)
      refine ⟨u', v', tf_M_mono (by omega) h1, fun post hp => nm_r e0 ?_, fun post hp e va ib _ _ _ => ?_⟩
      · repeat first
          | refine br_t (by decide) ?_
          | refine br_f (by decide) ?_
        exact h2 _ hp
      · repeat first
          | refine br_t (by decide) ?_
          | refine br_f (by decide) ?_
        refine Exists.intro 1 ?_
        repeat first
          | refine br_t (by decide) ?_
          | refine br_f (by decide) ?_
        refine br_f hne ?_
        repeat first
          | refine br_t (by decide) ?_
          | refine br_f (by decide) ?_
        exact h3 _ hp
    · obtain ⟨m, hm⟩ : ∃ m, cd = m + 1 := ⟨cd - 1, by omega⟩
      subst hm
      obtain ⟨c, hci, hos, hcn, hik, hck5, hfs, hwh⟩ := F.1.2.2.2.2.2.2.2.2.2.1.1 m (by omega)
      have him : vp_in (nI m) 8 := vp_in_nI (by omega) (by omega)
      have hi96 : vp_in (nI c) 96 := vp_in_nI (by omega) (by omega)
      by_cases hk : ck m = 36
      · rcases Nat.lt_or_ge n 96 with h96 | h96
        · refine ⟨(k1, k2, k3, k4, k5, k6, k7, k8, k9, (nI md), (nI mr), (nI mu), (nI mf), (nI ll), (nI lp), tS, tE, tN, (nI b), (nI r), (nI w), en, (nI (n+1)), 1, co, onm, (nI os), (nI (m + 1)), (nI hc), (nI oh), (nI od), cu, (nI fu), ip, ie, (-1), 0, re, li, da, rk, ra, rb, rc, nm, kd, ls, im, sr, st, we, ad, wo, tk, gv, (upd io n 37), (upd (upd ia n 0) c (nI (n + 1))), (upd ck m 37), (upd ci m (nI n)), ce, ou, ox), ((nI md), (nI mr), (nI mu), (nI mf), (nI ll), (nI lp), sv, (nI b), (nI r), (nI w), en, (nI (n+1)), (nI hc), (nI od), cu, oy, onm, (nI (m + 1)), (nI oh), (nI fu), (-1), re, 0, li, da, yk, ya, yb, nm, kd, ls, im, sr, ad, oo, ol, ao, ap, (upd ik n 37), (upd iv n 0), (upd ow n (nI w)), ce, oz, (upd ck m 37), ou), tf_M_mono (p := p) (by omega) (Or.inl (tf_MR_in ⟨⟨by unfold tf_B; omega, F.1.2.1, F.1.2.2.1, F.1.2.2.2.1, F.1.2.2.2.2.1, F.1.2.2.2.2.2.1, tf_Z_else (by omega) h96 (by omega) hk hci hcn F.1.2.2.2.2.2.2⟩, F.2⟩)), fun post hp => nm_r e0 ?_, fun post hp e va ib _ _ _ => ?_⟩
          · repeat first
              | refine br_t (by decide) ?_
              | refine br_f (by decide) ?_
            refine br_f (nI_nle (by omega) (by omega)) ?_
            rw [nI_pred, nI_clamp (show m < 2 ^ 31 by omega)]
            refine And.intro (vp_in_nI (by omega) (by omega)) ?_
            rw [hk]
            repeat first
              | refine br_t (by decide) ?_
              | refine br_f (by decide) ?_
            refine br_t (nI_lt (b := 96) h96 (by decide)) (tx_item h96 ?_)
            repeat first
              | refine br_t (by decide) ?_
              | refine br_f (by decide) ?_
            refine br_t (nI_lt (a := 0) (b := m + 1) (by omega) (by omega)) (nm_r (nI_pred m) (And.intro him (nm_r ((tf_rc (by omega)).trans hci) ?_)))
            repeat first
              | refine br_t (by decide) ?_
              | refine br_f (by decide) ?_
            exact And.intro hi96 (nm_r (tf_uc1 (by omega)) (And.intro him (nm_r (tf_uc (by omega)) (And.intro him (nm_r (tf_uc (by omega)) hp)))))
          · repeat first
              | refine br_t (by decide) ?_
              | refine br_f (by decide) ?_
            refine br_f (nI_nle (by omega) (by omega)) ?_
            rw [nI_pred, nI_clamp (show m < 2 ^ 31 by omega)]
            refine And.intro (vp_in_nI (by omega) (by omega)) ?_
            rw [hk]
            repeat first
              | refine br_t (by decide) ?_
              | refine br_f (by decide) ?_
            refine Exists.intro (m + 1 + 1) (ty_c38 (by omega) (m + 1) 0 1 (by omega) (fun z hz => ?_))
            have ez : z = 1 := by
              rcases hz with ⟨z1, _⟩ | ⟨z1, _⟩ <;> exact z1
            subst ez
            refine br_t (nI_le (Nat.le_refl _) (by omega)) ?_
            repeat first
              | refine br_t (by decide) ?_
              | refine br_f (by decide) ?_
            refine br_f hne ?_
            repeat first
              | refine br_t (by decide) ?_
              | refine br_f (by decide) ?_
            refine br_t (nI_lt (b := 96) h96 (by decide)) (ty_item h96 ?_)
            repeat first
              | refine br_t (by decide) ?_
              | refine br_f (by decide) ?_
            rw [nI_pred]
            refine And.intro him (nm_r (tf_uc (by omega)) ?_)
            repeat first
              | refine br_t (by decide) ?_
              | refine br_f (by decide) ?_
            exact hp
        · obtain ⟨u', v', h1, h2, h3⟩ := tl_raise (d := b) ⟨⟨tf_B_d hB (by omega), F.1.2⟩, F.2⟩ (-8)
          refine ⟨u', v', tf_M_mono (by omega) h1, fun post hp => nm_r e0 ?_, fun post hp e va ib _ _ _ => ?_⟩
          · repeat first
              | refine br_t (by decide) ?_
              | refine br_f (by decide) ?_
            refine br_f (nI_nle (by omega) (by omega)) ?_
            rw [nI_pred, nI_clamp (show m < 2 ^ 31 by omega)]
            refine And.intro (vp_in_nI (by omega) (by omega)) ?_
            rw [hk]
            repeat first
              | refine br_t (by decide) ?_
              | refine br_f (by decide) ?_
            exact br_f (nI_nlt (b := 96) h96 (by omega)) (h2 _ hp)
          · repeat first
              | refine br_t (by decide) ?_
              | refine br_f (by decide) ?_
            refine br_f (nI_nle (by omega) (by omega)) ?_
            rw [nI_pred, nI_clamp (show m < 2 ^ 31 by omega)]
            refine And.intro (vp_in_nI (by omega) (by omega)) ?_
            rw [hk]
            repeat first
              | refine br_t (by decide) ?_
              | refine br_f (by decide) ?_
            refine Exists.intro (m + 1 + 1) (ty_c38 (by omega) (m + 1) 0 1 (by omega) (fun z hz => ?_))
            have ez : z = 1 := by
              rcases hz with ⟨z1, _⟩ | ⟨z1, _⟩ <;> exact z1
            subst ez
            refine br_t (nI_le (Nat.le_refl _) (by omega)) ?_
            repeat first
              | refine br_t (by decide) ?_
              | refine br_f (by decide) ?_
            refine br_f hne ?_
            repeat first
              | refine br_t (by decide) ?_
              | refine br_f (by decide) ?_
            exact br_f (nI_nlt (b := 96) h96 (by omega)) (h3 _ hp)
      · obtain ⟨u', v', h1, h2, h3⟩ := tl_raise (d := b) ⟨⟨tf_B_d hB (by omega), F.1.2⟩, F.2⟩ (-22)
        refine ⟨u', v', tf_M_mono (by omega) h1, fun post hp => nm_r e0 ?_, fun post hp e va ib _ _ _ => ?_⟩
        · repeat first
            | refine br_t (by decide) ?_
            | refine br_f (by decide) ?_
          refine br_f (nI_nle (by omega) (by omega)) ?_
          rw [nI_pred, nI_clamp (show m < 2 ^ 31 by omega)]
          refine And.intro (vp_in_nI (by omega) (by omega)) ?_
          repeat first
            | refine br_t (by decide) ?_
            | refine br_f (by decide) ?_
          refine br_f hk ?_
          repeat first
            | refine br_t (by decide) ?_
            | refine br_f (by decide) ?_
          exact h2 _ hp
        · repeat first
            | refine br_t (by decide) ?_
            | refine br_f (by decide) ?_
          refine br_f (nI_nle (by omega) (by omega)) ?_
          rw [nI_pred, nI_clamp (show m < 2 ^ 31 by omega)]
          refine And.intro (vp_in_nI (by omega) (by omega)) ?_
          repeat first
            | refine br_t (by decide) ?_
            | refine br_f (by decide) ?_
          refine Exists.intro (m + 1 + 1) (ty_c38 (by omega) (m + 1) 0 1 (by omega) (fun z hz => ?_))
          refine br_t (nI_le (Nat.le_refl _) (by omega)) ?_
          repeat first
            | refine br_t (by decide) ?_
            | refine br_f (by decide) ?_
          refine br_f hk ?_
          repeat first
            | refine br_t (by decide) ?_
            | refine br_f (by decide) ?_
          refine br_f hne ?_
          repeat first
            | refine br_t (by decide) ?_
            | refine br_f (by decide) ?_
          exact h3 _ hp
end
section
variable {md mr mu mf ll lp d r w n os cd hc oh od fu : Nat} {k1 k2 k3 k4 k5 k6 k7 k8 k9 tS tE en op co cu ip ie pe ab re oy sv : Int32} {tN onm : Int64} {li da rk ra rb rc kd ls im sr st we ad wo tk gv io ia ck ci ce ou ox yk ya yb oo ol ao ap ik iv ow oz : Nat → Int32} {nm : Nat → Int64} {lo : Nat}
theorem tw_38 {p : Nat} (F : (tf_F p md mr mu mf ll d r w n os cd hc oh od op co oy onm li nm kd im ad st we wo oo ol ao ap tk gv io ia ik iv ow ck ci ox oz lp fu ip ie rk ra rb rc yk ya yb lo)) : tf_OB lo (p + 2 * d + 1) 38 (k1, k2, k3, k4, k5, k6, k7, k8, k9, (nI md), (nI mr), (nI mu), (nI mf), (nI ll), (nI lp), tS, tE, tN, (nI d), (nI r), (nI w), en, (nI n), op, co, onm, (nI os), (nI cd), (nI hc), (nI oh), (nI od), cu, (nI fu), ip, ie, (-1), 0, re, li, da, rk, ra, rb, rc, nm, kd, ls, im, sr, st, we, ad, wo, tk, gv, io, ia, ck, ci, ce, ou, ox) ((nI md), (nI mr), (nI mu), (nI mf), (nI ll), (nI lp), sv, (nI d), (nI r), (nI w), en, (nI n), (nI hc), (nI od), cu, oy, onm, (nI cd), (nI oh), (nI fu), (-1), re, 0, li, da, yk, ya, yb, nm, kd, ls, im, sr, ad, oo, ol, ao, ap, ik, iv, ow, ce, oz, ck, ou) := by
  have hB := F.1.1
  have hB2 := hB
  unfold tf_B at hB2
  have hT := F.1.2.2.1 38 (by decide)
  refine tl_bi (t := 0) (g := 0) (gr := 0) F (by decide) hT.1 hT.2 (by decide) (by decide) (Or.inl ⟨rfl, by decide⟩) (fun post h => ty145_38 h) ?_
  intro b hb hg y x
  have hb' : b = d := hb.symm
  subst hb'
  have e0 : nI (b + 0) - nI 0 = nI b := by rw [pk_sub (by omega), Nat.add_sub_cancel]
  rcases tf_opc F.1 with ⟨o1, o2, o3, o4⟩ | ⟨o1, o2, o3, o4, o5⟩
  · subst o1
    subst o2
    subst o3
    obtain ⟨u', v', h1, h2, h3⟩ := tl_raise (d := b) ⟨⟨tf_B_d hB (by omega), F.1.2⟩, F.2⟩ (-14)
    refine ⟨u', v', tf_M_mono (by omega) h1, fun post hp => nm_r e0 ?_, fun post hp e va ib _ _ _ => ?_⟩
    · repeat first
        | refine br_t (by decide) ?_
        | refine br_f (by decide) ?_
      exact h2 _ hp
    · repeat first
        | refine br_t (by decide) ?_
        | refine br_f (by decide) ?_
      refine Exists.intro 1 ?_
      repeat first
        | refine br_t (by decide) ?_
        | refine br_f (by decide) ?_
      exact h3 _ hp
  · subst o1
    have hne : ¬ oy = 0 := by
      rcases o2 with ⟨_, o2⟩ | ⟨_, o2⟩ <;> subst o2 <;> decide
    rcases Nat.eq_zero_or_pos cd with hz | hz
    · subst hz
      obtain ⟨u', v', h1, h2, h3⟩ := tl_raise (d := b) ⟨⟨tf_B_d hB (by omega), F.1.2⟩, F.2⟩ (-22)
      refine ⟨u', v', tf_M_mono (by omega) h1, fun post hp => nm_r e0 ?_, fun post hp e va ib _ _ _ => ?_⟩
      · repeat first
          | refine br_t (by decide) ?_
          | refine br_f (by decide) ?_
        exact h2 _ hp
      · repeat first
          | refine br_t (by decide) ?_
          | refine br_f (by decide) ?_
        refine Exists.intro 1 ?_
        repeat first
          | refine br_t (by decide) ?_
          | refine br_f (by decide) ?_
        refine br_f hne ?_
        repeat first
          | refine br_t (by decide) ?_
          | refine br_f (by decide) ?_
        exact h3 _ hp
    · obtain ⟨m, hm⟩ : ∃ m, cd = m + 1 := ⟨cd - 1, by omega⟩
      subst hm
      obtain ⟨c, hci, hos, hcn, hik, hck5, hfs, hwh⟩ := F.1.2.2.2.2.2.2.2.2.2.1.1 m (by omega)
      have him : vp_in (nI m) 8 := vp_in_nI (by omega) (by omega)
      have hi96 : vp_in (nI c) 96 := vp_in_nI (by omega) (by omega)
      by_cases hk : ck m = 36
      · rcases Nat.lt_or_ge n 96 with h96 | h96
        · refine ⟨(k1, k2, k3, k4, k5, k6, k7, k8, k9, (nI md), (nI mr), (nI mu), (nI mf), (nI ll), (nI lp), tS, tE, tN, (nI b), (nI r), (nI w), en, (nI (n+1)), 1, co, onm, (nI os), (nI m), (nI hc), (nI oh), (nI od), cu, (nI fu), ip, ie, (-1), 0, re, li, da, rk, ra, rb, rc, nm, kd, ls, im, sr, st, we, ad, wo, tk, gv, (upd io n 38), (upd (upd ia n 0) c (nI (n + 1))), ck, ci, ce, ou, ox), ((nI md), (nI mr), (nI mu), (nI mf), (nI ll), (nI lp), sv, (nI b), (nI r), (nI w), en, (nI (n+1)), (nI hc), (nI od), cu, oy, onm, (nI m), (nI oh), (nI fu), (-1), re, 0, li, da, yk, ya, yb, nm, kd, ls, im, sr, ad, oo, ol, ao, ap, (upd ik n 38), (upd iv n 0), (upd ow n (nI w)), ce, oz, ck, ou), tf_M_mono (p := p) (by omega) (Or.inl (tf_MR_in ⟨⟨by unfold tf_B; omega, F.1.2.1, F.1.2.2.1, F.1.2.2.2.1, F.1.2.2.2.2.1, F.1.2.2.2.2.2.1, tf_Z_then (by omega) h96 (Or.inl hk) hci hcn F.1.2.2.2.2.2.2⟩, F.2⟩)), fun post hp => nm_r e0 ?_, fun post hp e va ib _ _ _ => ?_⟩
          · repeat first
              | refine br_t (by decide) ?_
              | refine br_f (by decide) ?_
            refine br_f (nI_nle (by omega) (by omega)) ?_
            rw [nI_pred, nI_clamp (show m < 2 ^ 31 by omega)]
            refine And.intro (vp_in_nI (by omega) (by omega)) ?_
            rw [hk]
            repeat first
              | refine br_t (by decide) ?_
              | refine br_f (by decide) ?_
            refine br_t (nI_lt (b := 96) h96 (by decide)) (tx_item h96 ?_)
            repeat first
              | refine br_t (by decide) ?_
              | refine br_f (by decide) ?_
            refine br_t (nI_lt (a := 0) (b := m + 1) (by omega) (by omega)) (nm_r (nI_pred m) (And.intro him (nm_r ((tf_rc (by omega)).trans hci) ?_)))
            repeat first
              | refine br_t (by decide) ?_
              | refine br_f (by decide) ?_
            exact And.intro hi96 (nm_r (tf_uc1 (by omega)) (nm_r (nI_pred m) hp))
          · repeat first
              | refine br_t (by decide) ?_
              | refine br_f (by decide) ?_
            refine br_f (nI_nle (by omega) (by omega)) ?_
            rw [nI_pred, nI_clamp (show m < 2 ^ 31 by omega)]
            refine And.intro (vp_in_nI (by omega) (by omega)) ?_
            rw [hk]
            repeat first
              | refine br_t (by decide) ?_
              | refine br_f (by decide) ?_
            refine Exists.intro (m + 1 + 1) (ty_c38 (by omega) (m + 1) 0 1 (by omega) (fun z hz => ?_))
            have ez : z = 1 := by
              rcases hz with ⟨z1, _⟩ | ⟨z1, _⟩ <;> exact z1
            subst ez
            refine br_t (nI_le (Nat.le_refl _) (by omega)) ?_
            repeat first
              | refine br_t (by decide) ?_
              | refine br_f (by decide) ?_
            refine br_f hne ?_
            repeat first
              | refine br_t (by decide) ?_
              | refine br_f (by decide) ?_
            refine br_t (nI_lt (b := 96) h96 (by decide)) (ty_item h96 ?_)
            repeat first
              | refine br_t (by decide) ?_
              | refine br_f (by decide) ?_
            refine nm_r (nI_pred m) ?_
            repeat first
              | refine br_t (by decide) ?_
              | refine br_f (by decide) ?_
            exact hp
        · obtain ⟨u', v', h1, h2, h3⟩ := tl_raise (d := b) ⟨⟨tf_B_d hB (by omega), F.1.2⟩, F.2⟩ (-8)
          refine ⟨u', v', tf_M_mono (by omega) h1, fun post hp => nm_r e0 ?_, fun post hp e va ib _ _ _ => ?_⟩
          · repeat first
              | refine br_t (by decide) ?_
              | refine br_f (by decide) ?_
            refine br_f (nI_nle (by omega) (by omega)) ?_
            rw [nI_pred, nI_clamp (show m < 2 ^ 31 by omega)]
            refine And.intro (vp_in_nI (by omega) (by omega)) ?_
            rw [hk]
            repeat first
              | refine br_t (by decide) ?_
              | refine br_f (by decide) ?_
            exact br_f (nI_nlt (b := 96) h96 (by omega)) (h2 _ hp)
          · repeat first
              | refine br_t (by decide) ?_
              | refine br_f (by decide) ?_
            refine br_f (nI_nle (by omega) (by omega)) ?_
            rw [nI_pred, nI_clamp (show m < 2 ^ 31 by omega)]
            refine And.intro (vp_in_nI (by omega) (by omega)) ?_
            rw [hk]
            repeat first
              | refine br_t (by decide) ?_
              | refine br_f (by decide) ?_
            refine Exists.intro (m + 1 + 1) (ty_c38 (by omega) (m + 1) 0 1 (by omega) (fun z hz => ?_))
            have ez : z = 1 := by
              rcases hz with ⟨z1, _⟩ | ⟨z1, _⟩ <;> exact z1
            subst ez
            refine br_t (nI_le (Nat.le_refl _) (by omega)) ?_
            repeat first
              | refine br_t (by decide) ?_
              | refine br_f (by decide) ?_
            refine br_f hne ?_
            repeat first
              | refine br_t (by decide) ?_
              | refine br_f (by decide) ?_
            exact br_f (nI_nlt (b := 96) h96 (by omega)) (h3 _ hp)
      · have hk1 := hk
        clear hk
        by_cases hk : ck m = 37
        · rcases Nat.lt_or_ge n 96 with h96 | h96
          · refine ⟨(k1, k2, k3, k4, k5, k6, k7, k8, k9, (nI md), (nI mr), (nI mu), (nI mf), (nI ll), (nI lp), tS, tE, tN, (nI b), (nI r), (nI w), en, (nI (n+1)), 1, co, onm, (nI os), (nI m), (nI hc), (nI oh), (nI od), cu, (nI fu), ip, ie, (-1), 0, re, li, da, rk, ra, rb, rc, nm, kd, ls, im, sr, st, we, ad, wo, tk, gv, (upd io n 38), (upd (upd ia n 0) c (nI (n + 1))), ck, ci, ce, ou, ox), ((nI md), (nI mr), (nI mu), (nI mf), (nI ll), (nI lp), sv, (nI b), (nI r), (nI w), en, (nI (n+1)), (nI hc), (nI od), cu, oy, onm, (nI m), (nI oh), (nI fu), (-1), re, 0, li, da, yk, ya, yb, nm, kd, ls, im, sr, ad, oo, ol, ao, ap, (upd ik n 38), (upd iv n 0), (upd ow n (nI w)), ce, oz, ck, ou), tf_M_mono (p := p) (by omega) (Or.inl (tf_MR_in ⟨⟨by unfold tf_B; omega, F.1.2.1, F.1.2.2.1, F.1.2.2.2.1, F.1.2.2.2.2.1, F.1.2.2.2.2.2.1, tf_Z_then (by omega) h96 (Or.inr hk) hci hcn F.1.2.2.2.2.2.2⟩, F.2⟩)), fun post hp => nm_r e0 ?_, fun post hp e va ib _ _ _ => ?_⟩
            · repeat first
                | refine br_t (by decide) ?_
                | refine br_f (by decide) ?_
              refine br_f (nI_nle (by omega) (by omega)) ?_
              rw [nI_pred, nI_clamp (show m < 2 ^ 31 by omega)]
              refine And.intro (vp_in_nI (by omega) (by omega)) ?_
              rw [hk]
              repeat first
                | refine br_t (by decide) ?_
                | refine br_f (by decide) ?_
              refine br_t (nI_lt (b := 96) h96 (by decide)) (tx_item h96 ?_)
              repeat first
                | refine br_t (by decide) ?_
                | refine br_f (by decide) ?_
              refine br_t (nI_lt (a := 0) (b := m + 1) (by omega) (by omega)) (nm_r (nI_pred m) (And.intro him (nm_r ((tf_rc (by omega)).trans hci) ?_)))
              repeat first
                | refine br_t (by decide) ?_
                | refine br_f (by decide) ?_
              exact And.intro hi96 (nm_r (tf_uc1 (by omega)) (nm_r (nI_pred m) hp))
            · repeat first
                | refine br_t (by decide) ?_
                | refine br_f (by decide) ?_
              refine br_f (nI_nle (by omega) (by omega)) ?_
              rw [nI_pred, nI_clamp (show m < 2 ^ 31 by omega)]
              refine And.intro (vp_in_nI (by omega) (by omega)) ?_
              rw [hk]
              repeat first
                | refine br_t (by decide) ?_
                | refine br_f (by decide) ?_
              refine Exists.intro (m + 1 + 1) (ty_c38 (by omega) (m + 1) 0 1 (by omega) (fun z hz => ?_))
              have ez : z = 1 := by
                rcases hz with ⟨z1, _⟩ | ⟨z1, _⟩ <;> exact z1
              subst ez
              refine br_t (nI_le (Nat.le_refl _) (by omega)) ?_
              repeat first
                | refine br_t (by decide) ?_
                | refine br_f (by decide) ?_
              refine br_f hne ?_
              repeat first
                | refine br_t (by decide) ?_
                | refine br_f (by decide) ?_
              refine br_t (nI_lt (b := 96) h96 (by decide)) (ty_item h96 ?_)
              repeat first
                | refine br_t (by decide) ?_
                | refine br_f (by decide) ?_
              refine nm_r (nI_pred m) ?_
              repeat first
                | refine br_t (by decide) ?_
                | refine br_f (by decide) ?_
              exact hp
          · obtain ⟨u', v', h1, h2, h3⟩ := tl_raise (d := b) ⟨⟨tf_B_d hB (by omega), F.1.2⟩, F.2⟩ (-8)
            refine ⟨u', v', tf_M_mono (by omega) h1, fun post hp => nm_r e0 ?_, fun post hp e va ib _ _ _ => ?_⟩
            · repeat first
                | refine br_t (by decide) ?_
                | refine br_f (by decide) ?_
              refine br_f (nI_nle (by omega) (by omega)) ?_
              rw [nI_pred, nI_clamp (show m < 2 ^ 31 by omega)]
              refine And.intro (vp_in_nI (by omega) (by omega)) ?_
              rw [hk]
              repeat first
                | refine br_t (by decide) ?_
                | refine br_f (by decide) ?_
              exact br_f (nI_nlt (b := 96) h96 (by omega)) (h2 _ hp)
            · repeat first
                | refine br_t (by decide) ?_
                | refine br_f (by decide) ?_
              refine br_f (nI_nle (by omega) (by omega)) ?_
              rw [nI_pred, nI_clamp (show m < 2 ^ 31 by omega)]
              refine And.intro (vp_in_nI (by omega) (by omega)) ?_
              rw [hk]
              repeat first
                | refine br_t (by decide) ?_
                | refine br_f (by decide) ?_
              refine Exists.intro (m + 1 + 1) (ty_c38 (by omega) (m + 1) 0 1 (by omega) (fun z hz => ?_))
              have ez : z = 1 := by
                rcases hz with ⟨z1, _⟩ | ⟨z1, _⟩ <;> exact z1
              subst ez
              refine br_t (nI_le (Nat.le_refl _) (by omega)) ?_
              repeat first
                | refine br_t (by decide) ?_
                | refine br_f (by decide) ?_
              refine br_f hne ?_
              repeat first
                | refine br_t (by decide) ?_
                | refine br_f (by decide) ?_
              exact br_f (nI_nlt (b := 96) h96 (by omega)) (h3 _ hp)
        · obtain ⟨u', v', h1, h2, h3⟩ := tl_raise (d := b) ⟨⟨tf_B_d hB (by omega), F.1.2⟩, F.2⟩ (-22)
          refine ⟨u', v', tf_M_mono (by omega) h1, fun post hp => nm_r e0 ?_, fun post hp e va ib _ _ _ => ?_⟩
          · repeat first
              | refine br_t (by decide) ?_
              | refine br_f (by decide) ?_
            refine br_f (nI_nle (by omega) (by omega)) ?_
            rw [nI_pred, nI_clamp (show m < 2 ^ 31 by omega)]
            refine And.intro (vp_in_nI (by omega) (by omega)) ?_
            repeat first
              | refine br_t (by decide) ?_
              | refine br_f (by decide) ?_
            refine br_f hk1 (br_f hk ?_)
            repeat first
              | refine br_t (by decide) ?_
              | refine br_f (by decide) ?_
            exact h2 _ hp
          · repeat first
              | refine br_t (by decide) ?_
              | refine br_f (by decide) ?_
            refine br_f (nI_nle (by omega) (by omega)) ?_
            rw [nI_pred, nI_clamp (show m < 2 ^ 31 by omega)]
            refine And.intro (vp_in_nI (by omega) (by omega)) ?_
            repeat first
              | refine br_t (by decide) ?_
              | refine br_f (by decide) ?_
            refine Exists.intro (m + 1 + 1) (ty_c38 (by omega) (m + 1) 0 1 (by omega) (fun z hz => ?_))
            refine br_t (nI_le (Nat.le_refl _) (by omega)) ?_
            repeat first
              | refine br_t (by decide) ?_
              | refine br_f (by decide) ?_
            refine br_f hk1 (br_f hk ?_)
            repeat first
              | refine br_t (by decide) ?_
              | refine br_f (by decide) ?_
            refine br_f hne ?_
            repeat first
              | refine br_t (by decide) ?_
              | refine br_f (by decide) ?_
            exact h3 _ hp
end
section
variable {md mr mu mf ll lp d r w n os cd hc oh od fu : Nat} {k1 k2 k3 k4 k5 k6 k7 k8 k9 tS tE en op co cu ip ie pe ab re oy sv : Int32} {tN onm : Int64} {li da rk ra rb rc kd ls im sr st we ad wo tk gv io ia ck ci ce ou ox yk ya yb oo ol ao ap ik iv ow oz : Nat → Int32} {nm : Nat → Int64} {lo : Nat}
theorem tw_39 {p : Nat} (F : (tf_F p md mr mu mf ll d r w n os cd hc oh od op co oy onm li nm kd im ad st we wo oo ol ao ap tk gv io ia ik iv ow ck ci ox oz lp fu ip ie rk ra rb rc yk ya yb lo)) : tf_OB lo (p + 2 * d + 1) 39 (k1, k2, k3, k4, k5, k6, k7, k8, k9, (nI md), (nI mr), (nI mu), (nI mf), (nI ll), (nI lp), tS, tE, tN, (nI d), (nI r), (nI w), en, (nI n), op, co, onm, (nI os), (nI cd), (nI hc), (nI oh), (nI od), cu, (nI fu), ip, ie, (-1), 0, re, li, da, rk, ra, rb, rc, nm, kd, ls, im, sr, st, we, ad, wo, tk, gv, io, ia, ck, ci, ce, ou, ox) ((nI md), (nI mr), (nI mu), (nI mf), (nI ll), (nI lp), sv, (nI d), (nI r), (nI w), en, (nI n), (nI hc), (nI od), cu, oy, onm, (nI cd), (nI oh), (nI fu), (-1), re, 0, li, da, yk, ya, yb, nm, kd, ls, im, sr, ad, oo, ol, ao, ap, ik, iv, ow, ce, oz, ck, ou) := by
  have hB := F.1.1
  have hB2 := hB
  unfold tf_B at hB2
  have hT := F.1.2.2.1 39 (by decide)
  refine tl_bi (t := 0) (g := 0) (gr := 0) F (by decide) hT.1 hT.2 (by decide) (by decide) (Or.inl ⟨rfl, by decide⟩) (fun post h => ty145_39 h) ?_
  intro b hb hg y x
  have hb' : b = d := hb.symm
  subst hb'
  have e0 : nI (b + 0) - nI 0 = nI b := by rw [pk_sub (by omega), Nat.add_sub_cancel]
  rcases tf_opc F.1 with ⟨o1, o2, o3, o4⟩ | ⟨o1, o2, o3, o4, o5⟩
  · subst o1
    subst o2
    subst o3
    obtain ⟨u', v', h1, h2, h3⟩ := tl_raise (d := b) ⟨⟨tf_B_d hB (by omega), F.1.2⟩, F.2⟩ (-14)
    refine ⟨u', v', tf_M_mono (by omega) h1, fun post hp => nm_r e0 ?_, fun post hp e va ib _ _ _ => ?_⟩
    · repeat first
        | refine br_t (by decide) ?_
        | refine br_f (by decide) ?_
      exact h2 _ hp
    · repeat first
        | refine br_t (by decide) ?_
        | refine br_f (by decide) ?_
      refine Exists.intro 1 ?_
      repeat first
        | refine br_t (by decide) ?_
        | refine br_f (by decide) ?_
      exact h3 _ hp
  · subst o1
    have hne : ¬ oy = 0 := by
      rcases o2 with ⟨_, o2⟩ | ⟨_, o2⟩ <;> subst o2 <;> decide
    rcases Nat.eq_zero_or_pos cd with hz | hz
    · subst hz
      rcases Nat.lt_or_ge n 96 with h96 | h96
      · refine ⟨(k1, k2, k3, k4, k5, k6, k7, k8, k9, (nI md), (nI mr), (nI mu), (nI mf), (nI ll), (nI lp), tS, tE, tN, (nI b), (nI r), (nI w), en, (nI (n+1)), 1, co, onm, (nI os), (nI (0 + 1)), (nI hc), (nI oh), (nI od), cu, (nI fu), ip, ie, (-1), 0, re, li, da, rk, ra, rb, rc, nm, kd, ls, im, sr, st, we, ad, wo, tk, gv, (upd io n 39), (upd ia n 0), (upd ck (0) 39), (upd ci (0) (nI n)), ce, ou, ox), ((nI md), (nI mr), (nI mu), (nI mf), (nI ll), (nI lp), sv, (nI b), (nI r), (nI w), en, (nI (n+1)), (nI hc), (nI od), cu, oy, onm, (nI (0 + 1)), (nI oh), (nI fu), (-1), re, 0, li, da, yk, ya, yb, nm, kd, ls, im, sr, ad, oo, ol, ao, ap, (upd ik n 39), (upd iv n 0), (upd ow n (nI w)), ce, oz, (upd ck (0) 39), ou), tf_M_mono (p := p) (by omega) (Or.inl (tf_MR_in ⟨⟨by unfold tf_B; omega, F.1.2.1, F.1.2.2.1, F.1.2.2.2.1, F.1.2.2.2.2.1, F.1.2.2.2.2.2.1, tf_Z_push (by omega) h96 (by decide) (by omega) (fun z => absurd z (by decide)) F.1.2.2.2.2.2.2⟩, F.2⟩)), fun post hp => nm_r e0 ?_, fun post hp e va ib _ _ _ => ?_⟩
        · repeat first
            | refine br_t (by decide) ?_
            | refine br_f (by decide) ?_
          refine br_t (nI_lt (b := 96) h96 (by decide)) (tx_item h96 ?_)
          repeat first
            | refine br_t (by decide) ?_
            | refine br_f (by decide) ?_
          exact And.intro (vp_in_nI (n := 0) (by omega) (by omega)) (nm_r (tf_uc (k := 0) (by omega)) (And.intro (vp_in_nI (n := 0) (by omega) (by omega)) (nm_r (tf_uc (k := 0) (by omega)) (nm_r (nI_1 (0)) hp))))
        · repeat first
            | refine br_t (by decide) ?_
            | refine br_f (by decide) ?_
          refine Exists.intro 1 ?_
          repeat first
            | refine br_t (by decide) ?_
            | refine br_f (by decide) ?_
          refine br_f hne ?_
          repeat first
            | refine br_t (by decide) ?_
            | refine br_f (by decide) ?_
          refine br_t (nI_lt (b := 96) h96 (by decide)) (ty_item h96 ?_)
          repeat first
            | refine br_t (by decide) ?_
            | refine br_f (by decide) ?_
          refine And.intro (vp_in_nI (n := 0) (by omega) (by omega)) (nm_r (tf_uc (k := 0) (by omega)) (nm_r (nI_1 (0)) ?_))
          repeat first
            | refine br_t (by decide) ?_
            | refine br_f (by decide) ?_
          exact hp
      · obtain ⟨u', v', h1, h2, h3⟩ := tl_raise (d := b) ⟨⟨tf_B_d hB (by omega), F.1.2⟩, F.2⟩ (-8)
        refine ⟨u', v', tf_M_mono (by omega) h1, fun post hp => nm_r e0 ?_, fun post hp e va ib _ _ _ => ?_⟩
        · repeat first
            | refine br_t (by decide) ?_
            | refine br_f (by decide) ?_
          exact br_f (nI_nlt (b := 96) h96 (by omega)) (h2 _ hp)
        · repeat first
            | refine br_t (by decide) ?_
            | refine br_f (by decide) ?_
          refine Exists.intro 1 ?_
          repeat first
            | refine br_t (by decide) ?_
            | refine br_f (by decide) ?_
          refine br_f hne ?_
          repeat first
            | refine br_t (by decide) ?_
            | refine br_f (by decide) ?_
          exact br_f (nI_nlt (b := 96) h96 (by omega)) (h3 _ hp)
    · obtain ⟨m, hm⟩ : ∃ m, cd = m + 1 := ⟨cd - 1, by omega⟩
      subst hm
      obtain ⟨c, hci, hos, hcn, hik, hck5, hfs, hwh⟩ := F.1.2.2.2.2.2.2.2.2.2.1.1 m (by omega)
      have him : vp_in (nI m) 8 := vp_in_nI (by omega) (by omega)
      have hi96 : vp_in (nI c) 96 := vp_in_nI (by omega) (by omega)
      rcases Nat.lt_or_ge (m + 1) 8 with h8 | h8
      · rcases Nat.lt_or_ge n 96 with h96 | h96
        · refine ⟨(k1, k2, k3, k4, k5, k6, k7, k8, k9, (nI md), (nI mr), (nI mu), (nI mf), (nI ll), (nI lp), tS, tE, tN, (nI b), (nI r), (nI w), en, (nI (n+1)), 1, co, onm, (nI os), (nI (m + 1 + 1)), (nI hc), (nI oh), (nI od), cu, (nI fu), ip, ie, (-1), 0, re, li, da, rk, ra, rb, rc, nm, kd, ls, im, sr, st, we, ad, wo, tk, gv, (upd io n 39), (upd ia n 0), (upd ck (m + 1) 39), (upd ci (m + 1) (nI n)), ce, ou, ox), ((nI md), (nI mr), (nI mu), (nI mf), (nI ll), (nI lp), sv, (nI b), (nI r), (nI w), en, (nI (n+1)), (nI hc), (nI od), cu, oy, onm, (nI (m + 1 + 1)), (nI oh), (nI fu), (-1), re, 0, li, da, yk, ya, yb, nm, kd, ls, im, sr, ad, oo, ol, ao, ap, (upd ik n 39), (upd iv n 0), (upd ow n (nI w)), ce, oz, (upd ck (m + 1) 39), ou), tf_M_mono (p := p) (by omega) (Or.inl (tf_MR_in ⟨⟨by unfold tf_B; omega, F.1.2.1, F.1.2.2.1, F.1.2.2.2.1, F.1.2.2.2.2.1, F.1.2.2.2.2.2.1, tf_Z_push (by omega) h96 (by decide) (by omega) (fun z => absurd z (by decide)) F.1.2.2.2.2.2.2⟩, F.2⟩)), fun post hp => nm_r e0 ?_, fun post hp e va ib _ _ _ => ?_⟩
          · repeat first
              | refine br_t (by decide) ?_
              | refine br_f (by decide) ?_
            refine br_f (nI_nle (by omega) (by omega)) ?_
            rw [nI_pred, nI_clamp (show m < 2 ^ 31 by omega)]
            refine And.intro (vp_in_nI (by omega) (by omega)) ?_
            repeat first
              | refine br_t (by decide) ?_
              | refine br_f (by decide) ?_
            refine br_t (nI_lt (b := 8) h8 (by decide)) ?_
            refine br_t (nI_lt (b := 96) h96 (by decide)) (tx_item h96 ?_)
            repeat first
              | refine br_t (by decide) ?_
              | refine br_f (by decide) ?_
            exact And.intro (vp_in_nI (n := m + 1) (by omega) (by omega)) (nm_r (tf_uc (k := m + 1) (by omega)) (And.intro (vp_in_nI (n := m + 1) (by omega) (by omega)) (nm_r (tf_uc (k := m + 1) (by omega)) (nm_r (nI_1 (m + 1)) hp))))
          · repeat first
              | refine br_t (by decide) ?_
              | refine br_f (by decide) ?_
            refine br_f (nI_nle (by omega) (by omega)) ?_
            rw [nI_pred, nI_clamp (show m < 2 ^ 31 by omega)]
            refine And.intro (vp_in_nI (by omega) (by omega)) ?_
            repeat first
              | refine br_t (by decide) ?_
              | refine br_f (by decide) ?_
            refine Exists.intro (m + 1 + 1) (ty_c38 (by omega) (m + 1) 0 1 (by omega) (fun z hz => ?_))
            have ez : z = 1 := by
              rcases hz with ⟨z1, _⟩ | ⟨z1, _⟩ <;> exact z1
            subst ez
            refine br_t (nI_le (Nat.le_refl _) (by omega)) ?_
            repeat first
              | refine br_t (by decide) ?_
              | refine br_f (by decide) ?_
            refine br_f hne ?_
            repeat first
              | refine br_t (by decide) ?_
              | refine br_f (by decide) ?_
            refine br_t (nI_lt (b := 8) h8 (by decide)) ?_
            repeat first
              | refine br_t (by decide) ?_
              | refine br_f (by decide) ?_
            refine br_t (nI_lt (b := 96) h96 (by decide)) (ty_item h96 ?_)
            repeat first
              | refine br_t (by decide) ?_
              | refine br_f (by decide) ?_
            refine And.intro (vp_in_nI (n := m + 1) (by omega) (by omega)) (nm_r (tf_uc (k := m + 1) (by omega)) (nm_r (nI_1 (m + 1)) ?_))
            repeat first
              | refine br_t (by decide) ?_
              | refine br_f (by decide) ?_
            exact hp
        · obtain ⟨u', v', h1, h2, h3⟩ := tl_raise (d := b) ⟨⟨tf_B_d hB (by omega), F.1.2⟩, F.2⟩ (-8)
          refine ⟨u', v', tf_M_mono (by omega) h1, fun post hp => nm_r e0 ?_, fun post hp e va ib _ _ _ => ?_⟩
          · repeat first
              | refine br_t (by decide) ?_
              | refine br_f (by decide) ?_
            refine br_f (nI_nle (by omega) (by omega)) ?_
            rw [nI_pred, nI_clamp (show m < 2 ^ 31 by omega)]
            refine And.intro (vp_in_nI (by omega) (by omega)) ?_
            repeat first
              | refine br_t (by decide) ?_
              | refine br_f (by decide) ?_
            refine br_t (nI_lt (b := 8) h8 (by decide)) ?_
            exact br_f (nI_nlt (b := 96) h96 (by omega)) (h2 _ hp)
          · repeat first
              | refine br_t (by decide) ?_
              | refine br_f (by decide) ?_
            refine br_f (nI_nle (by omega) (by omega)) ?_
            rw [nI_pred, nI_clamp (show m < 2 ^ 31 by omega)]
            refine And.intro (vp_in_nI (by omega) (by omega)) ?_
            repeat first
              | refine br_t (by decide) ?_
              | refine br_f (by decide) ?_
            refine Exists.intro (m + 1 + 1) (ty_c38 (by omega) (m + 1) 0 1 (by omega) (fun z hz => ?_))
            have ez : z = 1 := by
              rcases hz with ⟨z1, _⟩ | ⟨z1, _⟩ <;> exact z1
            subst ez
            refine br_t (nI_le (Nat.le_refl _) (by omega)) ?_
            repeat first
              | refine br_t (by decide) ?_
              | refine br_f (by decide) ?_
            refine br_f hne ?_
            repeat first
              | refine br_t (by decide) ?_
              | refine br_f (by decide) ?_
            refine br_t (nI_lt (b := 8) h8 (by decide)) ?_
            repeat first
              | refine br_t (by decide) ?_
              | refine br_f (by decide) ?_
            exact br_f (nI_nlt (b := 96) h96 (by omega)) (h3 _ hp)
      · obtain ⟨u', v', h1, h2, h3⟩ := tl_raise (d := b) ⟨⟨tf_B_d hB (by omega), F.1.2⟩, F.2⟩ (-52)
        refine ⟨u', v', tf_M_mono (by omega) h1, fun post hp => nm_r e0 ?_, fun post hp e va ib _ _ _ => ?_⟩
        · repeat first
            | refine br_t (by decide) ?_
            | refine br_f (by decide) ?_
          refine br_f (nI_nle (by omega) (by omega)) ?_
          rw [nI_pred, nI_clamp (show m < 2 ^ 31 by omega)]
          refine And.intro (vp_in_nI (by omega) (by omega)) ?_
          repeat first
            | refine br_t (by decide) ?_
            | refine br_f (by decide) ?_
          exact br_f (nI_nlt (b := 8) h8 (by omega)) (h2 _ hp)
        · repeat first
            | refine br_t (by decide) ?_
            | refine br_f (by decide) ?_
          refine br_f (nI_nle (by omega) (by omega)) ?_
          rw [nI_pred, nI_clamp (show m < 2 ^ 31 by omega)]
          refine And.intro (vp_in_nI (by omega) (by omega)) ?_
          repeat first
            | refine br_t (by decide) ?_
            | refine br_f (by decide) ?_
          refine Exists.intro (m + 1 + 1) (ty_c38 (by omega) (m + 1) 0 1 (by omega) (fun z hz => ?_))
          have ez : z = 1 := by
            rcases hz with ⟨z1, _⟩ | ⟨z1, _⟩ <;> exact z1
          subst ez
          refine br_t (nI_le (Nat.le_refl _) (by omega)) ?_
          repeat first
            | refine br_t (by decide) ?_
            | refine br_f (by decide) ?_
          refine br_f hne ?_
          repeat first
            | refine br_t (by decide) ?_
            | refine br_f (by decide) ?_
          exact br_f (nI_nlt (b := 8) h8 (by omega)) (h3 _ hp)
end
end
section
section
variable {md mr mu mf ll lp d r w n os cd hc oh od fu : Nat} {k1 k2 k3 k4 k5 k6 k7 k8 k9 tS tE en op co cu ip ie pe ab re oy sv : Int32} {tN onm : Int64} {li da rk ra rb rc kd ls im sr st we ad wo tk gv io ia ck ci ce ou ox yk ya yb oo ol ao ap ik iv ow oz : Nat → Int32} {nm : Nat → Int64} {lo : Nat}
theorem tw_40 {p : Nat} (F : (tf_F p md mr mu mf ll d r w n os cd hc oh od op co oy onm li nm kd im ad st we wo oo ol ao ap tk gv io ia ik iv ow ck ci ox oz lp fu ip ie rk ra rb rc yk ya yb lo)) : tf_OB lo (p + 2 * d + 1) 40 (k1, k2, k3, k4, k5, k6, k7, k8, k9, (nI md), (nI mr), (nI mu), (nI mf), (nI ll), (nI lp), tS, tE, tN, (nI d), (nI r), (nI w), en, (nI n), op, co, onm, (nI os), (nI cd), (nI hc), (nI oh), (nI od), cu, (nI fu), ip, ie, (-1), 0, re, li, da, rk, ra, rb, rc, nm, kd, ls, im, sr, st, we, ad, wo, tk, gv, io, ia, ck, ci, ce, ou, ox) ((nI md), (nI mr), (nI mu), (nI mf), (nI ll), (nI lp), sv, (nI d), (nI r), (nI w), en, (nI n), (nI hc), (nI od), cu, oy, onm, (nI cd), (nI oh), (nI fu), (-1), re, 0, li, da, yk, ya, yb, nm, kd, ls, im, sr, ad, oo, ol, ao, ap, ik, iv, ow, ce, oz, ck, ou) := by
  have hB := F.1.1
  have hB2 := hB
  unfold tf_B at hB2
  have hT := F.1.2.2.1 40 (by decide)
  refine tl_bi (t := 0) (g := 0) (gr := 0) F (by decide) hT.1 hT.2 (by decide) (by decide) (Or.inl ⟨rfl, by decide⟩) (fun post h => ty145_40 h) ?_
  intro b hb hg y x
  have hb' : b = d := hb.symm
  subst hb'
  have e0 : nI (b + 0) - nI 0 = nI b := by rw [pk_sub (by omega), Nat.add_sub_cancel]
  rcases tf_opc F.1 with ⟨o1, o2, o3, o4⟩ | ⟨o1, o2, o3, o4, o5⟩
  · subst o1
    subst o2
    subst o3
    obtain ⟨u', v', h1, h2, h3⟩ := tl_raise (d := b) ⟨⟨tf_B_d hB (by omega), F.1.2⟩, F.2⟩ (-14)
    refine ⟨u', v', tf_M_mono (by omega) h1, fun post hp => nm_r e0 ?_, fun post hp e va ib _ _ _ => ?_⟩
    · repeat first
        | refine br_t (by decide) ?_
        | refine br_f (by decide) ?_
      exact h2 _ hp
    · repeat first
        | refine br_t (by decide) ?_
        | refine br_f (by decide) ?_
      refine Exists.intro 1 ?_
      repeat first
        | refine br_t (by decide) ?_
        | refine br_f (by decide) ?_
      exact h3 _ hp
  · subst o1
    have hne : ¬ oy = 0 := by
      rcases o2 with ⟨_, o2⟩ | ⟨_, o2⟩ <;> subst o2 <;> decide
    rcases Nat.eq_zero_or_pos cd with hz | hz
    · subst hz
      obtain ⟨u', v', h1, h2, h3⟩ := tl_raise (d := b) ⟨⟨tf_B_d hB (by omega), F.1.2⟩, F.2⟩ (-22)
      refine ⟨u', v', tf_M_mono (by omega) h1, fun post hp => nm_r e0 ?_, fun post hp e va ib _ _ _ => ?_⟩
      · repeat first
          | refine br_t (by decide) ?_
          | refine br_f (by decide) ?_
        exact h2 _ hp
      · repeat first
          | refine br_t (by decide) ?_
          | refine br_f (by decide) ?_
        refine Exists.intro 1 ?_
        repeat first
          | refine br_t (by decide) ?_
          | refine br_f (by decide) ?_
        refine br_f hne ?_
        repeat first
          | refine br_t (by decide) ?_
          | refine br_f (by decide) ?_
        exact h3 _ hp
    · obtain ⟨m, hm⟩ : ∃ m, cd = m + 1 := ⟨cd - 1, by omega⟩
      subst hm
      obtain ⟨c, hci, hos, hcn, hik, hck5, hfs, hwh⟩ := F.1.2.2.2.2.2.2.2.2.2.1.1 m (by omega)
      have him : vp_in (nI m) 8 := vp_in_nI (by omega) (by omega)
      have hi96 : vp_in (nI c) 96 := vp_in_nI (by omega) (by omega)
      by_cases hk : ck m = 39
      · rcases Nat.lt_or_ge n 96 with h96 | h96
        · refine ⟨(k1, k2, k3, k4, k5, k6, k7, k8, k9, (nI md), (nI mr), (nI mu), (nI mf), (nI ll), (nI lp), tS, tE, tN, (nI b), (nI r), (nI w), en, (nI (n+1)), 1, co, onm, (nI os), (nI m), (nI hc), (nI oh), (nI od), cu, (nI fu), ip, ie, (-1), 0, re, li, da, rk, ra, rb, rc, nm, kd, ls, im, sr, st, we, ad, wo, tk, gv, (upd io n 40), (upd (upd ia n 0) n (nI (c + 1))), ck, ci, ce, ou, ox), ((nI md), (nI mr), (nI mu), (nI mf), (nI ll), (nI lp), sv, (nI b), (nI r), (nI w), en, (nI (n+1)), (nI hc), (nI od), cu, oy, onm, (nI m), (nI oh), (nI fu), (-1), re, 0, li, da, yk, ya, yb, nm, kd, ls, im, sr, ad, oo, ol, ao, ap, (upd ik n 40), (upd iv n 0), (upd ow n (nI w)), ce, oz, ck, ou), tf_M_mono (p := p) (by omega) (Or.inl (tf_MR_in ⟨⟨by unfold tf_B; omega, F.1.2.1, F.1.2.2.1, F.1.2.2.2.1, F.1.2.2.2.2.1, F.1.2.2.2.2.2.1, tf_Z_until (by omega) h96 hk hci hcn F.1.2.2.2.2.2.2⟩, F.2⟩)), fun post hp => nm_r e0 ?_, fun post hp e va ib _ _ _ => ?_⟩
          · repeat first
              | refine br_t (by decide) ?_
              | refine br_f (by decide) ?_
            refine br_f (nI_nle (by omega) (by omega)) ?_
            rw [nI_pred, nI_clamp (show m < 2 ^ 31 by omega)]
            refine And.intro (vp_in_nI (by omega) (by omega)) ?_
            rw [hk]
            repeat first
              | refine br_t (by decide) ?_
              | refine br_f (by decide) ?_
            refine br_t (nI_lt (b := 96) h96 (by decide)) (tx_item h96 ?_)
            repeat first
              | refine br_t (by decide) ?_
              | refine br_f (by decide) ?_
            refine br_t (nI_lt (a := 0) (b := m + 1) (by omega) (by omega)) (nm_r (nI_pred m) (And.intro him (nm_r ((tf_rc (by omega)).trans hci) ?_)))
            repeat first
              | refine br_t (by decide) ?_
              | refine br_f (by decide) ?_
            exact And.intro (vp_in_nI h96 (by omega)) (nm_r (tf_uc1 (by omega)) (nm_r (nI_pred m) hp))
          · repeat first
              | refine br_t (by decide) ?_
              | refine br_f (by decide) ?_
            refine br_f (nI_nle (by omega) (by omega)) ?_
            rw [nI_pred, nI_clamp (show m < 2 ^ 31 by omega)]
            refine And.intro (vp_in_nI (by omega) (by omega)) ?_
            rw [hk]
            repeat first
              | refine br_t (by decide) ?_
              | refine br_f (by decide) ?_
            refine Exists.intro (m + 1 + 1) (ty_c38 (by omega) (m + 1) 0 1 (by omega) (fun z hz => ?_))
            have ez : z = 1 := by
              rcases hz with ⟨z1, _⟩ | ⟨z1, _⟩ <;> exact z1
            subst ez
            refine br_t (nI_le (Nat.le_refl _) (by omega)) ?_
            repeat first
              | refine br_t (by decide) ?_
              | refine br_f (by decide) ?_
            refine br_f hne ?_
            repeat first
              | refine br_t (by decide) ?_
              | refine br_f (by decide) ?_
            refine br_t (nI_lt (b := 96) h96 (by decide)) (ty_item h96 ?_)
            repeat first
              | refine br_t (by decide) ?_
              | refine br_f (by decide) ?_
            refine nm_r (nI_pred m) ?_
            repeat first
              | refine br_t (by decide) ?_
              | refine br_f (by decide) ?_
            exact hp
        · obtain ⟨u', v', h1, h2, h3⟩ := tl_raise (d := b) ⟨⟨tf_B_d hB (by omega), F.1.2⟩, F.2⟩ (-8)
          refine ⟨u', v', tf_M_mono (by omega) h1, fun post hp => nm_r e0 ?_, fun post hp e va ib _ _ _ => ?_⟩
          · repeat first
              | refine br_t (by decide) ?_
              | refine br_f (by decide) ?_
            refine br_f (nI_nle (by omega) (by omega)) ?_
            rw [nI_pred, nI_clamp (show m < 2 ^ 31 by omega)]
            refine And.intro (vp_in_nI (by omega) (by omega)) ?_
            rw [hk]
            repeat first
              | refine br_t (by decide) ?_
              | refine br_f (by decide) ?_
            exact br_f (nI_nlt (b := 96) h96 (by omega)) (h2 _ hp)
          · repeat first
              | refine br_t (by decide) ?_
              | refine br_f (by decide) ?_
            refine br_f (nI_nle (by omega) (by omega)) ?_
            rw [nI_pred, nI_clamp (show m < 2 ^ 31 by omega)]
            refine And.intro (vp_in_nI (by omega) (by omega)) ?_
            rw [hk]
            repeat first
              | refine br_t (by decide) ?_
              | refine br_f (by decide) ?_
            refine Exists.intro (m + 1 + 1) (ty_c38 (by omega) (m + 1) 0 1 (by omega) (fun z hz => ?_))
            have ez : z = 1 := by
              rcases hz with ⟨z1, _⟩ | ⟨z1, _⟩ <;> exact z1
            subst ez
            refine br_t (nI_le (Nat.le_refl _) (by omega)) ?_
            repeat first
              | refine br_t (by decide) ?_
              | refine br_f (by decide) ?_
            refine br_f hne ?_
            repeat first
              | refine br_t (by decide) ?_
              | refine br_f (by decide) ?_
            exact br_f (nI_nlt (b := 96) h96 (by omega)) (h3 _ hp)
      · obtain ⟨u', v', h1, h2, h3⟩ := tl_raise (d := b) ⟨⟨tf_B_d hB (by omega), F.1.2⟩, F.2⟩ (-22)
        refine ⟨u', v', tf_M_mono (by omega) h1, fun post hp => nm_r e0 ?_, fun post hp e va ib _ _ _ => ?_⟩
        · repeat first
            | refine br_t (by decide) ?_
            | refine br_f (by decide) ?_
          refine br_f (nI_nle (by omega) (by omega)) ?_
          rw [nI_pred, nI_clamp (show m < 2 ^ 31 by omega)]
          refine And.intro (vp_in_nI (by omega) (by omega)) ?_
          repeat first
            | refine br_t (by decide) ?_
            | refine br_f (by decide) ?_
          refine br_f hk ?_
          repeat first
            | refine br_t (by decide) ?_
            | refine br_f (by decide) ?_
          exact h2 _ hp
        · repeat first
            | refine br_t (by decide) ?_
            | refine br_f (by decide) ?_
          refine br_f (nI_nle (by omega) (by omega)) ?_
          rw [nI_pred, nI_clamp (show m < 2 ^ 31 by omega)]
          refine And.intro (vp_in_nI (by omega) (by omega)) ?_
          repeat first
            | refine br_t (by decide) ?_
            | refine br_f (by decide) ?_
          refine Exists.intro (m + 1 + 1) (ty_c38 (by omega) (m + 1) 0 1 (by omega) (fun z hz => ?_))
          refine br_t (nI_le (Nat.le_refl _) (by omega)) ?_
          repeat first
            | refine br_t (by decide) ?_
            | refine br_f (by decide) ?_
          refine br_f hk ?_
          repeat first
            | refine br_t (by decide) ?_
            | refine br_f (by decide) ?_
          refine br_f hne ?_
          repeat first
            | refine br_t (by decide) ?_
            | refine br_f (by decide) ?_
          exact h3 _ hp
end
section
variable {md mr mu mf ll lp d r w n os cd hc oh od fu : Nat} {k1 k2 k3 k4 k5 k6 k7 k8 k9 tS tE en op co cu ip ie pe ab re oy sv : Int32} {tN onm : Int64} {li da rk ra rb rc kd ls im sr st we ad wo tk gv io ia ck ci ce ou ox yk ya yb oo ol ao ap ik iv ow oz : Nat → Int32} {nm : Nat → Int64} {lo : Nat}
theorem tw_41 {p : Nat} (F : (tf_F p md mr mu mf ll d r w n os cd hc oh od op co oy onm li nm kd im ad st we wo oo ol ao ap tk gv io ia ik iv ow ck ci ox oz lp fu ip ie rk ra rb rc yk ya yb lo)) : tf_OB lo (p + 2 * d + 1) 41 (k1, k2, k3, k4, k5, k6, k7, k8, k9, (nI md), (nI mr), (nI mu), (nI mf), (nI ll), (nI lp), tS, tE, tN, (nI d), (nI r), (nI w), en, (nI n), op, co, onm, (nI os), (nI cd), (nI hc), (nI oh), (nI od), cu, (nI fu), ip, ie, (-1), 0, re, li, da, rk, ra, rb, rc, nm, kd, ls, im, sr, st, we, ad, wo, tk, gv, io, ia, ck, ci, ce, ou, ox) ((nI md), (nI mr), (nI mu), (nI mf), (nI ll), (nI lp), sv, (nI d), (nI r), (nI w), en, (nI n), (nI hc), (nI od), cu, oy, onm, (nI cd), (nI oh), (nI fu), (-1), re, 0, li, da, yk, ya, yb, nm, kd, ls, im, sr, ad, oo, ol, ao, ap, ik, iv, ow, ce, oz, ck, ou) := by
  have hB := F.1.1
  have hB2 := hB
  unfold tf_B at hB2
  have hT := F.1.2.2.1 41 (by decide)
  refine tl_bi (t := 0) (g := 0) (gr := 0) F (by decide) hT.1 hT.2 (by decide) (by decide) (Or.inl ⟨rfl, by decide⟩) (fun post h => ty145_41 h) ?_
  intro b hb hg y x
  have hb' : b = d := hb.symm
  subst hb'
  have e0 : nI (b + 0) - nI 0 = nI b := by rw [pk_sub (by omega), Nat.add_sub_cancel]
  rcases tf_opc F.1 with ⟨o1, o2, o3, o4⟩ | ⟨o1, o2, o3, o4, o5⟩
  · subst o1
    subst o2
    subst o3
    obtain ⟨u', v', h1, h2, h3⟩ := tl_raise (d := b) ⟨⟨tf_B_d hB (by omega), F.1.2⟩, F.2⟩ (-14)
    refine ⟨u', v', tf_M_mono (by omega) h1, fun post hp => nm_r e0 ?_, fun post hp e va ib _ _ _ => ?_⟩
    · repeat first
        | refine br_t (by decide) ?_
        | refine br_f (by decide) ?_
      exact h2 _ hp
    · repeat first
        | refine br_t (by decide) ?_
        | refine br_f (by decide) ?_
      refine Exists.intro 1 ?_
      repeat first
        | refine br_t (by decide) ?_
        | refine br_f (by decide) ?_
      exact h3 _ hp
  · subst o1
    have hne : ¬ oy = 0 := by
      rcases o2 with ⟨_, o2⟩ | ⟨_, o2⟩ <;> subst o2 <;> decide
    rcases Nat.eq_zero_or_pos cd with hz | hz
    · subst hz
      obtain ⟨u', v', h1, h2, h3⟩ := tl_raise (d := b) ⟨⟨tf_B_d hB (by omega), F.1.2⟩, F.2⟩ (-22)
      refine ⟨u', v', tf_M_mono (by omega) h1, fun post hp => nm_r e0 ?_, fun post hp e va ib _ _ _ => ?_⟩
      · repeat first
          | refine br_t (by decide) ?_
          | refine br_f (by decide) ?_
        exact h2 _ hp
      · repeat first
          | refine br_t (by decide) ?_
          | refine br_f (by decide) ?_
        refine Exists.intro 1 ?_
        repeat first
          | refine br_t (by decide) ?_
          | refine br_f (by decide) ?_
        refine br_f hne ?_
        repeat first
          | refine br_t (by decide) ?_
          | refine br_f (by decide) ?_
        exact h3 _ hp
    · obtain ⟨m, hm⟩ : ∃ m, cd = m + 1 := ⟨cd - 1, by omega⟩
      subst hm
      obtain ⟨c, hci, hos, hcn, hik, hck5, hfs, hwh⟩ := F.1.2.2.2.2.2.2.2.2.2.1.1 m (by omega)
      have him : vp_in (nI m) 8 := vp_in_nI (by omega) (by omega)
      have hi96 : vp_in (nI c) 96 := vp_in_nI (by omega) (by omega)
      by_cases hk : ck m = 39
      · rcases Nat.lt_or_ge (m + 1) 8 with h8 | h8
        · rcases Nat.lt_or_ge n 96 with h96 | h96
          · refine ⟨(k1, k2, k3, k4, k5, k6, k7, k8, k9, (nI md), (nI mr), (nI mu), (nI mf), (nI ll), (nI lp), tS, tE, tN, (nI b), (nI r), (nI w), en, (nI (n+1)), 1, co, onm, (nI os), (nI (m + 1 + 1)), (nI hc), (nI oh), (nI od), cu, (nI fu), ip, ie, (-1), 0, re, li, da, rk, ra, rb, rc, nm, kd, ls, im, sr, st, we, ad, wo, tk, gv, (upd io n 41), (upd ia n 0), (upd ck (m + 1) 41), (upd ci (m + 1) (nI n)), ce, ou, ox), ((nI md), (nI mr), (nI mu), (nI mf), (nI ll), (nI lp), sv, (nI b), (nI r), (nI w), en, (nI (n+1)), (nI hc), (nI od), cu, oy, onm, (nI (m + 1 + 1)), (nI oh), (nI fu), (-1), re, 0, li, da, yk, ya, yb, nm, kd, ls, im, sr, ad, oo, ol, ao, ap, (upd ik n 41), (upd iv n 0), (upd ow n (nI w)), ce, oz, (upd ck (m + 1) 41), ou), tf_M_mono (p := p) (by omega) (Or.inl (tf_MR_in ⟨⟨by unfold tf_B; omega, F.1.2.1, F.1.2.2.1, F.1.2.2.2.1, F.1.2.2.2.2.1, F.1.2.2.2.2.2.1, tf_Z_push (by omega) h96 (by decide) (by omega) (fun _ => ⟨m, rfl, hk⟩) F.1.2.2.2.2.2.2⟩, F.2⟩)), fun post hp => nm_r e0 ?_, fun post hp e va ib _ _ _ => ?_⟩
            · repeat first
                | refine br_t (by decide) ?_
                | refine br_f (by decide) ?_
              refine br_f (nI_nle (by omega) (by omega)) ?_
              rw [nI_pred, nI_clamp (show m < 2 ^ 31 by omega)]
              refine And.intro (vp_in_nI (by omega) (by omega)) ?_
              rw [hk]
              repeat first
                | refine br_t (by decide) ?_
                | refine br_f (by decide) ?_
              refine br_t (nI_lt (b := 8) h8 (by decide)) ?_
              refine br_t (nI_lt (b := 96) h96 (by decide)) (tx_item h96 ?_)
              repeat first
                | refine br_t (by decide) ?_
                | refine br_f (by decide) ?_
              exact And.intro (vp_in_nI (n := m + 1) (by omega) (by omega)) (nm_r (tf_uc (k := m + 1) (by omega)) (And.intro (vp_in_nI (n := m + 1) (by omega) (by omega)) (nm_r (tf_uc (k := m + 1) (by omega)) (nm_r (nI_1 (m + 1)) hp))))
            · repeat first
                | refine br_t (by decide) ?_
                | refine br_f (by decide) ?_
              refine br_f (nI_nle (by omega) (by omega)) ?_
              rw [nI_pred, nI_clamp (show m < 2 ^ 31 by omega)]
              refine And.intro (vp_in_nI (by omega) (by omega)) ?_
              rw [hk]
              repeat first
                | refine br_t (by decide) ?_
                | refine br_f (by decide) ?_
              refine Exists.intro (m + 1 + 1) (ty_c38 (by omega) (m + 1) 0 1 (by omega) (fun z hz => ?_))
              have ez : z = 1 := by
                rcases hz with ⟨z1, _⟩ | ⟨z1, _⟩ <;> exact z1
              subst ez
              refine br_t (nI_le (Nat.le_refl _) (by omega)) ?_
              repeat first
                | refine br_t (by decide) ?_
                | refine br_f (by decide) ?_
              refine br_f hne ?_
              repeat first
                | refine br_t (by decide) ?_
                | refine br_f (by decide) ?_
              refine br_t (nI_lt (b := 8) h8 (by decide)) ?_
              repeat first
                | refine br_t (by decide) ?_
                | refine br_f (by decide) ?_
              refine br_t (nI_lt (b := 96) h96 (by decide)) (ty_item h96 ?_)
              repeat first
                | refine br_t (by decide) ?_
                | refine br_f (by decide) ?_
              refine And.intro (vp_in_nI (n := m + 1) (by omega) (by omega)) (nm_r (tf_uc (k := m + 1) (by omega)) (nm_r (nI_1 (m + 1)) ?_))
              repeat first
                | refine br_t (by decide) ?_
                | refine br_f (by decide) ?_
              exact hp
          · obtain ⟨u', v', h1, h2, h3⟩ := tl_raise (d := b) ⟨⟨tf_B_d hB (by omega), F.1.2⟩, F.2⟩ (-8)
            refine ⟨u', v', tf_M_mono (by omega) h1, fun post hp => nm_r e0 ?_, fun post hp e va ib _ _ _ => ?_⟩
            · repeat first
                | refine br_t (by decide) ?_
                | refine br_f (by decide) ?_
              refine br_f (nI_nle (by omega) (by omega)) ?_
              rw [nI_pred, nI_clamp (show m < 2 ^ 31 by omega)]
              refine And.intro (vp_in_nI (by omega) (by omega)) ?_
              rw [hk]
              repeat first
                | refine br_t (by decide) ?_
                | refine br_f (by decide) ?_
              refine br_t (nI_lt (b := 8) h8 (by decide)) ?_
              exact br_f (nI_nlt (b := 96) h96 (by omega)) (h2 _ hp)
            · repeat first
                | refine br_t (by decide) ?_
                | refine br_f (by decide) ?_
              refine br_f (nI_nle (by omega) (by omega)) ?_
              rw [nI_pred, nI_clamp (show m < 2 ^ 31 by omega)]
              refine And.intro (vp_in_nI (by omega) (by omega)) ?_
              rw [hk]
              repeat first
                | refine br_t (by decide) ?_
                | refine br_f (by decide) ?_
              refine Exists.intro (m + 1 + 1) (ty_c38 (by omega) (m + 1) 0 1 (by omega) (fun z hz => ?_))
              have ez : z = 1 := by
                rcases hz with ⟨z1, _⟩ | ⟨z1, _⟩ <;> exact z1
              subst ez
              refine br_t (nI_le (Nat.le_refl _) (by omega)) ?_
              repeat first
                | refine br_t (by decide) ?_
                | refine br_f (by decide) ?_
              refine br_f hne ?_
              repeat first
                | refine br_t (by decide) ?_
                | refine br_f (by decide) ?_
              refine br_t (nI_lt (b := 8) h8 (by decide)) ?_
              repeat first
                | refine br_t (by decide) ?_
                | refine br_f (by decide) ?_
              exact br_f (nI_nlt (b := 96) h96 (by omega)) (h3 _ hp)
        · obtain ⟨u', v', h1, h2, h3⟩ := tl_raise (d := b) ⟨⟨tf_B_d hB (by omega), F.1.2⟩, F.2⟩ (-52)
          refine ⟨u', v', tf_M_mono (by omega) h1, fun post hp => nm_r e0 ?_, fun post hp e va ib _ _ _ => ?_⟩
          · repeat first
              | refine br_t (by decide) ?_
              | refine br_f (by decide) ?_
            refine br_f (nI_nle (by omega) (by omega)) ?_
            rw [nI_pred, nI_clamp (show m < 2 ^ 31 by omega)]
            refine And.intro (vp_in_nI (by omega) (by omega)) ?_
            rw [hk]
            repeat first
              | refine br_t (by decide) ?_
              | refine br_f (by decide) ?_
            exact br_f (nI_nlt (b := 8) h8 (by omega)) (h2 _ hp)
          · repeat first
              | refine br_t (by decide) ?_
              | refine br_f (by decide) ?_
            refine br_f (nI_nle (by omega) (by omega)) ?_
            rw [nI_pred, nI_clamp (show m < 2 ^ 31 by omega)]
            refine And.intro (vp_in_nI (by omega) (by omega)) ?_
            rw [hk]
            repeat first
              | refine br_t (by decide) ?_
              | refine br_f (by decide) ?_
            refine Exists.intro (m + 1 + 1) (ty_c38 (by omega) (m + 1) 0 1 (by omega) (fun z hz => ?_))
            have ez : z = 1 := by
              rcases hz with ⟨z1, _⟩ | ⟨z1, _⟩ <;> exact z1
            subst ez
            refine br_t (nI_le (Nat.le_refl _) (by omega)) ?_
            repeat first
              | refine br_t (by decide) ?_
              | refine br_f (by decide) ?_
            refine br_f hne ?_
            repeat first
              | refine br_t (by decide) ?_
              | refine br_f (by decide) ?_
            exact br_f (nI_nlt (b := 8) h8 (by omega)) (h3 _ hp)
      · obtain ⟨u', v', h1, h2, h3⟩ := tl_raise (d := b) ⟨⟨tf_B_d hB (by omega), F.1.2⟩, F.2⟩ (-22)
        refine ⟨u', v', tf_M_mono (by omega) h1, fun post hp => nm_r e0 ?_, fun post hp e va ib _ _ _ => ?_⟩
        · repeat first
            | refine br_t (by decide) ?_
            | refine br_f (by decide) ?_
          refine br_f (nI_nle (by omega) (by omega)) ?_
          rw [nI_pred, nI_clamp (show m < 2 ^ 31 by omega)]
          refine And.intro (vp_in_nI (by omega) (by omega)) ?_
          repeat first
            | refine br_t (by decide) ?_
            | refine br_f (by decide) ?_
          refine br_f hk ?_
          repeat first
            | refine br_t (by decide) ?_
            | refine br_f (by decide) ?_
          exact h2 _ hp
        · repeat first
            | refine br_t (by decide) ?_
            | refine br_f (by decide) ?_
          refine br_f (nI_nle (by omega) (by omega)) ?_
          rw [nI_pred, nI_clamp (show m < 2 ^ 31 by omega)]
          refine And.intro (vp_in_nI (by omega) (by omega)) ?_
          repeat first
            | refine br_t (by decide) ?_
            | refine br_f (by decide) ?_
          refine Exists.intro (m + 1 + 1) (ty_c38 (by omega) (m + 1) 0 1 (by omega) (fun z hz => ?_))
          refine br_t (nI_le (Nat.le_refl _) (by omega)) ?_
          repeat first
            | refine br_t (by decide) ?_
            | refine br_f (by decide) ?_
          refine br_f hk ?_
          repeat first
            | refine br_t (by decide) ?_
            | refine br_f (by decide) ?_
          refine br_f hne ?_
          repeat first
            | refine br_t (by decide) ?_
            | refine br_f (by decide) ?_
          exact h3 _ hp
end
section
variable {md mr mu mf ll lp d r w n os cd hc oh od fu : Nat} {k1 k2 k3 k4 k5 k6 k7 k8 k9 tS tE en op co cu ip ie pe ab re oy sv : Int32} {tN onm : Int64} {li da rk ra rb rc kd ls im sr st we ad wo tk gv io ia ck ci ce ou ox yk ya yb oo ol ao ap ik iv ow oz : Nat → Int32} {nm : Nat → Int64} {lo : Nat}
theorem tw_42 {p : Nat} (F : (tf_F p md mr mu mf ll d r w n os cd hc oh od op co oy onm li nm kd im ad st we wo oo ol ao ap tk gv io ia ik iv ow ck ci ox oz lp fu ip ie rk ra rb rc yk ya yb lo)) : tf_OB lo (p + 2 * d + 1) 42 (k1, k2, k3, k4, k5, k6, k7, k8, k9, (nI md), (nI mr), (nI mu), (nI mf), (nI ll), (nI lp), tS, tE, tN, (nI d), (nI r), (nI w), en, (nI n), op, co, onm, (nI os), (nI cd), (nI hc), (nI oh), (nI od), cu, (nI fu), ip, ie, (-1), 0, re, li, da, rk, ra, rb, rc, nm, kd, ls, im, sr, st, we, ad, wo, tk, gv, io, ia, ck, ci, ce, ou, ox) ((nI md), (nI mr), (nI mu), (nI mf), (nI ll), (nI lp), sv, (nI d), (nI r), (nI w), en, (nI n), (nI hc), (nI od), cu, oy, onm, (nI cd), (nI oh), (nI fu), (-1), re, 0, li, da, yk, ya, yb, nm, kd, ls, im, sr, ad, oo, ol, ao, ap, ik, iv, ow, ce, oz, ck, ou) := by
  have hB := F.1.1
  have hB2 := hB
  unfold tf_B at hB2
  have hT := F.1.2.2.1 42 (by decide)
  refine tl_bi (t := 0) (g := 0) (gr := 0) F (by decide) hT.1 hT.2 (by decide) (by decide) (Or.inl ⟨rfl, by decide⟩) (fun post h => ty145_42 h) ?_
  intro b hb hg y x
  have hb' : b = d := hb.symm
  subst hb'
  have e0 : nI (b + 0) - nI 0 = nI b := by rw [pk_sub (by omega), Nat.add_sub_cancel]
  rcases tf_opc F.1 with ⟨o1, o2, o3, o4⟩ | ⟨o1, o2, o3, o4, o5⟩
  · subst o1
    subst o2
    subst o3
    obtain ⟨u', v', h1, h2, h3⟩ := tl_raise (d := b) ⟨⟨tf_B_d hB (by omega), F.1.2⟩, F.2⟩ (-14)
    refine ⟨u', v', tf_M_mono (by omega) h1, fun post hp => nm_r e0 ?_, fun post hp e va ib _ _ _ => ?_⟩
    · repeat first
        | refine br_t (by decide) ?_
        | refine br_f (by decide) ?_
      exact h2 _ hp
    · repeat first
        | refine br_t (by decide) ?_
        | refine br_f (by decide) ?_
      refine Exists.intro 1 ?_
      repeat first
        | refine br_t (by decide) ?_
        | refine br_f (by decide) ?_
      exact h3 _ hp
  · subst o1
    have hne : ¬ oy = 0 := by
      rcases o2 with ⟨_, o2⟩ | ⟨_, o2⟩ <;> subst o2 <;> decide
    rcases Nat.eq_zero_or_pos cd with hz | hz
    · subst hz
      obtain ⟨u', v', h1, h2, h3⟩ := tl_raise (d := b) ⟨⟨tf_B_d hB (by omega), F.1.2⟩, F.2⟩ (-22)
      refine ⟨u', v', tf_M_mono (by omega) h1, fun post hp => nm_r e0 ?_, fun post hp e va ib _ _ _ => ?_⟩
      · repeat first
          | refine br_t (by decide) ?_
          | refine br_f (by decide) ?_
        exact h2 _ hp
      · repeat first
          | refine br_t (by decide) ?_
          | refine br_f (by decide) ?_
        refine Exists.intro 1 ?_
        repeat first
          | refine br_t (by decide) ?_
          | refine br_f (by decide) ?_
        refine br_f hne ?_
        repeat first
          | refine br_t (by decide) ?_
          | refine br_f (by decide) ?_
        exact h3 _ hp
    · obtain ⟨m, hm⟩ : ∃ m, cd = m + 1 := ⟨cd - 1, by omega⟩
      subst hm
      obtain ⟨c, hci, hos, hcn, hik, hck5, hfs, hwh⟩ := F.1.2.2.2.2.2.2.2.2.2.1.1 m (by omega)
      have him : vp_in (nI m) 8 := vp_in_nI (by omega) (by omega)
      have hi96 : vp_in (nI c) 96 := vp_in_nI (by omega) (by omega)
      by_cases hk : ck m = 41
      · obtain ⟨m2, hm', hk9⟩ := hwh hk
        subst hm'
        obtain ⟨c2, hci2, hos2, hcn2, _⟩ := F.1.2.2.2.2.2.2.2.2.2.1.1 m2 (by omega)
        rcases Nat.lt_or_ge n 96 with h96 | h96
        · refine ⟨(k1, k2, k3, k4, k5, k6, k7, k8, k9, (nI md), (nI mr), (nI mu), (nI mf), (nI ll), (nI lp), tS, tE, tN, (nI b), (nI r), (nI w), en, (nI (n+1)), 1, co, onm, (nI os), (nI m2), (nI hc), (nI oh), (nI od), cu, (nI fu), ip, ie, (-1), 0, re, li, da, rk, ra, rb, rc, nm, kd, ls, im, sr, st, we, ad, wo, tk, gv, (upd io n 42), (upd (upd (upd ia n 0) c (nI (n + 1))) n (nI (c2 + 1))), ck, ci, ce, ou, ox), ((nI md), (nI mr), (nI mu), (nI mf), (nI ll), (nI lp), sv, (nI b), (nI r), (nI w), en, (nI (n+1)), (nI hc), (nI od), cu, oy, onm, (nI m2), (nI oh), (nI fu), (-1), re, 0, li, da, yk, ya, yb, nm, kd, ls, im, sr, ad, oo, ol, ao, ap, (upd ik n 42), (upd iv n 0), (upd ow n (nI w)), ce, oz, ck, ou), tf_M_mono (p := p) (by omega) (Or.inl (tf_MR_in ⟨⟨by unfold tf_B; omega, F.1.2.1, F.1.2.2.1, F.1.2.2.2.1, F.1.2.2.2.2.1, F.1.2.2.2.2.2.1, tf_Z_repeat (by omega) h96 hk hk9 hci hcn hci2 hcn2 F.1.2.2.2.2.2.2⟩, F.2⟩)), fun post hp => nm_r e0 ?_, fun post hp e va ib _ _ _ => ?_⟩
          · repeat first
              | refine br_t (by decide) ?_
              | refine br_f (by decide) ?_
            refine br_f (nI_nle (by omega) (by omega)) ?_
            rw [nI_pred, nI_clamp (show m2 + 1 < 2 ^ 31 by omega)]
            refine And.intro (vp_in_nI (by omega) (by omega)) ?_
            rw [hk]
            repeat first
              | refine br_t (by decide) ?_
              | refine br_f (by decide) ?_
            refine br_f (nI_nlt (a := m2 + 1 + 1) (b := 2) (by omega) (by omega)) ?_
            repeat first
              | refine br_t (by decide) ?_
              | refine br_f (by decide) ?_
            refine br_t (nI_lt (b := 96) h96 (by decide)) (tx_item h96 ?_)
            repeat first
              | refine br_t (by decide) ?_
              | refine br_f (by decide) ?_
            refine br_t (nI_lt (a := 0) (b := m2 + 1 + 1) (by omega) (by omega)) (nm_r (nI_pred (m2 + 1)) (And.intro him (nm_r ((tf_rc (by omega)).trans hci) ?_)))
            repeat first
              | refine br_t (by decide) ?_
              | refine br_f (by decide) ?_
            refine br_f (nI_nlt (a := m2 + 1) (b := 1) (by omega) (by omega)) (And.intro hi96 (nm_r (tf_uc1 (by omega)) ?_))
            rw [nI_pred, nI_clamp (show m2 < 2 ^ 31 by omega), hci2]
            exact And.intro (vp_in_nI (by omega) (by omega)) (And.intro (vp_in_nI h96 (by omega)) (nm_r (tf_uc1 (by omega)) (nm_r (pk_sub (a := m2 + 1 + 1) (b := 2) (by omega)) hp)))
          · repeat first
              | refine br_t (by decide) ?_
              | refine br_f (by decide) ?_
            refine br_f (nI_nle (by omega) (by omega)) ?_
            rw [nI_pred, nI_clamp (show m2 + 1 < 2 ^ 31 by omega)]
            refine And.intro (vp_in_nI (by omega) (by omega)) ?_
            rw [hk]
            repeat first
              | refine br_t (by decide) ?_
              | refine br_f (by decide) ?_
            refine Exists.intro (m2 + 1 + 1 + 1) (ty_c38 (by omega) (m2 + 1 + 1) 0 1 (by omega) (fun z hz => ?_))
            have ez : z = 1 := by
              rcases hz with ⟨z1, _⟩ | ⟨z1, _⟩ <;> exact z1
            subst ez
            refine br_t (nI_le (Nat.le_refl _) (by omega)) ?_
            repeat first
              | refine br_t (by decide) ?_
              | refine br_f (by decide) ?_
            refine br_f hne ?_
            repeat first
              | refine br_t (by decide) ?_
              | refine br_f (by decide) ?_
            refine br_t (nI_lt (b := 96) h96 (by decide)) (ty_item h96 ?_)
            repeat first
              | refine br_t (by decide) ?_
              | refine br_f (by decide) ?_
            refine nm_r (pk_sub (a := m2 + 1 + 1) (b := 2) (by omega)) hp
        · obtain ⟨u', v', h1, h2, h3⟩ := tl_raise (d := b) ⟨⟨tf_B_d hB (by omega), F.1.2⟩, F.2⟩ (-8)
          refine ⟨u', v', tf_M_mono (by omega) h1, fun post hp => nm_r e0 ?_, fun post hp e va ib _ _ _ => ?_⟩
          · repeat first
              | refine br_t (by decide) ?_
              | refine br_f (by decide) ?_
            refine br_f (nI_nle (by omega) (by omega)) ?_
            rw [nI_pred, nI_clamp (show m2 + 1 < 2 ^ 31 by omega)]
            refine And.intro (vp_in_nI (by omega) (by omega)) ?_
            rw [hk]
            repeat first
              | refine br_t (by decide) ?_
              | refine br_f (by decide) ?_
            refine br_f (nI_nlt (a := m2 + 1 + 1) (b := 2) (by omega) (by omega)) ?_
            repeat first
              | refine br_t (by decide) ?_
              | refine br_f (by decide) ?_
            exact br_f (nI_nlt (b := 96) h96 (by omega)) (h2 _ hp)
          · repeat first
              | refine br_t (by decide) ?_
              | refine br_f (by decide) ?_
            refine br_f (nI_nle (by omega) (by omega)) ?_
            rw [nI_pred, nI_clamp (show m2 + 1 < 2 ^ 31 by omega)]
            refine And.intro (vp_in_nI (by omega) (by omega)) ?_
            rw [hk]
            repeat first
              | refine br_t (by decide) ?_
              | refine br_f (by decide) ?_
            refine Exists.intro (m2 + 1 + 1 + 1) (ty_c38 (by omega) (m2 + 1 + 1) 0 1 (by omega) (fun z hz => ?_))
            have ez : z = 1 := by
              rcases hz with ⟨z1, _⟩ | ⟨z1, _⟩ <;> exact z1
            subst ez
            refine br_t (nI_le (Nat.le_refl _) (by omega)) ?_
            repeat first
              | refine br_t (by decide) ?_
              | refine br_f (by decide) ?_
            refine br_f hne ?_
            repeat first
              | refine br_t (by decide) ?_
              | refine br_f (by decide) ?_
            exact br_f (nI_nlt (b := 96) h96 (by omega)) (h3 _ hp)
      · obtain ⟨u', v', h1, h2, h3⟩ := tl_raise (d := b) ⟨⟨tf_B_d hB (by omega), F.1.2⟩, F.2⟩ (-22)
        refine ⟨u', v', tf_M_mono (by omega) h1, fun post hp => nm_r e0 ?_, fun post hp e va ib _ _ _ => ?_⟩
        · repeat first
            | refine br_t (by decide) ?_
            | refine br_f (by decide) ?_
          refine br_f (nI_nle (by omega) (by omega)) ?_
          rw [nI_pred, nI_clamp (show m < 2 ^ 31 by omega)]
          refine And.intro (vp_in_nI (by omega) (by omega)) ?_
          repeat first
            | refine br_t (by decide) ?_
            | refine br_f (by decide) ?_
          refine br_f hk ?_
          repeat first
            | refine br_t (by decide) ?_
            | refine br_f (by decide) ?_
          exact h2 _ hp
        · repeat first
            | refine br_t (by decide) ?_
            | refine br_f (by decide) ?_
          refine br_f (nI_nle (by omega) (by omega)) ?_
          rw [nI_pred, nI_clamp (show m < 2 ^ 31 by omega)]
          refine And.intro (vp_in_nI (by omega) (by omega)) ?_
          repeat first
            | refine br_t (by decide) ?_
            | refine br_f (by decide) ?_
          refine Exists.intro (m + 1 + 1) (ty_c38 (by omega) (m + 1) 0 1 (by omega) (fun z hz => ?_))
          refine br_t (nI_le (Nat.le_refl _) (by omega)) ?_
          repeat first
            | refine br_t (by decide) ?_
            | refine br_f (by decide) ?_
          refine br_f hk ?_
          repeat first
            | refine br_t (by decide) ?_
            | refine br_f (by decide) ?_
          refine br_f hne ?_
          repeat first
            | refine br_t (by decide) ?_
            | refine br_f (by decide) ?_
          exact h3 _ hp
end
section
variable {md mr mu mf ll lp d r w n os cd hc oh od fu : Nat} {k1 k2 k3 k4 k5 k6 k7 k8 k9 tS tE en op co cu ip ie pe ab re oy sv : Int32} {tN onm : Int64} {li da rk ra rb rc kd ls im sr st we ad wo tk gv io ia ck ci ce ou ox yk ya yb oo ol ao ap ik iv ow oz : Nat → Int32} {nm : Nat → Int64} {lo : Nat}
theorem tw_43 {p : Nat} (F : (tf_F p md mr mu mf ll d r w n os cd hc oh od op co oy onm li nm kd im ad st we wo oo ol ao ap tk gv io ia ik iv ow ck ci ox oz lp fu ip ie rk ra rb rc yk ya yb lo)) : tf_OB lo (p + 2 * d + 1) 43 (k1, k2, k3, k4, k5, k6, k7, k8, k9, (nI md), (nI mr), (nI mu), (nI mf), (nI ll), (nI lp), tS, tE, tN, (nI d), (nI r), (nI w), en, (nI n), op, co, onm, (nI os), (nI cd), (nI hc), (nI oh), (nI od), cu, (nI fu), ip, ie, (-1), 0, re, li, da, rk, ra, rb, rc, nm, kd, ls, im, sr, st, we, ad, wo, tk, gv, io, ia, ck, ci, ce, ou, ox) ((nI md), (nI mr), (nI mu), (nI mf), (nI ll), (nI lp), sv, (nI d), (nI r), (nI w), en, (nI n), (nI hc), (nI od), cu, oy, onm, (nI cd), (nI oh), (nI fu), (-1), re, 0, li, da, yk, ya, yb, nm, kd, ls, im, sr, ad, oo, ol, ao, ap, ik, iv, ow, ce, oz, ck, ou) := by
  have hB := F.1.1
  have hB2 := hB
  unfold tf_B at hB2
  have hT := F.1.2.2.1 43 (by decide)
  refine tl_bi (t := 0) (g := 0) (gr := 0) F (by decide) hT.1 hT.2 (by decide) (by decide) (Or.inl ⟨rfl, by decide⟩) (fun post h => ty145_43 h) ?_
  intro b hb hg y x
  have hb' : b = d := hb.symm
  subst hb'
  have e0 : nI (b + 0) - nI 0 = nI b := by rw [pk_sub (by omega), Nat.add_sub_cancel]
  rcases tf_opc F.1 with ⟨o1, o2, o3, o4⟩ | ⟨o1, o2, o3, o4, o5⟩
  · subst o1
    subst o2
    subst o3
    obtain ⟨u', v', h1, h2, h3⟩ := tl_raise (d := b) ⟨⟨tf_B_d hB (by omega), F.1.2⟩, F.2⟩ (-14)
    refine ⟨u', v', tf_M_mono (by omega) h1, fun post hp => nm_r e0 ?_, fun post hp e va ib _ _ _ => ?_⟩
    · repeat first
        | refine br_t (by decide) ?_
        | refine br_f (by decide) ?_
      exact h2 _ hp
    · repeat first
        | refine br_t (by decide) ?_
        | refine br_f (by decide) ?_
      refine Exists.intro 1 ?_
      repeat first
        | refine br_t (by decide) ?_
        | refine br_f (by decide) ?_
      exact h3 _ hp
  · subst o1
    have hne : ¬ oy = 0 := by
      rcases o2 with ⟨_, o2⟩ | ⟨_, o2⟩ <;> subst o2 <;> decide
    rcases Nat.eq_zero_or_pos cd with hz | hz
    · subst hz
      rcases Nat.lt_or_ge n 96 with h96 | h96
      · refine ⟨(k1, k2, k3, k4, k5, k6, k7, k8, k9, (nI md), (nI mr), (nI mu), (nI mf), (nI ll), (nI lp), tS, tE, tN, (nI b), (nI r), (nI w), en, (nI (n+1)), 1, co, onm, (nI os), (nI (0 + 1)), (nI hc), (nI oh), (nI od), cu, (nI fu), ip, ie, (-1), 0, re, li, da, rk, ra, rb, rc, nm, kd, ls, im, sr, st, we, ad, wo, tk, gv, (upd io n 43), (upd ia n 0), (upd ck (0) 43), (upd ci (0) (nI n)), ce, ou, ox), ((nI md), (nI mr), (nI mu), (nI mf), (nI ll), (nI lp), sv, (nI b), (nI r), (nI w), en, (nI (n+1)), (nI hc), (nI od), cu, oy, onm, (nI (0 + 1)), (nI oh), (nI fu), (-1), re, 0, li, da, yk, ya, yb, nm, kd, ls, im, sr, ad, oo, ol, ao, ap, (upd ik n 43), (upd iv n 0), (upd ow n (nI w)), ce, oz, (upd ck (0) 43), ou), tf_M_mono (p := p) (by omega) (Or.inl (tf_MR_in ⟨⟨by unfold tf_B; omega, F.1.2.1, F.1.2.2.1, F.1.2.2.2.1, F.1.2.2.2.2.1, F.1.2.2.2.2.2.1, tf_Z_push (by omega) h96 (by decide) (by omega) (fun z => absurd z (by decide)) F.1.2.2.2.2.2.2⟩, F.2⟩)), fun post hp => nm_r e0 ?_, fun post hp e va ib _ _ _ => ?_⟩
        · repeat first
            | refine br_t (by decide) ?_
            | refine br_f (by decide) ?_
          refine br_t (nI_lt (b := 96) h96 (by decide)) (tx_item h96 ?_)
          repeat first
            | refine br_t (by decide) ?_
            | refine br_f (by decide) ?_
          exact And.intro (vp_in_nI (n := 0) (by omega) (by omega)) (nm_r (tf_uc (k := 0) (by omega)) (And.intro (vp_in_nI (n := 0) (by omega) (by omega)) (nm_r (tf_uc (k := 0) (by omega)) (nm_r (nI_1 (0)) hp))))
        · repeat first
            | refine br_t (by decide) ?_
            | refine br_f (by decide) ?_
          refine Exists.intro 1 ?_
          repeat first
            | refine br_t (by decide) ?_
            | refine br_f (by decide) ?_
          refine br_f hne ?_
          repeat first
            | refine br_t (by decide) ?_
            | refine br_f (by decide) ?_
          refine br_t (nI_lt (b := 96) h96 (by decide)) (ty_item h96 ?_)
          repeat first
            | refine br_t (by decide) ?_
            | refine br_f (by decide) ?_
          refine And.intro (vp_in_nI (n := 0) (by omega) (by omega)) (nm_r (tf_uc (k := 0) (by omega)) (nm_r (nI_1 (0)) ?_))
          repeat first
            | refine br_t (by decide) ?_
            | refine br_f (by decide) ?_
          exact hp
      · obtain ⟨u', v', h1, h2, h3⟩ := tl_raise (d := b) ⟨⟨tf_B_d hB (by omega), F.1.2⟩, F.2⟩ (-8)
        refine ⟨u', v', tf_M_mono (by omega) h1, fun post hp => nm_r e0 ?_, fun post hp e va ib _ _ _ => ?_⟩
        · repeat first
            | refine br_t (by decide) ?_
            | refine br_f (by decide) ?_
          exact br_f (nI_nlt (b := 96) h96 (by omega)) (h2 _ hp)
        · repeat first
            | refine br_t (by decide) ?_
            | refine br_f (by decide) ?_
          refine Exists.intro 1 ?_
          repeat first
            | refine br_t (by decide) ?_
            | refine br_f (by decide) ?_
          refine br_f hne ?_
          repeat first
            | refine br_t (by decide) ?_
            | refine br_f (by decide) ?_
          exact br_f (nI_nlt (b := 96) h96 (by omega)) (h3 _ hp)
    · obtain ⟨m, hm⟩ : ∃ m, cd = m + 1 := ⟨cd - 1, by omega⟩
      subst hm
      obtain ⟨c, hci, hos, hcn, hik, hck5, hfs, hwh⟩ := F.1.2.2.2.2.2.2.2.2.2.1.1 m (by omega)
      have him : vp_in (nI m) 8 := vp_in_nI (by omega) (by omega)
      have hi96 : vp_in (nI c) 96 := vp_in_nI (by omega) (by omega)
      rcases Nat.lt_or_ge (m + 1) 8 with h8 | h8
      · rcases Nat.lt_or_ge n 96 with h96 | h96
        · refine ⟨(k1, k2, k3, k4, k5, k6, k7, k8, k9, (nI md), (nI mr), (nI mu), (nI mf), (nI ll), (nI lp), tS, tE, tN, (nI b), (nI r), (nI w), en, (nI (n+1)), 1, co, onm, (nI os), (nI (m + 1 + 1)), (nI hc), (nI oh), (nI od), cu, (nI fu), ip, ie, (-1), 0, re, li, da, rk, ra, rb, rc, nm, kd, ls, im, sr, st, we, ad, wo, tk, gv, (upd io n 43), (upd ia n 0), (upd ck (m + 1) 43), (upd ci (m + 1) (nI n)), ce, ou, ox), ((nI md), (nI mr), (nI mu), (nI mf), (nI ll), (nI lp), sv, (nI b), (nI r), (nI w), en, (nI (n+1)), (nI hc), (nI od), cu, oy, onm, (nI (m + 1 + 1)), (nI oh), (nI fu), (-1), re, 0, li, da, yk, ya, yb, nm, kd, ls, im, sr, ad, oo, ol, ao, ap, (upd ik n 43), (upd iv n 0), (upd ow n (nI w)), ce, oz, (upd ck (m + 1) 43), ou), tf_M_mono (p := p) (by omega) (Or.inl (tf_MR_in ⟨⟨by unfold tf_B; omega, F.1.2.1, F.1.2.2.1, F.1.2.2.2.1, F.1.2.2.2.2.1, F.1.2.2.2.2.2.1, tf_Z_push (by omega) h96 (by decide) (by omega) (fun z => absurd z (by decide)) F.1.2.2.2.2.2.2⟩, F.2⟩)), fun post hp => nm_r e0 ?_, fun post hp e va ib _ _ _ => ?_⟩
          · repeat first
              | refine br_t (by decide) ?_
              | refine br_f (by decide) ?_
            refine br_f (nI_nle (by omega) (by omega)) ?_
            rw [nI_pred, nI_clamp (show m < 2 ^ 31 by omega)]
            refine And.intro (vp_in_nI (by omega) (by omega)) ?_
            repeat first
              | refine br_t (by decide) ?_
              | refine br_f (by decide) ?_
            refine br_t (nI_lt (b := 8) h8 (by decide)) ?_
            refine br_t (nI_lt (b := 96) h96 (by decide)) (tx_item h96 ?_)
            repeat first
              | refine br_t (by decide) ?_
              | refine br_f (by decide) ?_
            exact And.intro (vp_in_nI (n := m + 1) (by omega) (by omega)) (nm_r (tf_uc (k := m + 1) (by omega)) (And.intro (vp_in_nI (n := m + 1) (by omega) (by omega)) (nm_r (tf_uc (k := m + 1) (by omega)) (nm_r (nI_1 (m + 1)) hp))))
          · repeat first
              | refine br_t (by decide) ?_
              | refine br_f (by decide) ?_
            refine br_f (nI_nle (by omega) (by omega)) ?_
            rw [nI_pred, nI_clamp (show m < 2 ^ 31 by omega)]
            refine And.intro (vp_in_nI (by omega) (by omega)) ?_
            repeat first
              | refine br_t (by decide) ?_
              | refine br_f (by decide) ?_
            refine Exists.intro (m + 1 + 1) (ty_c38 (by omega) (m + 1) 0 1 (by omega) (fun z hz => ?_))
            have ez : z = 1 := by
              rcases hz with ⟨z1, _⟩ | ⟨z1, _⟩ <;> exact z1
            subst ez
            refine br_t (nI_le (Nat.le_refl _) (by omega)) ?_
            repeat first
              | refine br_t (by decide) ?_
              | refine br_f (by decide) ?_
            refine br_f hne ?_
            repeat first
              | refine br_t (by decide) ?_
              | refine br_f (by decide) ?_
            refine br_t (nI_lt (b := 8) h8 (by decide)) ?_
            repeat first
              | refine br_t (by decide) ?_
              | refine br_f (by decide) ?_
            refine br_t (nI_lt (b := 96) h96 (by decide)) (ty_item h96 ?_)
            repeat first
              | refine br_t (by decide) ?_
              | refine br_f (by decide) ?_
            refine And.intro (vp_in_nI (n := m + 1) (by omega) (by omega)) (nm_r (tf_uc (k := m + 1) (by omega)) (nm_r (nI_1 (m + 1)) ?_))
            repeat first
              | refine br_t (by decide) ?_
              | refine br_f (by decide) ?_
            exact hp
        · obtain ⟨u', v', h1, h2, h3⟩ := tl_raise (d := b) ⟨⟨tf_B_d hB (by omega), F.1.2⟩, F.2⟩ (-8)
          refine ⟨u', v', tf_M_mono (by omega) h1, fun post hp => nm_r e0 ?_, fun post hp e va ib _ _ _ => ?_⟩
          · repeat first
              | refine br_t (by decide) ?_
              | refine br_f (by decide) ?_
            refine br_f (nI_nle (by omega) (by omega)) ?_
            rw [nI_pred, nI_clamp (show m < 2 ^ 31 by omega)]
            refine And.intro (vp_in_nI (by omega) (by omega)) ?_
            repeat first
              | refine br_t (by decide) ?_
              | refine br_f (by decide) ?_
            refine br_t (nI_lt (b := 8) h8 (by decide)) ?_
            exact br_f (nI_nlt (b := 96) h96 (by omega)) (h2 _ hp)
          · repeat first
              | refine br_t (by decide) ?_
              | refine br_f (by decide) ?_
            refine br_f (nI_nle (by omega) (by omega)) ?_
            rw [nI_pred, nI_clamp (show m < 2 ^ 31 by omega)]
            refine And.intro (vp_in_nI (by omega) (by omega)) ?_
            repeat first
              | refine br_t (by decide) ?_
              | refine br_f (by decide) ?_
            refine Exists.intro (m + 1 + 1) (ty_c38 (by omega) (m + 1) 0 1 (by omega) (fun z hz => ?_))
            have ez : z = 1 := by
              rcases hz with ⟨z1, _⟩ | ⟨z1, _⟩ <;> exact z1
            subst ez
            refine br_t (nI_le (Nat.le_refl _) (by omega)) ?_
            repeat first
              | refine br_t (by decide) ?_
              | refine br_f (by decide) ?_
            refine br_f hne ?_
            repeat first
              | refine br_t (by decide) ?_
              | refine br_f (by decide) ?_
            refine br_t (nI_lt (b := 8) h8 (by decide)) ?_
            repeat first
              | refine br_t (by decide) ?_
              | refine br_f (by decide) ?_
            exact br_f (nI_nlt (b := 96) h96 (by omega)) (h3 _ hp)
      · obtain ⟨u', v', h1, h2, h3⟩ := tl_raise (d := b) ⟨⟨tf_B_d hB (by omega), F.1.2⟩, F.2⟩ (-52)
        refine ⟨u', v', tf_M_mono (by omega) h1, fun post hp => nm_r e0 ?_, fun post hp e va ib _ _ _ => ?_⟩
        · repeat first
            | refine br_t (by decide) ?_
            | refine br_f (by decide) ?_
          refine br_f (nI_nle (by omega) (by omega)) ?_
          rw [nI_pred, nI_clamp (show m < 2 ^ 31 by omega)]
          refine And.intro (vp_in_nI (by omega) (by omega)) ?_
          repeat first
            | refine br_t (by decide) ?_
            | refine br_f (by decide) ?_
          exact br_f (nI_nlt (b := 8) h8 (by omega)) (h2 _ hp)
        · repeat first
            | refine br_t (by decide) ?_
            | refine br_f (by decide) ?_
          refine br_f (nI_nle (by omega) (by omega)) ?_
          rw [nI_pred, nI_clamp (show m < 2 ^ 31 by omega)]
          refine And.intro (vp_in_nI (by omega) (by omega)) ?_
          repeat first
            | refine br_t (by decide) ?_
            | refine br_f (by decide) ?_
          refine Exists.intro (m + 1 + 1) (ty_c38 (by omega) (m + 1) 0 1 (by omega) (fun z hz => ?_))
          have ez : z = 1 := by
            rcases hz with ⟨z1, _⟩ | ⟨z1, _⟩ <;> exact z1
          subst ez
          refine br_t (nI_le (Nat.le_refl _) (by omega)) ?_
          repeat first
            | refine br_t (by decide) ?_
            | refine br_f (by decide) ?_
          refine br_f hne ?_
          repeat first
            | refine br_t (by decide) ?_
            | refine br_f (by decide) ?_
          exact br_f (nI_nlt (b := 8) h8 (by omega)) (h3 _ hp)
end
section
variable {md mr mu mf ll lp d r w n os cd hc oh od fu : Nat} {k1 k2 k3 k4 k5 k6 k7 k8 k9 tS tE en op co cu ip ie pe ab re oy sv : Int32} {tN onm : Int64} {li da rk ra rb rc kd ls im sr st we ad wo tk gv io ia ck ci ce ou ox yk ya yb oo ol ao ap ik iv ow oz : Nat → Int32} {nm : Nat → Int64} {lo : Nat}
theorem tw_44 {p : Nat} (F : (tf_F p md mr mu mf ll d r w n os cd hc oh od op co oy onm li nm kd im ad st we wo oo ol ao ap tk gv io ia ik iv ow ck ci ox oz lp fu ip ie rk ra rb rc yk ya yb lo)) : tf_OB lo (p + 2 * d + 1) 44 (k1, k2, k3, k4, k5, k6, k7, k8, k9, (nI md), (nI mr), (nI mu), (nI mf), (nI ll), (nI lp), tS, tE, tN, (nI d), (nI r), (nI w), en, (nI n), op, co, onm, (nI os), (nI cd), (nI hc), (nI oh), (nI od), cu, (nI fu), ip, ie, (-1), 0, re, li, da, rk, ra, rb, rc, nm, kd, ls, im, sr, st, we, ad, wo, tk, gv, io, ia, ck, ci, ce, ou, ox) ((nI md), (nI mr), (nI mu), (nI mf), (nI ll), (nI lp), sv, (nI d), (nI r), (nI w), en, (nI n), (nI hc), (nI od), cu, oy, onm, (nI cd), (nI oh), (nI fu), (-1), re, 0, li, da, yk, ya, yb, nm, kd, ls, im, sr, ad, oo, ol, ao, ap, ik, iv, ow, ce, oz, ck, ou) := by
  have hB := F.1.1
  have hB2 := hB
  unfold tf_B at hB2
  have hT := F.1.2.2.1 44 (by decide)
  refine tl_bi (t := 0) (g := 0) (gr := 0) F (by decide) hT.1 hT.2 (by decide) (by decide) (Or.inl ⟨rfl, by decide⟩) (fun post h => ty145_44 h) ?_
  intro b hb hg y x
  have hb' : b = d := hb.symm
  subst hb'
  have e0 : nI (b + 0) - nI 0 = nI b := by rw [pk_sub (by omega), Nat.add_sub_cancel]
  rcases tf_opc F.1 with ⟨o1, o2, o3, o4⟩ | ⟨o1, o2, o3, o4, o5⟩
  · subst o1
    subst o2
    subst o3
    obtain ⟨u', v', h1, h2, h3⟩ := tl_raise (d := b) ⟨⟨tf_B_d hB (by omega), F.1.2⟩, F.2⟩ (-14)
    refine ⟨u', v', tf_M_mono (by omega) h1, fun post hp => nm_r e0 ?_, fun post hp e va ib _ _ _ => ?_⟩
    · repeat first
        | refine br_t (by decide) ?_
        | refine br_f (by decide) ?_
      exact h2 _ hp
    · repeat first
        | refine br_t (by decide) ?_
        | refine br_f (by decide) ?_
      refine Exists.intro 1 ?_
      repeat first
        | refine br_t (by decide) ?_
        | refine br_f (by decide) ?_
      exact h3 _ hp
  · subst o1
    have hne : ¬ oy = 0 := by
      rcases o2 with ⟨_, o2⟩ | ⟨_, o2⟩ <;> subst o2 <;> decide
    rcases Nat.eq_zero_or_pos cd with hz | hz
    · subst hz
      obtain ⟨u', v', h1, h2, h3⟩ := tl_raise (d := b) ⟨⟨tf_B_d hB (by omega), F.1.2⟩, F.2⟩ (-22)
      refine ⟨u', v', tf_M_mono (by omega) h1, fun post hp => nm_r e0 ?_, fun post hp e va ib _ _ _ => ?_⟩
      · repeat first
          | refine br_t (by decide) ?_
          | refine br_f (by decide) ?_
        exact h2 _ hp
      · repeat first
          | refine br_t (by decide) ?_
          | refine br_f (by decide) ?_
        refine Exists.intro 1 ?_
        repeat first
          | refine br_t (by decide) ?_
          | refine br_f (by decide) ?_
        refine br_f hne ?_
        repeat first
          | refine br_t (by decide) ?_
          | refine br_f (by decide) ?_
        exact h3 _ hp
    · obtain ⟨m, hm⟩ : ∃ m, cd = m + 1 := ⟨cd - 1, by omega⟩
      subst hm
      obtain ⟨c, hci, hos, hcn, hik, hck5, hfs, hwh⟩ := F.1.2.2.2.2.2.2.2.2.2.1.1 m (by omega)
      have him : vp_in (nI m) 8 := vp_in_nI (by omega) (by omega)
      have hi96 : vp_in (nI c) 96 := vp_in_nI (by omega) (by omega)
      by_cases hk : ck m = 43
      · rcases Nat.lt_or_ge n 96 with h96 | h96
        · refine ⟨(k1, k2, k3, k4, k5, k6, k7, k8, k9, (nI md), (nI mr), (nI mu), (nI mf), (nI ll), (nI lp), tS, tE, tN, (nI b), (nI r), (nI w), en, (nI (n+1)), 1, co, onm, (nI os), (nI m), (nI hc), (nI oh), (nI od), cu, (nI fu), ip, ie, (-1), 0, re, li, da, rk, ra, rb, rc, nm, kd, ls, im, sr, st, we, ad, wo, tk, gv, (upd io n 44), (tf_rl (upd io n 44) (upd (upd ia n 0) n (nI (c + 1))) c n n), ck, ci, ce, ou, ox), ((nI md), (nI mr), (nI mu), (nI mf), (nI ll), (nI lp), sv, (nI b), (nI r), (nI w), en, (nI (n+1)), (nI hc), (nI od), cu, oy, onm, (nI m), (nI oh), (nI fu), (-1), re, 0, li, da, yk, ya, yb, nm, kd, ls, im, sr, ad, oo, ol, ao, ap, (upd ik n 44), (upd iv n 0), (upd ow n (nI w)), ce, oz, ck, ou), tf_M_mono (p := p) (by omega) (Or.inl (tf_MR_in ⟨⟨by unfold tf_B; omega, F.1.2.1, F.1.2.2.1, F.1.2.2.2.1, F.1.2.2.2.2.1, F.1.2.2.2.2.2.1, tf_Z_loop (by omega) h96 hk hci hcn F.1.2.2.2.2.2.2⟩, F.2⟩)), fun post hp => nm_r e0 ?_, fun post hp e va ib _ _ _ => ?_⟩
          · repeat first
              | refine br_t (by decide) ?_
              | refine br_f (by decide) ?_
            refine br_f (nI_nle (by omega) (by omega)) ?_
            rw [nI_pred, nI_clamp (show m < 2 ^ 31 by omega)]
            refine And.intro (vp_in_nI (by omega) (by omega)) ?_
            rw [hk]
            repeat first
              | refine br_t (by decide) ?_
              | refine br_f (by decide) ?_
            refine br_t (nI_lt (b := 96) h96 (by decide)) (tx_item h96 ?_)
            repeat first
              | refine br_t (by decide) ?_
              | refine br_f (by decide) ?_
            refine br_t (nI_lt (a := 0) (b := m + 1) (by omega) (by omega)) (nm_r (nI_pred m) (And.intro him (nm_r ((tf_rc (by omega)).trans hci) ?_)))
            repeat first
              | refine br_t (by decide) ?_
              | refine br_f (by decide) ?_
            exact And.intro (vp_in_nI h96 (by omega)) (nm_r (tf_uc1 (by omega)) (tx_rl (by omega) hcn (nm_r (nI_pred m) hp)))
          · repeat first
              | refine br_t (by decide) ?_
              | refine br_f (by decide) ?_
            refine br_f (nI_nle (by omega) (by omega)) ?_
            rw [nI_pred, nI_clamp (show m < 2 ^ 31 by omega)]
            refine And.intro (vp_in_nI (by omega) (by omega)) ?_
            rw [hk]
            repeat first
              | refine br_t (by decide) ?_
              | refine br_f (by decide) ?_
            refine Exists.intro (m + 1 + 1) (ty_c38 (by omega) (m + 1) 0 1 (by omega) (fun z hz => ?_))
            have ez : z = 1 := by
              rcases hz with ⟨z1, _⟩ | ⟨z1, _⟩ <;> exact z1
            subst ez
            refine br_t (nI_le (Nat.le_refl _) (by omega)) ?_
            repeat first
              | refine br_t (by decide) ?_
              | refine br_f (by decide) ?_
            refine br_f hne ?_
            repeat first
              | refine br_t (by decide) ?_
              | refine br_f (by decide) ?_
            refine br_t (nI_lt (b := 96) h96 (by decide)) (ty_item h96 ?_)
            repeat first
              | refine br_t (by decide) ?_
              | refine br_f (by decide) ?_
            refine nm_r (nI_pred m) ?_
            repeat first
              | refine br_t (by decide) ?_
              | refine br_f (by decide) ?_
            exact hp
        · obtain ⟨u', v', h1, h2, h3⟩ := tl_raise (d := b) ⟨⟨tf_B_d hB (by omega), F.1.2⟩, F.2⟩ (-8)
          refine ⟨u', v', tf_M_mono (by omega) h1, fun post hp => nm_r e0 ?_, fun post hp e va ib _ _ _ => ?_⟩
          · repeat first
              | refine br_t (by decide) ?_
              | refine br_f (by decide) ?_
            refine br_f (nI_nle (by omega) (by omega)) ?_
            rw [nI_pred, nI_clamp (show m < 2 ^ 31 by omega)]
            refine And.intro (vp_in_nI (by omega) (by omega)) ?_
            rw [hk]
            repeat first
              | refine br_t (by decide) ?_
              | refine br_f (by decide) ?_
            exact br_f (nI_nlt (b := 96) h96 (by omega)) (h2 _ hp)
          · repeat first
              | refine br_t (by decide) ?_
              | refine br_f (by decide) ?_
            refine br_f (nI_nle (by omega) (by omega)) ?_
            rw [nI_pred, nI_clamp (show m < 2 ^ 31 by omega)]
            refine And.intro (vp_in_nI (by omega) (by omega)) ?_
            rw [hk]
            repeat first
              | refine br_t (by decide) ?_
              | refine br_f (by decide) ?_
            refine Exists.intro (m + 1 + 1) (ty_c38 (by omega) (m + 1) 0 1 (by omega) (fun z hz => ?_))
            have ez : z = 1 := by
              rcases hz with ⟨z1, _⟩ | ⟨z1, _⟩ <;> exact z1
            subst ez
            refine br_t (nI_le (Nat.le_refl _) (by omega)) ?_
            repeat first
              | refine br_t (by decide) ?_
              | refine br_f (by decide) ?_
            refine br_f hne ?_
            repeat first
              | refine br_t (by decide) ?_
              | refine br_f (by decide) ?_
            exact br_f (nI_nlt (b := 96) h96 (by omega)) (h3 _ hp)
      · obtain ⟨u', v', h1, h2, h3⟩ := tl_raise (d := b) ⟨⟨tf_B_d hB (by omega), F.1.2⟩, F.2⟩ (-22)
        refine ⟨u', v', tf_M_mono (by omega) h1, fun post hp => nm_r e0 ?_, fun post hp e va ib _ _ _ => ?_⟩
        · repeat first
            | refine br_t (by decide) ?_
            | refine br_f (by decide) ?_
          refine br_f (nI_nle (by omega) (by omega)) ?_
          rw [nI_pred, nI_clamp (show m < 2 ^ 31 by omega)]
          refine And.intro (vp_in_nI (by omega) (by omega)) ?_
          repeat first
            | refine br_t (by decide) ?_
            | refine br_f (by decide) ?_
          refine br_f hk ?_
          repeat first
            | refine br_t (by decide) ?_
            | refine br_f (by decide) ?_
          exact h2 _ hp
        · repeat first
            | refine br_t (by decide) ?_
            | refine br_f (by decide) ?_
          refine br_f (nI_nle (by omega) (by omega)) ?_
          rw [nI_pred, nI_clamp (show m < 2 ^ 31 by omega)]
          refine And.intro (vp_in_nI (by omega) (by omega)) ?_
          repeat first
            | refine br_t (by decide) ?_
            | refine br_f (by decide) ?_
          refine Exists.intro (m + 1 + 1) (ty_c38 (by omega) (m + 1) 0 1 (by omega) (fun z hz => ?_))
          refine br_t (nI_le (Nat.le_refl _) (by omega)) ?_
          repeat first
            | refine br_t (by decide) ?_
            | refine br_f (by decide) ?_
          refine br_f hk ?_
          repeat first
            | refine br_t (by decide) ?_
            | refine br_f (by decide) ?_
          refine br_f hne ?_
          repeat first
            | refine br_t (by decide) ?_
            | refine br_f (by decide) ?_
          exact h3 _ hp
end
section
variable {md mr mu mf ll lp d r w n os cd hc oh od fu : Nat} {k1 k2 k3 k4 k5 k6 k7 k8 k9 tS tE en op co cu ip ie pe ab re oy sv : Int32} {tN onm : Int64} {li da rk ra rb rc kd ls im sr st we ad wo tk gv io ia ck ci ce ou ox yk ya yb oo ol ao ap ik iv ow oz : Nat → Int32} {nm : Nat → Int64} {lo : Nat}
theorem tw_45 {p : Nat} (F : (tf_F p md mr mu mf ll d r w n os cd hc oh od op co oy onm li nm kd im ad st we wo oo ol ao ap tk gv io ia ik iv ow ck ci ox oz lp fu ip ie rk ra rb rc yk ya yb lo)) : tf_OB lo (p + 2 * d + 1) 45 (k1, k2, k3, k4, k5, k6, k7, k8, k9, (nI md), (nI mr), (nI mu), (nI mf), (nI ll), (nI lp), tS, tE, tN, (nI d), (nI r), (nI w), en, (nI n), op, co, onm, (nI os), (nI cd), (nI hc), (nI oh), (nI od), cu, (nI fu), ip, ie, (-1), 0, re, li, da, rk, ra, rb, rc, nm, kd, ls, im, sr, st, we, ad, wo, tk, gv, io, ia, ck, ci, ce, ou, ox) ((nI md), (nI mr), (nI mu), (nI mf), (nI ll), (nI lp), sv, (nI d), (nI r), (nI w), en, (nI n), (nI hc), (nI od), cu, oy, onm, (nI cd), (nI oh), (nI fu), (-1), re, 0, li, da, yk, ya, yb, nm, kd, ls, im, sr, ad, oo, ol, ao, ap, ik, iv, ow, ce, oz, ck, ou) := by
  have hB := F.1.1
  have hB2 := hB
  unfold tf_B at hB2
  have hT := F.1.2.2.1 45 (by decide)
  refine tl_bi (t := 0) (g := 0) (gr := 0) F (by decide) hT.1 hT.2 (by decide) (by decide) (Or.inl ⟨rfl, by decide⟩) (fun post h => ty145_45 h) ?_
  intro b hb hg y x
  have hb' : b = d := hb.symm
  subst hb'
  have e0 : nI (b + 0) - nI 0 = nI b := by rw [pk_sub (by omega), Nat.add_sub_cancel]
  rcases tf_opc F.1 with ⟨o1, o2, o3, o4⟩ | ⟨o1, o2, o3, o4, o5⟩
  · subst o1
    subst o2
    subst o3
    obtain ⟨u', v', h1, h2, h3⟩ := tl_raise (d := b) ⟨⟨tf_B_d hB (by omega), F.1.2⟩, F.2⟩ (-14)
    refine ⟨u', v', tf_M_mono (by omega) h1, fun post hp => nm_r e0 ?_, fun post hp e va ib _ _ _ => ?_⟩
    · repeat first
        | refine br_t (by decide) ?_
        | refine br_f (by decide) ?_
      exact h2 _ hp
    · repeat first
        | refine br_t (by decide) ?_
        | refine br_f (by decide) ?_
      refine Exists.intro 1 ?_
      repeat first
        | refine br_t (by decide) ?_
        | refine br_f (by decide) ?_
      exact h3 _ hp
  · subst o1
    have hne : ¬ oy = 0 := by
      rcases o2 with ⟨_, o2⟩ | ⟨_, o2⟩ <;> subst o2 <;> decide
    rcases Nat.eq_zero_or_pos cd with hz | hz
    · subst hz
      obtain ⟨u', v', h1, h2, h3⟩ := tl_raise (d := b) ⟨⟨tf_B_d hB (by omega), F.1.2⟩, F.2⟩ (-22)
      refine ⟨u', v', tf_M_mono (by omega) h1, fun post hp => nm_r e0 ?_, fun post hp e va ib _ _ _ => ?_⟩
      · repeat first
          | refine br_t (by decide) ?_
          | refine br_f (by decide) ?_
        refine tx_tdn (by omega) (fun t ht => absurd ht (by omega)) ?_
        repeat first
          | refine br_t (by decide) ?_
          | refine br_f (by decide) ?_
        exact h2 _ hp
      · repeat first
          | refine br_t (by decide) ?_
          | refine br_f (by decide) ?_
        refine Exists.intro 1 ?_
        repeat first
          | refine br_t (by decide) ?_
          | refine br_f (by decide) ?_
        refine br_f hne ?_
        repeat first
          | refine br_t (by decide) ?_
          | refine br_f (by decide) ?_
        exact h3 _ hp
    · obtain ⟨m, hm⟩ : ∃ m, cd = m + 1 := ⟨cd - 1, by omega⟩
      subst hm
      obtain ⟨c, hci, hos, hcn, hik, hck5, hfs, hwh⟩ := F.1.2.2.2.2.2.2.2.2.2.1.1 m (by omega)
      have him : vp_in (nI m) 8 := vp_in_nI (by omega) (by omega)
      have hi96 : vp_in (nI c) 96 := vp_in_nI (by omega) (by omega)
      rcases tf_topDo ck (m + 1) with hno | ⟨f, hf1, hf2, hf3⟩
      · obtain ⟨u', v', h1, h2, h3⟩ := tl_raise (d := b) ⟨⟨tf_B_d hB (by omega), F.1.2⟩, F.2⟩ (-22)
        refine ⟨u', v', tf_M_mono (by omega) h1, fun post hp => nm_r e0 ?_, fun post hp e va ib _ _ _ => ?_⟩
        · repeat first
            | refine br_t (by decide) ?_
            | refine br_f (by decide) ?_
          refine br_f (nI_nle (by omega) (by omega)) ?_
          rw [nI_pred, nI_clamp (show m < 2 ^ 31 by omega)]
          refine And.intro (vp_in_nI (by omega) (by omega)) ?_
          repeat first
            | refine br_t (by decide) ?_
            | refine br_f (by decide) ?_
          refine tx_tdn (by omega) hno ?_
          repeat first
            | refine br_t (by decide) ?_
            | refine br_f (by decide) ?_
          exact h2 _ hp
        · repeat first
            | refine br_t (by decide) ?_
            | refine br_f (by decide) ?_
          refine br_f (nI_nle (by omega) (by omega)) ?_
          rw [nI_pred, nI_clamp (show m < 2 ^ 31 by omega)]
          refine And.intro (vp_in_nI (by omega) (by omega)) ?_
          repeat first
            | refine br_t (by decide) ?_
            | refine br_f (by decide) ?_
          refine Exists.intro (m + 1 + 1) (ty_c38 (by omega) (m + 1) 0 0 (by omega) (fun z hz => ?_))
          have ez : z = 0 := by
            rcases hz with ⟨z1, z2⟩ | ⟨z1, z2⟩
            · rcases z2 with z2 | ⟨t, _, t2, t3⟩
              · exact absurd z2 (by decide)
              · exact absurd t3 (hno t t2)
            · exact z1
          subst ez
          refine br_t (nI_le (Nat.le_refl _) (by omega)) ?_
          repeat first
            | refine br_t (by decide) ?_
            | refine br_f (by decide) ?_
          refine br_f hne ?_
          repeat first
            | refine br_t (by decide) ?_
            | refine br_f (by decide) ?_
          exact h3 _ hp
      · rcases Nat.lt_or_ge n 96 with h96 | h96
        · refine ⟨(k1, k2, k3, k4, k5, k6, k7, k8, k9, (nI md), (nI mr), (nI mu), (nI mf), (nI ll), (nI lp), tS, tE, tN, (nI b), (nI r), (nI w), en, (nI (n+1)), 1, co, onm, (nI os), (nI (m + 1)), (nI hc), (nI oh), (nI od), cu, (nI fu), ip, ie, (-1), 0, re, li, da, rk, ra, rb, rc, nm, kd, ls, im, sr, st, we, ad, wo, tk, gv, (upd io n 45), (upd (upd ia n 0) n (ci f)), ck, ci, ce, ou, ox), ((nI md), (nI mr), (nI mu), (nI mf), (nI ll), (nI lp), sv, (nI b), (nI r), (nI w), en, (nI (n+1)), (nI hc), (nI od), cu, oy, onm, (nI (m + 1)), (nI oh), (nI fu), (-1), re, 0, li, da, yk, ya, yb, nm, kd, ls, im, sr, ad, oo, ol, ao, ap, (upd ik n 45), (upd iv n 0), (upd ow n (nI w)), ce, oz, ck, ou), tf_M_mono (p := p) (by omega) (Or.inl (tf_MR_in ⟨⟨by unfold tf_B; omega, F.1.2.1, F.1.2.2.1, F.1.2.2.2.1, F.1.2.2.2.2.1, F.1.2.2.2.2.2.1, tf_Z_leave (by omega) h96 hf1 hf2 hf3 F.1.2.2.2.2.2.2⟩, F.2⟩)), fun post hp => nm_r e0 ?_, fun post hp e va ib _ _ _ => ?_⟩
          · repeat first
              | refine br_t (by decide) ?_
              | refine br_f (by decide) ?_
            refine br_f (nI_nle (by omega) (by omega)) ?_
            rw [nI_pred, nI_clamp (show m < 2 ^ 31 by omega)]
            refine And.intro (vp_in_nI (by omega) (by omega)) ?_
            repeat first
              | refine br_t (by decide) ?_
              | refine br_f (by decide) ?_
            refine tx_td hf2 (by omega) hf1 hf3 ?_
            refine br_f (nI_pos (by omega)) ?_
            repeat first
              | refine br_t (by decide) ?_
              | refine br_f (by decide) ?_
            refine br_t (nI_lt (b := 96) h96 (by decide)) (tx_item h96 ?_)
            repeat first
              | refine br_t (by decide) ?_
              | refine br_f (by decide) ?_
            refine tx_td hf2 (by omega) hf1 hf3 ?_
            refine br_f (nI_pos (by omega)) (And.intro (vp_in_nI (by omega) (by omega)) (And.intro (vp_in_nI h96 (by omega)) (nm_r ((tf_uc (by omega)).trans (by rw [nI_clamp (show f < 2 ^ 31 by omega)])) hp)))
          · repeat first
              | refine br_t (by decide) ?_
              | refine br_f (by decide) ?_
            refine br_f (nI_nle (by omega) (by omega)) ?_
            rw [nI_pred, nI_clamp (show m < 2 ^ 31 by omega)]
            refine And.intro (vp_in_nI (by omega) (by omega)) ?_
            repeat first
              | refine br_t (by decide) ?_
              | refine br_f (by decide) ?_
            refine Exists.intro (m + 1 + 1) (ty_c38 (by omega) (m + 1) 0 0 (by omega) (fun z hz => ?_))
            have ez : z = 1 := by
              rcases hz with ⟨z1, z2⟩ | ⟨z1, z2⟩
              · exact z1
              · exact absurd hf2 (z2 f (by omega) hf1)
            subst ez
            refine br_t (nI_le (Nat.le_refl _) (by omega)) ?_
            repeat first
              | refine br_t (by decide) ?_
              | refine br_f (by decide) ?_
            refine br_f hne ?_
            repeat first
              | refine br_t (by decide) ?_
              | refine br_f (by decide) ?_
            refine br_t (nI_lt (b := 96) h96 (by decide)) (ty_item h96 ?_)
            repeat first
              | refine br_t (by decide) ?_
              | refine br_f (by decide) ?_
            exact hp
        · obtain ⟨u', v', h1, h2, h3⟩ := tl_raise (d := b) ⟨⟨tf_B_d hB (by omega), F.1.2⟩, F.2⟩ (-8)
          refine ⟨u', v', tf_M_mono (by omega) h1, fun post hp => nm_r e0 ?_, fun post hp e va ib _ _ _ => ?_⟩
          · repeat first
              | refine br_t (by decide) ?_
              | refine br_f (by decide) ?_
            refine br_f (nI_nle (by omega) (by omega)) ?_
            rw [nI_pred, nI_clamp (show m < 2 ^ 31 by omega)]
            refine And.intro (vp_in_nI (by omega) (by omega)) ?_
            repeat first
              | refine br_t (by decide) ?_
              | refine br_f (by decide) ?_
            refine tx_td hf2 (by omega) hf1 hf3 ?_
            refine br_f (nI_pos (by omega)) ?_
            repeat first
              | refine br_t (by decide) ?_
              | refine br_f (by decide) ?_
            exact br_f (nI_nlt (b := 96) h96 (by omega)) (h2 _ hp)
          · repeat first
              | refine br_t (by decide) ?_
              | refine br_f (by decide) ?_
            refine br_f (nI_nle (by omega) (by omega)) ?_
            rw [nI_pred, nI_clamp (show m < 2 ^ 31 by omega)]
            refine And.intro (vp_in_nI (by omega) (by omega)) ?_
            repeat first
              | refine br_t (by decide) ?_
              | refine br_f (by decide) ?_
            refine Exists.intro (m + 1 + 1) (ty_c38 (by omega) (m + 1) 0 0 (by omega) (fun z hz => ?_))
            have ez : z = 1 := by
              rcases hz with ⟨z1, z2⟩ | ⟨z1, z2⟩
              · exact z1
              · exact absurd hf2 (z2 f (by omega) hf1)
            subst ez
            refine br_t (nI_le (Nat.le_refl _) (by omega)) ?_
            repeat first
              | refine br_t (by decide) ?_
              | refine br_f (by decide) ?_
            refine br_f hne ?_
            repeat first
              | refine br_t (by decide) ?_
              | refine br_f (by decide) ?_
            exact br_f (nI_nlt (b := 96) h96 (by omega)) (h3 _ hp)
end
section
variable {md mr mu mf ll lp d r w n os cd hc oh od fu : Nat} {k1 k2 k3 k4 k5 k6 k7 k8 k9 tS tE en op co cu ip ie pe ab re oy sv : Int32} {tN onm : Int64} {li da rk ra rb rc kd ls im sr st we ad wo tk gv io ia ck ci ce ou ox yk ya yb oo ol ao ap ik iv ow oz : Nat → Int32} {nm : Nat → Int64} {lo : Nat}
theorem tw_46 {p : Nat} (F : (tf_F p md mr mu mf ll d r w n os cd hc oh od op co oy onm li nm kd im ad st we wo oo ol ao ap tk gv io ia ik iv ow ck ci ox oz lp fu ip ie rk ra rb rc yk ya yb lo)) : tf_OB lo (p + 2 * d + 1) 46 (k1, k2, k3, k4, k5, k6, k7, k8, k9, (nI md), (nI mr), (nI mu), (nI mf), (nI ll), (nI lp), tS, tE, tN, (nI d), (nI r), (nI w), en, (nI n), op, co, onm, (nI os), (nI cd), (nI hc), (nI oh), (nI od), cu, (nI fu), ip, ie, (-1), 0, re, li, da, rk, ra, rb, rc, nm, kd, ls, im, sr, st, we, ad, wo, tk, gv, io, ia, ck, ci, ce, ou, ox) ((nI md), (nI mr), (nI mu), (nI mf), (nI ll), (nI lp), sv, (nI d), (nI r), (nI w), en, (nI n), (nI hc), (nI od), cu, oy, onm, (nI cd), (nI oh), (nI fu), (-1), re, 0, li, da, yk, ya, yb, nm, kd, ls, im, sr, ad, oo, ol, ao, ap, ik, iv, ow, ce, oz, ck, ou) := by
  have hB := F.1.1
  have hB2 := hB
  unfold tf_B at hB2
  have hT := F.1.2.2.1 46 (by decide)
  refine tl_bi (t := 0) (g := 0) (gr := 0) F (by decide) hT.1 hT.2 (by decide) (by decide) (Or.inl ⟨rfl, by decide⟩) (fun post h => ty145_46 h) ?_
  intro b hb hg y x
  have hb' : b = d := hb.symm
  subst hb'
  have e0 : nI (b + 0) - nI 0 = nI b := by rw [pk_sub (by omega), Nat.add_sub_cancel]
  rcases tf_opc F.1 with ⟨o1, o2, o3, o4⟩ | ⟨o1, o2, o3, o4, o5⟩
  · subst o1
    subst o2
    subst o3
    obtain ⟨u', v', h1, h2, h3⟩ := tl_raise (d := b) ⟨⟨tf_B_d hB (by omega), F.1.2⟩, F.2⟩ (-14)
    refine ⟨u', v', tf_M_mono (by omega) h1, fun post hp => nm_r e0 ?_, fun post hp e va ib _ _ _ => ?_⟩
    · repeat first
        | refine br_t (by decide) ?_
        | refine br_f (by decide) ?_
      exact h2 _ hp
    · repeat first
        | refine br_t (by decide) ?_
        | refine br_f (by decide) ?_
      refine Exists.intro 1 ?_
      repeat first
        | refine br_t (by decide) ?_
        | refine br_f (by decide) ?_
      exact h3 _ hp
  · subst o1
    have hne : ¬ oy = 0 := by
      rcases o2 with ⟨_, o2⟩ | ⟨_, o2⟩ <;> subst o2 <;> decide
    rcases Nat.eq_zero_or_pos cd with hz | hz
    · subst hz
      rcases Nat.lt_or_ge n 96 with h96 | h96
      · refine ⟨(k1, k2, k3, k4, k5, k6, k7, k8, k9, (nI md), (nI mr), (nI mu), (nI mf), (nI ll), (nI lp), tS, tE, tN, (nI b), (nI r), (nI w), en, (nI (n+1)), 1, co, onm, (nI os), (nI 0), (nI hc), (nI oh), (nI od), cu, (nI fu), ip, ie, (-1), 0, re, li, da, rk, ra, rb, rc, nm, kd, ls, im, sr, st, we, ad, wo, tk, gv, (upd io n 46), (upd ia n 0), ck, ci, ce, ou, ox), ((nI md), (nI mr), (nI mu), (nI mf), (nI ll), (nI lp), sv, (nI b), (nI r), (nI w), en, (nI (n+1)), (nI hc), (nI od), cu, oy, onm, (nI 0), (nI oh), (nI fu), (-1), re, 0, li, da, yk, ya, yb, nm, kd, ls, im, sr, ad, oo, ol, ao, ap, (upd ik n 46), (upd iv n 0), (upd ow n (nI w)), ce, oz, ck, ou), tf_M_mono (p := p) (by omega) (Or.inl (tf_MR_in ⟨⟨by unfold tf_B; omega, F.1.2.1, F.1.2.2.1, F.1.2.2.2.1, F.1.2.2.2.2.1, F.1.2.2.2.2.2.1, tf_Z_neut (by omega) h96 (by decide) (tf_I1_ctl_new (c := 46) rfl (by decide)) F.1.2.2.2.2.2.2⟩, F.2⟩)), fun post hp => nm_r e0 ?_, fun post hp e va ib _ _ _ => ?_⟩
        · repeat first
            | refine br_t (by decide) ?_
            | refine br_f (by decide) ?_
          refine br_t (nI_lt (b := 96) h96 (by decide)) (tx_item h96 ?_)
          repeat first
            | refine br_t (by decide) ?_
            | refine br_f (by decide) ?_
          exact hp
        · repeat first
            | refine br_t (by decide) ?_
            | refine br_f (by decide) ?_
          refine Exists.intro 1 ?_
          repeat first
            | refine br_t (by decide) ?_
            | refine br_f (by decide) ?_
          refine br_f hne ?_
          repeat first
            | refine br_t (by decide) ?_
            | refine br_f (by decide) ?_
          refine br_t (nI_lt (b := 96) h96 (by decide)) (ty_item h96 ?_)
          repeat first
            | refine br_t (by decide) ?_
            | refine br_f (by decide) ?_
          exact hp
      · obtain ⟨u', v', h1, h2, h3⟩ := tl_raise (d := b) ⟨⟨tf_B_d hB (by omega), F.1.2⟩, F.2⟩ (-8)
        refine ⟨u', v', tf_M_mono (by omega) h1, fun post hp => nm_r e0 ?_, fun post hp e va ib _ _ _ => ?_⟩
        · repeat first
            | refine br_t (by decide) ?_
            | refine br_f (by decide) ?_
          exact br_f (nI_nlt (b := 96) h96 (by omega)) (h2 _ hp)
        · repeat first
            | refine br_t (by decide) ?_
            | refine br_f (by decide) ?_
          refine Exists.intro 1 ?_
          repeat first
            | refine br_t (by decide) ?_
            | refine br_f (by decide) ?_
          refine br_f hne ?_
          repeat first
            | refine br_t (by decide) ?_
            | refine br_f (by decide) ?_
          exact br_f (nI_nlt (b := 96) h96 (by omega)) (h3 _ hp)
    · obtain ⟨m, hm⟩ : ∃ m, cd = m + 1 := ⟨cd - 1, by omega⟩
      subst hm
      obtain ⟨c, hci, hos, hcn, hik, hck5, hfs, hwh⟩ := F.1.2.2.2.2.2.2.2.2.2.1.1 m (by omega)
      have him : vp_in (nI m) 8 := vp_in_nI (by omega) (by omega)
      have hi96 : vp_in (nI c) 96 := vp_in_nI (by omega) (by omega)
      rcases Nat.lt_or_ge n 96 with h96 | h96
      · refine ⟨(k1, k2, k3, k4, k5, k6, k7, k8, k9, (nI md), (nI mr), (nI mu), (nI mf), (nI ll), (nI lp), tS, tE, tN, (nI b), (nI r), (nI w), en, (nI (n+1)), 1, co, onm, (nI os), (nI (m + 1)), (nI hc), (nI oh), (nI od), cu, (nI fu), ip, ie, (-1), 0, re, li, da, rk, ra, rb, rc, nm, kd, ls, im, sr, st, we, ad, wo, tk, gv, (upd io n 46), (upd ia n 0), ck, ci, ce, ou, ox), ((nI md), (nI mr), (nI mu), (nI mf), (nI ll), (nI lp), sv, (nI b), (nI r), (nI w), en, (nI (n+1)), (nI hc), (nI od), cu, oy, onm, (nI (m + 1)), (nI oh), (nI fu), (-1), re, 0, li, da, yk, ya, yb, nm, kd, ls, im, sr, ad, oo, ol, ao, ap, (upd ik n 46), (upd iv n 0), (upd ow n (nI w)), ce, oz, ck, ou), tf_M_mono (p := p) (by omega) (Or.inl (tf_MR_in ⟨⟨by unfold tf_B; omega, F.1.2.1, F.1.2.2.1, F.1.2.2.2.1, F.1.2.2.2.2.1, F.1.2.2.2.2.2.1, tf_Z_neut (by omega) h96 (by decide) (tf_I1_ctl_new (c := 46) rfl (by decide)) F.1.2.2.2.2.2.2⟩, F.2⟩)), fun post hp => nm_r e0 ?_, fun post hp e va ib _ _ _ => ?_⟩
        · repeat first
            | refine br_t (by decide) ?_
            | refine br_f (by decide) ?_
          refine br_f (nI_nle (by omega) (by omega)) ?_
          rw [nI_pred, nI_clamp (show m < 2 ^ 31 by omega)]
          refine And.intro (vp_in_nI (by omega) (by omega)) ?_
          repeat first
            | refine br_t (by decide) ?_
            | refine br_f (by decide) ?_
          refine br_t (nI_lt (b := 96) h96 (by decide)) (tx_item h96 ?_)
          repeat first
            | refine br_t (by decide) ?_
            | refine br_f (by decide) ?_
          refine br_t (nI_lt (a := 0) (b := m + 1) (by omega) (by omega)) (nm_r (nI_pred m) (And.intro (vp_in_nI (by omega) (by omega)) (nm_e ?_)))
          repeat first
            | refine br_t (by decide) ?_
            | refine br_f (by decide) ?_
          exact hp
        · repeat first
            | refine br_t (by decide) ?_
            | refine br_f (by decide) ?_
          refine br_f (nI_nle (by omega) (by omega)) ?_
          rw [nI_pred, nI_clamp (show m < 2 ^ 31 by omega)]
          refine And.intro (vp_in_nI (by omega) (by omega)) ?_
          repeat first
            | refine br_t (by decide) ?_
            | refine br_f (by decide) ?_
          refine Exists.intro (m + 1 + 1) (ty_c38 (by omega) (m + 1) 0 1 (by omega) (fun z hz => ?_))
          have ez : z = 1 := by
            rcases hz with ⟨z1, _⟩ | ⟨z1, _⟩ <;> exact z1
          subst ez
          refine br_t (nI_le (Nat.le_refl _) (by omega)) ?_
          repeat first
            | refine br_t (by decide) ?_
            | refine br_f (by decide) ?_
          refine br_f hne ?_
          repeat first
            | refine br_t (by decide) ?_
            | refine br_f (by decide) ?_
          refine br_t (nI_lt (b := 96) h96 (by decide)) (ty_item h96 ?_)
          repeat first
            | refine br_t (by decide) ?_
            | refine br_f (by decide) ?_
          exact hp
      · obtain ⟨u', v', h1, h2, h3⟩ := tl_raise (d := b) ⟨⟨tf_B_d hB (by omega), F.1.2⟩, F.2⟩ (-8)
        refine ⟨u', v', tf_M_mono (by omega) h1, fun post hp => nm_r e0 ?_, fun post hp e va ib _ _ _ => ?_⟩
        · repeat first
            | refine br_t (by decide) ?_
            | refine br_f (by decide) ?_
          refine br_f (nI_nle (by omega) (by omega)) ?_
          rw [nI_pred, nI_clamp (show m < 2 ^ 31 by omega)]
          refine And.intro (vp_in_nI (by omega) (by omega)) ?_
          repeat first
            | refine br_t (by decide) ?_
            | refine br_f (by decide) ?_
          exact br_f (nI_nlt (b := 96) h96 (by omega)) (h2 _ hp)
        · repeat first
            | refine br_t (by decide) ?_
            | refine br_f (by decide) ?_
          refine br_f (nI_nle (by omega) (by omega)) ?_
          rw [nI_pred, nI_clamp (show m < 2 ^ 31 by omega)]
          refine And.intro (vp_in_nI (by omega) (by omega)) ?_
          repeat first
            | refine br_t (by decide) ?_
            | refine br_f (by decide) ?_
          refine Exists.intro (m + 1 + 1) (ty_c38 (by omega) (m + 1) 0 1 (by omega) (fun z hz => ?_))
          have ez : z = 1 := by
            rcases hz with ⟨z1, _⟩ | ⟨z1, _⟩ <;> exact z1
          subst ez
          refine br_t (nI_le (Nat.le_refl _) (by omega)) ?_
          repeat first
            | refine br_t (by decide) ?_
            | refine br_f (by decide) ?_
          refine br_f hne ?_
          repeat first
            | refine br_t (by decide) ?_
            | refine br_f (by decide) ?_
          exact br_f (nI_nlt (b := 96) h96 (by omega)) (h3 _ hp)
end
section
variable {md mr mu mf ll lp d r w n os cd hc oh od fu : Nat} {k1 k2 k3 k4 k5 k6 k7 k8 k9 tS tE en op co cu ip ie pe ab re oy sv : Int32} {tN onm : Int64} {li da rk ra rb rc kd ls im sr st we ad wo tk gv io ia ck ci ce ou ox yk ya yb oo ol ao ap ik iv ow oz : Nat → Int32} {nm : Nat → Int64} {lo : Nat}
theorem tw_50 {p : Nat} (F : (tf_F p md mr mu mf ll d r w n os cd hc oh od op co oy onm li nm kd im ad st we wo oo ol ao ap tk gv io ia ik iv ow ck ci ox oz lp fu ip ie rk ra rb rc yk ya yb lo)) : tf_OB lo (p + 2 * d + 1) 50 (k1, k2, k3, k4, k5, k6, k7, k8, k9, (nI md), (nI mr), (nI mu), (nI mf), (nI ll), (nI lp), tS, tE, tN, (nI d), (nI r), (nI w), en, (nI n), op, co, onm, (nI os), (nI cd), (nI hc), (nI oh), (nI od), cu, (nI fu), ip, ie, (-1), 0, re, li, da, rk, ra, rb, rc, nm, kd, ls, im, sr, st, we, ad, wo, tk, gv, io, ia, ck, ci, ce, ou, ox) ((nI md), (nI mr), (nI mu), (nI mf), (nI ll), (nI lp), sv, (nI d), (nI r), (nI w), en, (nI n), (nI hc), (nI od), cu, oy, onm, (nI cd), (nI oh), (nI fu), (-1), re, 0, li, da, yk, ya, yb, nm, kd, ls, im, sr, ad, oo, ol, ao, ap, ik, iv, ow, ce, oz, ck, ou) := by
  have hB := F.1.1
  have hB2 := hB
  unfold tf_B at hB2
  have hT := F.1.2.2.1 50 (by decide)
  refine tl_bi (t := 0) (g := 0) (gr := 0) F (by decide) hT.1 hT.2 (by decide) (by decide) (Or.inl ⟨rfl, by decide⟩) (fun post h => ty145_50 h) ?_
  intro b hb hg y x
  have hb' : b = d := hb.symm
  subst hb'
  have e0 : nI (b + 0) - nI 0 = nI b := by rw [pk_sub (by omega), Nat.add_sub_cancel]
  rcases tf_opc F.1 with ⟨o1, o2, o3, o4⟩ | ⟨o1, o2, o3, o4, o5⟩
  · subst o1
    subst o2
    subst o3
    obtain ⟨u', v', h1, h2, h3⟩ := tl_raise (d := b) ⟨⟨tf_B_d hB (by omega), F.1.2⟩, F.2⟩ (-14)
    refine ⟨u', v', tf_M_mono (by omega) h1, fun post hp => nm_r e0 ?_, fun post hp e va ib _ _ _ => ?_⟩
    · repeat first
        | refine br_t (by decide) ?_
        | refine br_f (by decide) ?_
      exact h2 _ hp
    · repeat first
        | refine br_t (by decide) ?_
        | refine br_f (by decide) ?_
      refine Exists.intro 1 ?_
      repeat first
        | refine br_t (by decide) ?_
        | refine br_f (by decide) ?_
      exact h3 _ hp
  · subst o1
    have hne : ¬ oy = 0 := by
      rcases o2 with ⟨_, o2⟩ | ⟨_, o2⟩ <;> subst o2 <;> decide
    rcases Nat.eq_zero_or_pos cd with hz | hz
    · subst hz
      rcases Nat.lt_or_ge n 96 with h96 | h96
      · refine ⟨(k1, k2, k3, k4, k5, k6, k7, k8, k9, (nI md), (nI mr), (nI mu), (nI mf), (nI ll), (nI lp), tS, tE, tN, (nI b), (nI r), (nI w), en, (nI (n+1)), 1, co, onm, (nI os), (nI 0), (nI hc), (nI oh), (nI od), cu, (nI fu), ip, ie, (-1), 0, re, li, da, rk, ra, rb, rc, nm, kd, ls, im, sr, st, we, ad, wo, tk, gv, (upd io n 50), (upd ia n 0), ck, ci, ce, ou, ox), ((nI md), (nI mr), (nI mu), (nI mf), (nI ll), (nI lp), sv, (nI b), (nI r), (nI w), en, (nI (n+1)), (nI hc), (nI od), cu, oy, onm, (nI 0), (nI oh), (nI fu), (-1), re, 0, li, da, yk, ya, yb, nm, kd, ls, im, sr, ad, oo, ol, ao, ap, (upd ik n 50), (upd iv n 0), (upd ow n (nI w)), ce, oz, ck, ou), tf_M_mono (p := p) (by omega) (Or.inl (tf_MR_in ⟨⟨by unfold tf_B; omega, F.1.2.1, F.1.2.2.1, F.1.2.2.2.1, F.1.2.2.2.2.1, F.1.2.2.2.2.2.1, tf_Z_neut (by omega) h96 (by decide) (tf_I1_ctl_new (c := 50) rfl (by decide)) F.1.2.2.2.2.2.2⟩, F.2⟩)), fun post hp => nm_r e0 ?_, fun post hp e va ib _ _ _ => ?_⟩
        · repeat first
            | refine br_t (by decide) ?_
            | refine br_f (by decide) ?_
          refine br_t (nI_lt (b := 96) h96 (by decide)) (tx_item h96 ?_)
          repeat first
            | refine br_t (by decide) ?_
            | refine br_f (by decide) ?_
          exact hp
        · repeat first
            | refine br_t (by decide) ?_
            | refine br_f (by decide) ?_
          refine Exists.intro 1 ?_
          repeat first
            | refine br_t (by decide) ?_
            | refine br_f (by decide) ?_
          refine br_f hne ?_
          repeat first
            | refine br_t (by decide) ?_
            | refine br_f (by decide) ?_
          refine br_t (nI_lt (b := 96) h96 (by decide)) (ty_item h96 ?_)
          repeat first
            | refine br_t (by decide) ?_
            | refine br_f (by decide) ?_
          exact hp
      · obtain ⟨u', v', h1, h2, h3⟩ := tl_raise (d := b) ⟨⟨tf_B_d hB (by omega), F.1.2⟩, F.2⟩ (-8)
        refine ⟨u', v', tf_M_mono (by omega) h1, fun post hp => nm_r e0 ?_, fun post hp e va ib _ _ _ => ?_⟩
        · repeat first
            | refine br_t (by decide) ?_
            | refine br_f (by decide) ?_
          exact br_f (nI_nlt (b := 96) h96 (by omega)) (h2 _ hp)
        · repeat first
            | refine br_t (by decide) ?_
            | refine br_f (by decide) ?_
          refine Exists.intro 1 ?_
          repeat first
            | refine br_t (by decide) ?_
            | refine br_f (by decide) ?_
          refine br_f hne ?_
          repeat first
            | refine br_t (by decide) ?_
            | refine br_f (by decide) ?_
          exact br_f (nI_nlt (b := 96) h96 (by omega)) (h3 _ hp)
    · obtain ⟨m, hm⟩ : ∃ m, cd = m + 1 := ⟨cd - 1, by omega⟩
      subst hm
      obtain ⟨c, hci, hos, hcn, hik, hck5, hfs, hwh⟩ := F.1.2.2.2.2.2.2.2.2.2.1.1 m (by omega)
      have him : vp_in (nI m) 8 := vp_in_nI (by omega) (by omega)
      have hi96 : vp_in (nI c) 96 := vp_in_nI (by omega) (by omega)
      obtain ⟨u', v', h1, h2, h3⟩ := tl_raise (d := b) ⟨⟨tf_B_d hB (by omega), F.1.2⟩, F.2⟩ (-22)
      refine ⟨u', v', tf_M_mono (by omega) h1, fun post hp => nm_r e0 ?_, fun post hp e va ib _ _ _ => ?_⟩
      · repeat first
          | refine br_t (by decide) ?_
          | refine br_f (by decide) ?_
        refine br_f (nI_nle (by omega) (by omega)) ?_
        rw [nI_pred, nI_clamp (show m < 2 ^ 31 by omega)]
        refine And.intro (vp_in_nI (by omega) (by omega)) ?_
        repeat first
          | refine br_t (by decide) ?_
          | refine br_f (by decide) ?_
        refine br_f (nI_ne0 (n := m + 1) (by omega) (by omega)) ?_
        repeat first
          | refine br_t (by decide) ?_
          | refine br_f (by decide) ?_
        exact h2 _ hp
      · repeat first
          | refine br_t (by decide) ?_
          | refine br_f (by decide) ?_
        refine br_f (nI_nle (by omega) (by omega)) ?_
        rw [nI_pred, nI_clamp (show m < 2 ^ 31 by omega)]
        refine And.intro (vp_in_nI (by omega) (by omega)) ?_
        repeat first
          | refine br_t (by decide) ?_
          | refine br_f (by decide) ?_
        refine Exists.intro (m + 1 + 1) (ty_c38 (by omega) (m + 1) 0 1 (by omega) (fun z hz => ?_))
        refine br_t (nI_le (Nat.le_refl _) (by omega)) ?_
        repeat first
          | refine br_t (by decide) ?_
          | refine br_f (by decide) ?_
        refine br_f (nI_ne0 (n := m + 1) (by omega) (by omega)) ?_
        repeat first
          | refine br_t (by decide) ?_
          | refine br_f (by decide) ?_
        refine br_f hne ?_
        repeat first
          | refine br_t (by decide) ?_
          | refine br_f (by decide) ?_
        exact h3 _ hp
end
end
section
/-! Y's walks over the items -/
theorem tf_fs_le {o : Int32} {f : Nat → Int32} {p : Nat} : ∀ {c l : Nat}, tf_fs o f p c = some l → l ≤ c
  | 0, l, h => by
    have := Option.some.inj h
    omega
  | c + 1, l, h => by
    obtain ⟨m, hm⟩ := tf_fs_pre h c (by omega)
    have h2 := tf_fs_step hm h
    have h3 := tf_fs_le hm
    unfold tf_sf at h2
    split at h2
    · split at h2
      · exact absurd h2 (by simp)
      · have := Option.some.inj h2; omega
    · split at h2
      · exact absurd h2 (by simp)
      · split at h2
        · have := Option.some.inj h2; omega
        · have := Option.some.inj h2; omega
theorem tf_cl_self {o : Int32} (h : tf_ot o) : tf_cl o o = false := by
  rcases h with h | h | h <;> subst h <;> decide
theorem tf_37_ne {o : Int32} (h : tf_ot o) : (37 : Int32) ≠ o := by
  rcases h with h | h | h <;> subst h <;> decide
section
variable {md mr mu mf ll lp d r w n os cd hc oh od fu : Nat} {k1 k2 k3 k4 k5 k6 k7 k8 k9 tS tE en op co cu ip ie pe ab re oy sv : Int32} {tN onm : Int64} {li da rk ra rb rc kd ls im sr st we ad wo tk gv io ia ck ci ce ou ox yk ya yb oo ol ao ap ik iv ow oz : Nat → Int32} {nm : Nat → Int64} {lo : Nat}
theorem ty_cl {post : Int32 → Prop} {o k : Int32} (ho : tf_ot o) (h : post (if tf_cl o k = true then 1 else 0)) : wpY_closes post ((nI md), (nI mr), (nI mu), (nI mf), (nI ll), (nI lp), sv, (nI d), (nI r), (nI w), en, (nI n), (nI hc), (nI od), cu, oy, onm, (nI cd), (nI oh), (nI fu), pe, re, ab, li, da, yk, ya, yb, nm, kd, ls, im, sr, ad, oo, ol, ao, ap, ik, iv, ow, ce, oz, ck, ou) o k := by
  rcases ho with e | e | e <;> subst e
  · refine br_t rfl ?_
    by_cases z : k = 38
    · subst z; exact br_t rfl h
    · refine br_f z ?_
      have e : tf_cl 36 k = false := by unfold tf_cl; rw [if_pos rfl]; exact decide_eq_false z
      rw [e] at h; exact h
  · refine br_f (by decide) (br_t rfl ?_)
    by_cases z : k = 40
    · subst z; exact br_t rfl h
    · by_cases z2 : k = 42
      · subst z2; exact br_f z (br_t rfl h)
      · refine br_f z (br_f z2 ?_)
        have e : tf_cl 39 k = false := by
          unfold tf_cl
          rw [if_neg (by decide), if_pos rfl]
          exact decide_eq_false (fun y => y.elim z z2)
        rw [e] at h; exact h
  · refine br_f (by decide) (br_f (by decide) ?_)
    by_cases z : k = 44
    · subst z; exact br_t rfl h
    · refine br_f z ?_
      have e : tf_cl 43 k = false := by
        unfold tf_cl
        rw [if_neg (by decide), if_neg (by decide)]
        exact decide_eq_false z
      rw [e] at h; exact h
theorem ty_after7 {post : Int32 → Prop} {o : Int32} {p q : Nat} (ho : tf_ot o) (hn : n ≤ 96) (hq : q < n) (hf : tf_fs o ik p (q - 1 - p) = some 0) (hs : tf_sf o (ik q) 0 = none) (k : post (nI (q + 1))) : ∀ m i l, i + m = q → p < i → tf_fs o ik p (i - 1 - p) = some l → wY_after_7 post o (nI md) (nI mr) (nI mu) (nI mf) (nI ll) (nI lp) sv (nI d) (nI r) (nI w) en (nI n) (nI hc) (nI od) cu oy onm (nI cd) (nI oh) (nI fu) pe re ab li da yk ya yb nm kd ls im sr ad oo ol ao ap ik iv ow ce oz ck ou (m + 1) (nI l) (nI i)
  | 0, i, l, h, hp, hl => by
    have e : i = q := by omega
    subst e
    rw [hf] at hl
    have el : l = 0 := (Option.some.inj hl).symm
    subst el
    have hi : vp_in (nI i) 96 := vp_in_nI (by omega) (by omega)
    refine br_f (nI_ge hq (by omega)) (And.intro hi (ty_cl ho ?_))
    rw [nI_clamp (show i < 2 ^ 31 by omega), nI_1]
    by_cases c1 : tf_cl o (ik i) = true
    · rw [if_pos c1]
      exact br_t rfl (br_f (by decide) k)
    · rw [if_neg c1]
      have c3 : o = 36 ∧ ik i = 37 := by
        unfold tf_sf at hs
        rw [if_neg c1] at hs
        by_cases c2 : o = 36 ∧ ik i = 37 ∧ 0 = 0
        · exact ⟨c2.1, c2.2.1⟩
        · rw [if_neg c2] at hs
          split at hs <;> exact absurd hs (by simp)
      exact br_t rfl (br_t rfl (br_t c3.1 (And.intro hi (br_t c3.2 k))))
  | m + 1, i, l, h, hp, hl => by
    have hi : vp_in (nI i) 96 := vp_in_nI (by omega) (by omega)
    obtain ⟨l2, hl2⟩ := tf_fs_pre hf (i - p) (by omega)
    have e1 : i - p = (i - 1 - p) + 1 := by omega
    have hst := tf_fs_step hl (by rw [← e1]; exact hl2)
    have e2 : p + 1 + (i - 1 - p) = i := by omega
    rw [e2] at hst
    have hle := tf_fs_le hl
    have hle2 := tf_fs_le hl2
    have ih := ty_after7 (post := post) ho hn hq hf hs k m (i + 1) l2 (by omega) (by omega) (by
      have e3 : i + 1 - 1 - p = i - p := by omega
      rw [e3]; exact hl2)
    refine br_f (nI_ge (by omega) (by omega)) (And.intro hi (ty_cl ho ?_))
    rw [nI_clamp (show i < 2 ^ 31 by omega)]
    unfold tf_sf at hst
    by_cases c1 : tf_cl o (ik i) = true
    · rw [if_pos c1] at hst ⊢
      by_cases c0 : l = 0
      · rw [if_pos c0] at hst
        exact absurd hst (by simp)
      · rw [if_neg c0] at hst
        have e4 : l = l2 + 1 := by have := Option.some.inj hst; omega
        subst e4
        have hne : ¬ ik i = o := by
          intro z
          rw [z, tf_cl_self ho] at c1
          exact absurd c1 (by decide)
        refine br_f (nI_ne0 (by omega) (by omega)) ?_
        exact And.intro hi (br_f (by rw [nI_clamp (show i < 2 ^ 31 by omega)]; exact hne) (br_f (by decide) (nm_r ((tf_am _).trans (nI_pred l2)) (nm_r (nI_1 i) ih))))
    · rw [if_neg c1] at hst ⊢
      have K62 : wY_after_62 post (wY_after_7 post o (nI md) (nI mr) (nI mu) (nI mf) (nI ll) (nI lp) sv (nI d) (nI r) (nI w) en (nI n) (nI hc) (nI od) cu oy onm (nI cd) (nI oh) (nI fu) pe re ab li da yk ya yb nm kd ls im sr ad oo ol ao ap ik iv ow ce oz ck ou (m + 1)) o (nI l) (nI i) 0 (nI md) (nI mr) (nI mu) (nI mf) (nI ll) (nI lp) sv (nI d) (nI r) (nI w) en (nI n) (nI hc) (nI od) cu oy onm (nI cd) (nI oh) (nI fu) pe re ab li da yk ya yb nm kd ls im sr ad oo ol ao ap ik iv ow ce oz ck ou := by
        by_cases c2 : o = 36 ∧ ik i = 37 ∧ l = 0
        · rw [if_pos c2] at hst
          exact absurd hst (by simp)
        · rw [if_neg c2] at hst
          by_cases c3 : ik i = o
          · rw [if_pos c3] at hst
            have e4 : l2 = l + 1 := by have := Option.some.inj hst; omega
            subst e4
            exact And.intro hi (br_t (by rw [nI_clamp (show i < 2 ^ 31 by omega)]; exact c3) (nm_r (nI_1 l) (br_t rfl (nm_r (nI_1 i) ih))))
          · rw [if_neg c3] at hst
            have e4 : l2 = l := by have := Option.some.inj hst; omega
            subst e4
            exact And.intro hi (br_f (by rw [nI_clamp (show i < 2 ^ 31 by omega)]; exact c3) (br_t rfl (nm_r (nI_1 i) ih)))
      by_cases c0 : l = 0
      · subst c0
        refine br_t rfl (br_t rfl ?_)
        by_cases c4 : o = 36
        · refine br_t c4 (And.intro hi (br_f (fun z => ?_) K62))
          rw [if_pos ⟨c4, z, rfl⟩] at hst
          exact absurd hst (by simp)
        · exact br_f c4 K62
      · exact br_f (nI_ne0 (by omega) (by omega)) K62
theorem ty_after {post : Int32 → Prop} {o : Int32} {p q : Nat} (ho : tf_ot o) (hn : n ≤ 96) (hpq : p < q) (hq : q < n) (hf : tf_fs o ik p (q - 1 - p) = some 0) (hs : tf_sf o (ik q) 0 = none) (k : post (nI (q + 1))) : wpY_after post ((nI md), (nI mr), (nI mu), (nI mf), (nI ll), (nI lp), sv, (nI d), (nI r), (nI w), en, (nI n), (nI hc), (nI od), cu, oy, onm, (nI cd), (nI oh), (nI fu), pe, re, ab, li, da, yk, ya, yb, nm, kd, ls, im, sr, ad, oo, ol, ao, ap, ik, iv, ow, ce, oz, ck, ou) (nI p) o :=
  nm_r (nI_1 p) (Exists.intro (q - (p + 1) + 1) (ty_after7 (p := p) ho hn hq hf hs k (q - (p + 1)) (p + 1) 0 (by omega) (by omega) (by
    have e : p + 1 - 1 - p = 0 := by omega
    rw [e]; rfl)))
theorem ty_back7 {post : Int32 → Prop} {o : Int32} {c p : Nat} (ho : tf_ot o) (hp : p ≤ 96) (hc' : ik c = o) (hf : tf_fs o ik c (p - 1 - c) = some 0) (k : post (nI (c + 1))) : ∀ g m l, m = c + 1 + g → m ≤ p → tf_fs o ik c (m - 1 - c) = some l → wY_back_7 post (nI p) o (nI md) (nI mr) (nI mu) (nI mf) (nI ll) (nI lp) sv (nI d) (nI r) (nI w) en (nI n) (nI hc) (nI od) cu oy onm (nI cd) (nI oh) (nI fu) pe re ab li da yk ya yb nm kd ls im sr ad oo ol ao ap ik iv ow ce oz ck ou (g + 1) (nI l) (nI m - 1)
  | 0, m, l, h, hm, hl => by
    subst h
    have e : c + 1 + 0 - 1 - c = 0 := by omega
    rw [e] at hl
    have el : l = 0 := (Option.some.inj hl).symm
    subst el
    have e2 : nI (c + 1 + 0) - 1 = nI c := nI_pred c
    rw [e2]
    refine br_f (nI_pos (by omega)) (And.intro (vp_in_nI (by omega) (by omega)) (br_t (by rw [nI_clamp (show c < 2 ^ 31 by omega)]; exact hc') (br_t rfl ?_)))
    rw [nI_1]; exact k
  | g + 1, m, l, h, hm, hl => by
    obtain ⟨i, hi0⟩ : ∃ i, m = i + 1 := ⟨m - 1, by omega⟩
    subst hi0
    rw [nI_pred]
    have hi : vp_in (nI i) 96 := vp_in_nI (by omega) (by omega)
    obtain ⟨l1, hl1⟩ := tf_fs_pre hl (i - 1 - c) (by omega)
    have e1 : i + 1 - 1 - c = (i - 1 - c) + 1 := by omega
    have hst := tf_fs_step hl1 (by rw [← e1]; exact hl)
    have e2 : c + 1 + (i - 1 - c) = i := by omega
    rw [e2] at hst
    have hle := tf_fs_le hl
    have hle1 := tf_fs_le hl1
    have ih := ty_back7 (post := post) ho hp hc' hf k g i l1 (by omega) (by omega) hl1
    refine br_f (nI_pos (by omega)) (And.intro hi ?_)
    rw [nI_clamp (show i < 2 ^ 31 by omega)]
    unfold tf_sf at hst
    by_cases c1 : tf_cl o (ik i) = true
    · have hne : ¬ ik i = o := by
        intro z
        rw [z, tf_cl_self ho] at c1
        exact absurd c1 (by decide)
      rw [if_pos c1] at hst
      by_cases c0 : l1 = 0
      · rw [if_pos c0] at hst
        exact absurd hst (by simp)
      · rw [if_neg c0] at hst
        have e4 : l1 = l + 1 := by have := Option.some.inj hst; omega
        subst e4
        refine br_f hne (And.intro hi (br_f (by rw [nI_clamp (show i < 2 ^ 31 by omega)]; exact hne) (And.intro hi (ty_cl ho ?_))))
        rw [nI_clamp (show i < 2 ^ 31 by omega), if_pos c1]
        exact br_f (by decide) (nm_r (nI_1 l) (nm_r (tf_am _) ih))
    · rw [if_neg c1] at hst
      by_cases c2 : o = 36 ∧ ik i = 37 ∧ l1 = 0
      · rw [if_pos c2] at hst
        exact absurd hst (by simp)
      · rw [if_neg c2] at hst
        by_cases c3 : ik i = o
        · rw [if_pos c3] at hst
          have e4 : l = l1 + 1 := by have := Option.some.inj hst; omega
          subst e4
          refine br_t c3 (br_f (nI_ne0 (by omega) (by omega)) (And.intro hi (br_t (by rw [nI_clamp (show i < 2 ^ 31 by omega)]; exact c3) (nm_r ((tf_am _).trans (nI_pred l1)) (And.intro hi (ty_cl ho ?_))))))
          rw [nI_clamp (show i < 2 ^ 31 by omega), if_neg c1]
          exact br_t rfl (nm_r (tf_am _) ih)
        · rw [if_neg c3] at hst
          have e4 : l = l1 := by have := Option.some.inj hst; omega
          subst e4
          refine br_f c3 (And.intro hi (br_f (by rw [nI_clamp (show i < 2 ^ 31 by omega)]; exact c3) (And.intro hi (ty_cl ho ?_))))
          rw [nI_clamp (show i < 2 ^ 31 by omega), if_neg c1]
          exact br_t rfl (nm_r (tf_am _) ih)
theorem ty_back {post : Int32 → Prop} {o : Int32} {c p : Nat} (ho : tf_ot o) (hp : p ≤ 96) (hcp : c < p) (hc' : ik c = o) (hf : tf_fs o ik c (p - 1 - c) = some 0) (k : post (nI (c + 1))) : wpY_back post ((nI md), (nI mr), (nI mu), (nI mf), (nI ll), (nI lp), sv, (nI d), (nI r), (nI w), en, (nI n), (nI hc), (nI od), cu, oy, onm, (nI cd), (nI oh), (nI fu), pe, re, ab, li, da, yk, ya, yb, nm, kd, ls, im, sr, ad, oo, ol, ao, ap, ik, iv, ow, ce, oz, ck, ou) (nI p) o :=
  nm_e (Exists.intro (p - (c + 1) + 1) (ty_back7 ho hp hc' hf k (p - (c + 1)) p 0 (by omega) (Nat.le_refl _) hf))
end
end
section
/-! running one item: what is known before it -/
abbrev tf_H (p f i e o q : Nat) (md : Nat) (mr : Nat) (mu : Nat) (mf : Nat) (ll : Nat) (d : Nat) (r : Nat) (w : Nat) (n : Nat) (os : Nat) (cd : Nat) (hc : Nat) (oh : Nat) (od : Nat) (op : Int32) (co : Int32) (oy : Int32) (onm : Int64) (li : Nat → Int32) (nm : Nat → Int64) (kd : Nat → Int32) (im : Nat → Int32) (ad : Nat → Int32) (st : Nat → Int32) (we : Nat → Int32) (wo : Nat → Int32) (oo : Nat → Int32) (ol : Nat → Int32) (ao : Nat → Int32) (ap : Nat → Int32) (tk : Nat → Int32) (gv : Nat → Int32) (io : Nat → Int32) (ia : Nat → Int32) (ik : Nat → Int32) (iv : Nat → Int32) (ow : Nat → Int32) (ck : Nat → Int32) (ci : Nat → Int32) (ox : Nat → Int32) (oz : Nat → Int32) (lp : Nat) (fu : Nat) (rk : Nat → Int32) (ra : Nat → Int32) (rb : Nat → Int32) (rc : Nat → Int32) (yk : Nat → Int32) (ya : Nat → Int32) (yb : Nat → Int32) (lo : Nat) : Prop :=
  (tf_C md mr mu mf ll d r w n os cd hc oh od op co oy onm li nm kd im ad st we wo oo ol ao ap tk gv io ia ik iv ow ck ci ox oz) ∧ (lp ≤ ll ∧ fu ≤ 100) ∧ f < r ∧ (∀ t, f < t → t < r → tf_NE rk ra rb yk ya yb t) ∧ rk f = 3 ∧ yk f = 3 ∧ ya f = nI o ∧ tf_FR w kd st we i e o i ∧ i < e ∧ tf_RS md (tf_FR w kd st we) rk ra rb rc yk ya yb f (ra f) (rb f) q ∧ (q + 67 * (e - i) + 6433 * fu + 67 * (ll - lp) ≤ p ∧ lo ≤ lp)
def tf_OI (lo p f i : Nat) (u : SX) (v : SY) : Prop := ∃ u' v', tf_M lo p u' v' ∧ (∀ post : SX → Prop, post u' → wpX_runItem post u) ∧ (∀ post : SY → Prop, post v' → wpY_runItem post v (nI f) (nI i))
theorem tf_NE_u {rk ra rb yk ya yb : Nat → Int32} {f t : Nat} {x : Int32} (h : t ≠ f) (H : tf_NE rk ra rb yk ya yb t) : tf_NE rk ra rb yk ya (upd yb f x) t := by
  unfold tf_NE
  rw [pk_un h]
  exact H
section
variable {md mr mu mf ll lp d r w n os cd hc oh od fu : Nat} {k1 k2 k3 k4 k5 k6 k7 k8 k9 tS tE en op co cu ip ie pe ab re oy sv : Int32} {tN onm : Int64} {li da rk ra rb rc kd ls im sr st we ad wo tk gv io ia ck ci ce ou ox yk ya yb oo ol ao ap ik iv ow oz : Nat → Int32} {nm : Nat → Int64} {lo : Nat}
variable {p f i e o q : Nat}
theorem tf_H_in (H : (tf_H p f i e o q md mr mu mf ll d r w n os cd hc oh od op co oy onm li nm kd im ad st we wo oo ol ao ap tk gv io ia ik iv ow ck ci ox oz lp fu rk ra rb rc yk ya yb lo)) : i < n ∧ n ≤ 96 ∧ e ≤ n ∧ tf_oN ow i = o ∧ ow i = nI o ∧ o < w ∧ w ≤ 75 := by
  obtain ⟨C, _, _, _, _, _, _, hFR, hie, _⟩ := H
  have hB := C.1
  unfold tf_B at hB
  obtain ⟨g1, g2, g3, g4, ⟨s, g5, g6⟩, g7, g8, g9, g10⟩ := hFR
  obtain ⟨s', e', a1, a2, a3, a4, a5⟩ := (C.2.2.2.2.2.2.1 o g1 g2).1 g3
  have es : s' = s := tf_inj (by omega) (by omega) (a1.symm.trans g5)
  have ee : e' = e := tf_inj (by omega) (by omega) (a2.symm.trans g4)
  subst es
  subst ee
  have b := a5 i (by omega)
  have c1 : ¬ tf_oN ow i < o := fun z => by have := b.1.mpr z; omega
  have c2 := b.2.mp hie
  have c3 : tf_oN ow i = o := by omega
  obtain ⟨⟨d1, _, _⟩, _⟩ := C.2.2.2.2.2.2.2.1 i (by omega)
  exact ⟨by omega, by omega, a4, c3, by rw [d1, c3], g2, by omega⟩
/-- a place behind an item of the same body -/
theorem tf_H_FR {t : Nat} (H : (tf_H p f i e o q md mr mu mf ll d r w n os cd hc oh od op co oy onm li nm kd im ad st we wo oo ol ao ap tk gv io ia ik iv ow ck ci ox oz lp fu rk ra rb rc yk ya yb lo)) (ht : t < n) (ho : ow t = ow i) : tf_FR w kd st we (t + 1) e o (t + 1) := by
  obtain ⟨h1, h2, h3, h4, h5, h6, h7⟩ := tf_H_in H
  obtain ⟨C, _, _, _, _, _, _, hFR, hie, _⟩ := H
  obtain ⟨g1, g2, g3, g4, ⟨s, g5, g6⟩, g7, g8, g9, g10⟩ := hFR
  obtain ⟨s', e', a1, a2, a3, a4, a5⟩ := (C.2.2.2.2.2.2.1 o g1 g2).1 g3
  have es : s' = s := tf_inj (by omega) (by omega) (a1.symm.trans g5)
  have ee : e' = e := tf_inj (by omega) (by omega) (a2.symm.trans g4)
  subst es
  subst ee
  have eo : tf_oN ow t = o := by
    rw [← h4]; unfold tf_oN; rw [ho]
  have b := a5 t ht
  rw [eo] at b
  have b2 := b.2.mpr (Nat.le_refl _)
  have b1 : ¬ t < s' := fun z => by have := b.1.mp z; omega
  exact ⟨g1, g2, g3, g4, ⟨s', g5, by omega⟩, by omega, Or.inl rfl, g9, by omega⟩
theorem tf_H_F {t p' : Nat} (H : (tf_H p f i e o q md mr mu mf ll d r w n os cd hc oh od op co oy onm li nm kd im ad st we wo oo ol ao ap tk gv io ia ik iv ow ck ci ox oz lp fu rk ra rb rc yk ya yb lo)) (hF : tf_FR w kd st we t e o t) (hp : q + 67 * (e - t) + 1 + 6433 * fu + 67 * (ll - lp) ≤ p') : (tf_F p' md mr mu mf ll d r w n os cd hc oh od op co oy onm li nm kd im ad st we wo oo ol ao ap tk gv io ia ik iv ow ck ci ox oz lp fu (nI t) (nI e) rk ra rb rc yk ya (upd yb f (nI t)) lo) := by
  obtain ⟨C, h1, hf, hN, k3, y3, hya, _, _, hRS, hlast⟩ := H
  refine ⟨C, h1.1, h1.2, q + 67 * (e - t) + 1, tf_RS_mk (f := f) ⟨k3, y3, t, e, o, t, q, rfl, rfl, hya, pk_us, hF, ?_, Nat.le_refl _⟩ hf (fun t' a b => tf_NE_u (by omega) (hN t' a b)), by omega⟩
  exact tf_RS_map (Nat.le_refl _) (fun _ _ _ _ h => h) (fun t' ht => ⟨rfl, rfl, rfl, rfl, rfl, rfl, pk_un (by omega)⟩) hRS
/-- the state behind the item -/
theorem tf_H_1 (H : (tf_H p f i e o q md mr mu mf ll d r w n os cd hc oh od op co oy onm li nm kd im ad st we wo oo ol ao ap tk gv io ia ik iv ow ck ci ox oz lp fu rk ra rb rc yk ya yb lo)) : (tf_F (p - 66) md mr mu mf ll d r w n os cd hc oh od op co oy onm li nm kd im ad st we wo oo ol ao ap tk gv io ia ik iv ow ck ci ox oz lp fu (nI (i + 1)) (nI e) rk ra rb rc yk ya (upd yb f (nI (i + 1))) lo) ∧ 67 ≤ p := by
  have h := tf_H_in H
  have hF := tf_H_FR H (t := i) h.1 rfl
  have hie := H.2.2.2.2.2.2.2.2.1
  have hp := H.2.2.2.2.2.2.2.2.2.2
  exact ⟨tf_H_F H hF (by omega), by omega⟩
theorem tf_I1_c {i : Nat} {io ia ik iv ow : Nat → Int32} (h : tf_I1 i io ia ik iv ow) {x : Int32} (hk : ik i = x) (h1 : x ≠ 1 ∧ x ≠ 2 ∧ x ≠ 3) : io i = x := by
  rcases h with z | z | z | z
  · exact absurd (hk.symm.trans z.1) h1.1
  · exact absurd (hk.symm.trans z.1) h1.2.2
  · exact absurd (hk.symm.trans z.1) h1.2.1
  · exact z.1.trans hk
/-- a running item has its target -/
theorem tf_H_TG (H : (tf_H p f i e o q md mr mu mf ll d r w n os cd hc oh od op co oy onm li nm kd im ad st we wo oo ol ao ap tk gv io ia ik iv ow ck ci ox oz lp fu rk ra rb rc yk ya yb lo)) : tf_TG n ow ia ik i := by
  obtain ⟨h1, h2, h3, h4, h5, h6, h7⟩ := tf_H_in H
  rcases H.1.2.2.2.2.2.2.2.2.2.2 i h1 with z | z
  · exact z
  · exfalso
    rcases tf_opc H.1 with ⟨_, _, c, _⟩ | ⟨_, _, c, _, c2⟩
    · rcases z with ⟨_, j, a2, _⟩ | ⟨_, j, c', a2, _⟩ <;> omega
    · have hio := (c2 i h1).mpr (by omega)
      exact tf_noPD h2 c H.1.2.2.2.2.2.2.2.2.2.1 i hio z
end
theorem tf_upd3 {g : Nat → Int32} {f m : Nat} {a b v : Int32} (h : m ≠ f) : upd (upd (upd g f a) m v) f b = upd (upd g m v) f b := by
  funext j
  by_cases e : j = f
  · rw [e, pk_us, pk_us]
  · rw [pk_un e, pk_un e]
    by_cases e2 : j = m
    · rw [e2, pk_us, pk_us]
    · rw [pk_un e2, pk_un e2, pk_un e]
theorem tf_updc {g : Nat → Int32} {f m : Nat} {a v : Int32} (h : m ≠ f) : upd (upd g m v) f a = upd (upd g f a) m v := by
  funext j
  by_cases e : j = f
  · rw [e, pk_us, pk_un (fun z => h z.symm), pk_us]
  · rw [pk_un e]
    by_cases e2 : j = m
    · rw [e2, pk_us, pk_us]
    · rw [pk_un e2, pk_un e2, pk_un e]
theorem tf_FR_does {w m : Nat} {kd st we : Nat → Int32} {a b : Int32} (hm : kd m ≠ 1) {i e o j : Nat} (h : tf_FR w kd st we i e o j) : tf_FR w (upd kd m 3) (upd st m a) (upd we m b) i e o j := by
  obtain ⟨h1, h2, h3, h4, ⟨s, h5, h5'⟩, h6⟩ := h
  have hn : o ≠ m := fun z => hm (by rw [← z]; exact h3)
  exact ⟨h1, h2, by rw [pk_un hn]; exact h3, by rw [pk_un hn]; exact h4, ⟨s, by rw [pk_un hn]; exact h5, h5'⟩, h6⟩
theorem tf_S_does {w n m i e o : Nat} {kd st we ao ap ow : Nat → Int32} (hm : kd m ≠ 1) (hFR : tf_FR m kd st we i e o i) (h : tf_S w n kd st we ao ap ow) : tf_S w n (upd kd m 3) (upd st m (nI i)) (upd we m (nI e)) (upd ao m (nI o)) (upd ap m (nI i)) ow := by
  intro k hk1 hk2
  by_cases hk : k = m
  · subst hk
    rw [pk_us]
    refine ⟨fun z => absurd z (by decide), fun z => absurd z (by decide), fun _ => ⟨i, e, o, i, pk_us, pk_us, pk_us, pk_us, tf_FR_does hm hFR⟩⟩
  · obtain ⟨q1, q4, q3⟩ := h k hk1 hk2
    rw [pk_un hk]
    refine ⟨fun z => ?_, fun z => ?_, fun z => ?_⟩
    · obtain ⟨s, e', r1, r2, r3⟩ := q1 z
      exact ⟨s, e', by rw [pk_un hk]; exact r1, by rw [pk_un hk]; exact r2, r3⟩
    · obtain ⟨s, r1, r2⟩ := q4 z
      exact ⟨s, by rw [pk_un hk]; exact r1, r2⟩
    · obtain ⟨i', e', o', j', r1, r2, r3, r4, r5⟩ := q3 z
      exact ⟨i', e', o', j', by rw [pk_un hk]; exact r1, by rw [pk_un hk]; exact r2, by rw [pk_un hk]; exact r3, by rw [pk_un hk]; exact r4, tf_FR_does hm r5⟩
section
variable {md mr mu mf ll lp d r w n os cd hc oh od fu : Nat} {k1 k2 k3 k4 k5 k6 k7 k8 k9 tS tE en op co cu ip ie pe ab re oy sv : Int32} {tN onm : Int64} {li da rk ra rb rc kd ls im sr st we ad wo tk gv io ia ck ci ce ou ox yk ya yb oo ol ao ap ik iv ow oz : Nat → Int32} {nm : Nat → Int64} {lo : Nat}
variable {p f i e o q m : Nat}
theorem tx_gb1 {post : SX → Prop} {t : Int32} (h : fu < 2 ^ 31 - 1) (k : post (k1, k2, k3, k4, k5, k6, k7, k8, k9, (nI md), (nI mr), (nI mu), (nI mf), (nI ll), (nI lp), tS, tE, tN, (nI d), (nI r), (nI w), en, (nI n), op, co, onm, (nI os), (nI cd), (nI hc), (nI oh), (nI od), cu, (nI fu), t, ie, pe, ab, re, li, da, rk, ra, rb, rc, nm, kd, ls, im, sr, st, we, ad, wo, tk, gv, io, ia, ck, ci, ce, ou, ox)) : wpX_goBack post (k1, k2, k3, k4, k5, k6, k7, k8, k9, (nI md), (nI mr), (nI mu), (nI mf), (nI ll), (nI lp), tS, tE, tN, (nI d), (nI r), (nI w), en, (nI n), op, co, onm, (nI os), (nI cd), (nI hc), (nI oh), (nI od), cu, (nI (fu+1)), ip, ie, pe, ab, re, li, da, rk, ra, rb, rc, nm, kd, ls, im, sr, st, we, ad, wo, tk, gv, io, ia, ck, ci, ce, ou, ox) t := by
  unfold wpX_goBack
  refine tx_fuel h ?_
  exact br_f (by decide) k
theorem tx_gb0 {post : SX → Prop} {u' : SX} {t : Int32} (h2 : ∀ post : Int32 → SX → Prop, post 0 u' → wpX_spendFuel post (k1, k2, k3, k4, k5, k6, k7, k8, k9, (nI md), (nI mr), (nI mu), (nI mf), (nI ll), (nI lp), tS, tE, tN, (nI d), (nI r), (nI w), en, (nI n), op, co, onm, (nI os), (nI cd), (nI hc), (nI oh), (nI od), cu, (nI fu), ip, ie, pe, ab, re, li, da, rk, ra, rb, rc, nm, kd, ls, im, sr, st, we, ad, wo, tk, gv, io, ia, ck, ci, ce, ou, ox)) (hp : post u') : wpX_goBack post (k1, k2, k3, k4, k5, k6, k7, k8, k9, (nI md), (nI mr), (nI mu), (nI mf), (nI ll), (nI lp), tS, tE, tN, (nI d), (nI r), (nI w), en, (nI n), op, co, onm, (nI os), (nI cd), (nI hc), (nI oh), (nI od), cu, (nI fu), ip, ie, pe, ab, re, li, da, rk, ra, rb, rc, nm, kd, ls, im, sr, st, we, ad, wo, tk, gv, io, ia, ck, ci, ce, ou, ox) t := by
  unfold wpX_goBack
  refine h2 _ ?_
  exact br_t rfl hp
theorem tl_nofuel' (F : (tf_F p md mr mu mf ll d r w n os cd hc oh od op co oy onm li nm kd im ad st we wo oo ol ao ap tk gv io ia ik iv ow ck ci ox oz lp fu ip ie rk ra rb rc yk ya yb lo)) (h : fu = 0) : ∃ u' v', tf_MD u' v' ∧ (∀ post : Int32 → SX → Prop, post 0 u' → wpX_spendFuel post (k1, k2, k3, k4, k5, k6, k7, k8, k9, (nI md), (nI mr), (nI mu), (nI mf), (nI ll), (nI lp), tS, tE, tN, (nI d), (nI r), (nI w), en, (nI n), op, co, onm, (nI os), (nI cd), (nI hc), (nI oh), (nI od), cu, (nI fu), ip, ie, (-1), 0, re, li, da, rk, ra, rb, rc, nm, kd, ls, im, sr, st, we, ad, wo, tk, gv, io, ia, ck, ci, ce, ou, ox)) ∧ (∀ post : Int32 → SY → Prop, post 0 v' → wpY_spend post ((nI md), (nI mr), (nI mu), (nI mf), (nI ll), (nI lp), sv, (nI d), (nI r), (nI w), en, (nI n), (nI hc), (nI od), cu, oy, onm, (nI cd), (nI oh), (nI fu), (-1), re, 0, li, da, yk, ya, yb, nm, kd, ls, im, sr, ad, oo, ol, ao, ap, ik, iv, ow, ce, oz, ck, ou)) := by
  subst h
  exact tl_nofuel F
/-- the entry on top, above the running frame, is dropped -/
theorem tf_H_r (H : (tf_H p f i e o q md mr mu mf ll d (m + 1) w n os cd hc oh od op co oy onm li nm kd im ad st we wo oo ol ao ap tk gv io ia ik iv ow ck ci ox oz lp fu rk ra rb rc yk ya yb lo)) (hf : f < m) : (tf_H p f i e o q md mr mu mf ll d m w n os cd hc oh od op co oy onm li nm kd im ad st we wo oo ol ao ap tk gv io ia ik iv ow ck ci ox oz lp fu rk ra rb rc yk ya yb lo) := by
  obtain ⟨C, h1, h2, h3, h4⟩ := H
  have hB := C.1
  unfold tf_B at hB
  exact ⟨⟨by unfold tf_B; omega, C.2⟩, h1, hf, fun t a b => h3 t a (by omega), h4⟩
/-- the loop entry on top is counted up -/
theorem tf_H_l {v : Int32} (H : (tf_H p f i e o q md mr mu mf ll d (m + 1) w n os cd hc oh od op co oy onm li nm kd im ad st we wo oo ol ao ap tk gv io ia ik iv ow ck ci ox oz lp fu rk ra rb rc yk ya yb lo)) (hf : f < m) (hk : rk m = 2 ∧ yk m = 5 ∧ ra m = ya m) : (tf_H p f i e o q md mr mu mf ll d (m + 1) w n os cd hc oh od op co oy onm li nm kd im ad st we wo oo ol ao ap tk gv io ia ik iv ow ck ci ox oz lp fu rk ra (upd rb m v) rc yk ya (upd yb m v) lo) := by
  obtain ⟨C, h1, h2, h3, h4, h5, h6, h7, h8, h9, h10⟩ := H
  refine ⟨C, h1, h2, fun t a b => ?_, h4, h5, h6, h7, h8, ?_, h10⟩
  · by_cases e : t = m
    · subst e
      exact Or.inr ⟨hk.1, hk.2.1, hk.2.2, by rw [pk_us, pk_us]⟩
    · have K := h3 t a b
      unfold tf_NE at K ⊢
      rw [pk_un e, pk_un e]
      exact K
  · rw [pk_un (show f ≠ m by omega)]
    exact tf_RS_map (Nat.le_refl _) (fun _ _ _ _ h => h) (fun t ht => ⟨rfl, rfl, pk_un (by omega), rfl, rfl, rfl, pk_un (by omega)⟩) h9
/-- what stands on top -/
theorem tf_H_top (H : (tf_H p f i e o q md mr mu mf ll d (m + 1) w n os cd hc oh od op co oy onm li nm kd im ad st we wo oo ol ao ap tk gv io ia ik iv ow ck ci ox oz lp fu rk ra rb rc yk ya yb lo)) : (f < m ∧ rk m = 2 ∧ yk m = 5 ∧ ra m = ya m ∧ rb m = yb m) ∨ (rk m ≠ 2 ∧ yk m ≠ 5) := by
  obtain ⟨C, h1, h2, h3, h4, h5, h6⟩ := H
  rcases Nat.lt_or_ge f m with g | g
  · rcases h3 m g (by omega) with ⟨a, b, c⟩ | ⟨a, b, c, d'⟩
    · exact Or.inr (by rw [a, b]; decide)
    · exact Or.inl ⟨g, a, b, c, d'⟩
  · have e : f = m := by omega
    subst e
    exact Or.inr (by rw [h4, h5]; decide)
end
end
section
section
variable {md mr mu mf ll lp d r w n os cd hc oh od fu : Nat} {k1 k2 k3 k4 k5 k6 k7 k8 k9 tS tE en op co cu ip ie pe ab re oy sv : Int32} {tN onm : Int64} {li da rk ra rb rc kd ls im sr st we ad wo tk gv io ia ck ci ce ou ox yk ya yb oo ol ao ap ik iv ow oz : Nat → Int32} {nm : Nat → Int64} {lo : Nat}
variable {p f i e o q : Nat}
theorem ti_lit (H : (tf_H p f i e o q md mr mu mf ll d r w n os cd hc oh od op co oy onm li nm kd im ad st we wo oo ol ao ap tk gv io ia ik iv ow ck ci ox oz lp fu rk ra rb rc yk ya yb lo)) (hk : ik i = 1) : tf_OI lo p f i (k1, k2, k3, k4, k5, k6, k7, k8, k9, (nI md), (nI mr), (nI mu), (nI mf), (nI ll), (nI lp), tS, tE, tN, (nI d), (nI r), (nI w), en, (nI n), op, co, onm, (nI os), (nI cd), (nI hc), (nI oh), (nI od), cu, (nI fu), (nI i), (nI e), (-1), 0, re, li, da, rk, ra, rb, rc, nm, kd, ls, im, sr, st, we, ad, wo, tk, gv, io, ia, ck, ci, ce, ou, ox) ((nI md), (nI mr), (nI mu), (nI mf), (nI ll), (nI lp), sv, (nI d), (nI r), (nI w), en, (nI n), (nI hc), (nI od), cu, oy, onm, (nI cd), (nI oh), (nI fu), (-1), re, 0, li, da, yk, ya, (upd yb f (nI (i + 1))), nm, kd, ls, im, sr, ad, oo, ol, ao, ap, ik, iv, ow, ce, oz, ck, ou) := by
  have hh := tf_H_in H
  obtain ⟨hF1, h67⟩ := tf_H_1 H
  have hB := H.1.1
  have hB2 := hB
  unfold tf_B at hB2
  have hi : vp_in (nI i) 96 := vp_in_nI (by omega) (by omega)
  have hfi : vp_in (nI f) 32 := vp_in_nI (by have := H.2.2.1; omega) (by omega)
  have hI1 := (H.1.2.2.2.2.2.2.2.1 i hh.1).2
  obtain ⟨hio, hia⟩ : io i = 0 ∧ ia i = iv i := by
    rcases hI1 with z | z | z | z
    · exact ⟨z.2.1, z.2.2⟩
    · exact absurd (hk.symm.trans z.1) (by decide)
    · exact absurd (hk.symm.trans z.1) (by decide)
    · obtain ⟨c, c1, c2⟩ := z.2
      have := (nI_eq (a := 1) (b := c) (by omega) (by omega)).mp (hk.symm.trans c1)
      omega
  rcases Nat.lt_or_ge d md with hd | hd
  · refine ⟨(k1, k2, k3, k4, k5, k6, k7, k8, k9, (nI md), (nI mr), (nI mu), (nI mf), (nI ll), (nI lp), tS, tE, tN, (nI (d + 1)), (nI r), (nI w), en, (nI n), op, co, onm, (nI os), (nI cd), (nI hc), (nI oh), (nI od), cu, (nI fu), (nI (i + 1)), (nI e), (-1), 0, re, li, (upd da d (iv i)), rk, ra, rb, rc, nm, kd, ls, im, sr, st, we, ad, wo, tk, gv, io, ia, ck, ci, ce, ou, ox), ((nI md), (nI mr), (nI mu), (nI mf), (nI ll), (nI lp), sv, (nI (d + 1)), (nI r), (nI w), en, (nI n), (nI hc), (nI od), cu, oy, onm, (nI cd), (nI oh), (nI fu), (-1), re, 0, li, (upd da d (iv i)), yk, ya, (upd yb f (nI (i + 1))), nm, kd, ls, im, sr, ad, oo, ol, ao, ap, ik, iv, ow, ce, oz, ck, ou), tf_M_mono (p := p - 66) (by omega) (Or.inl (tf_MR_in (d := d + 1) ⟨⟨tf_B_d hB (by omega), hF1.1.2⟩, hF1.2⟩)), fun post hp => ?_, fun post hp => ?_⟩
    · refine And.intro hi (nm_r ((tf_rc (by omega)).trans hio) (And.intro hi (nm_r ((tf_rc (by omega)).trans hia) (nm_r (nI_1 i) ?_))))
      repeat first
        | refine br_t (by decide) ?_
        | refine br_f (by decide) ?_
      exact br_t (nI_lt hd (by omega)) (tx_push hd (by omega) hp)
    · refine And.intro hi (nm_r ((tf_rc (by omega)).trans hk) ?_)
      repeat first
        | refine br_t (by decide) ?_
        | refine br_f (by decide) ?_
      refine br_t (nI_pos' (by omega)) ?_
      repeat first
        | refine br_t (by decide) ?_
        | refine br_f (by decide) ?_
      refine nm_r (e' := nI d) (pk_sub (a := d) (b := 0) (Nat.zero_le _)) ?_
      repeat first
        | refine br_t (by decide) ?_
        | refine br_f (by decide) ?_
      refine br_t (nI_lt hd (by omega)) ?_
      repeat first
        | refine br_t (by decide) ?_
        | refine br_f (by decide) ?_
      refine And.intro hi ?_
      rw [nI_clamp (show i < 2 ^ 31 by omega)]
      exact ty_push (by omega) hp
  · obtain ⟨u', v', h1, h2, h3⟩ := tl_raise hF1 (-3)
    refine ⟨u', v', tf_M_mono (by omega) h1, fun post hp => ?_, fun post hp => ?_⟩
    · refine And.intro hi (nm_r ((tf_rc (by omega)).trans hio) (And.intro hi (nm_r ((tf_rc (by omega)).trans hia) (nm_r (nI_1 i) ?_))))
      repeat first
        | refine br_t (by decide) ?_
        | refine br_f (by decide) ?_
      refine br_f (nI_nlt hd (by omega)) ?_
      exact h2 _ hp
    · refine And.intro hi (nm_r ((tf_rc (by omega)).trans hk) ?_)
      repeat first
        | refine br_t (by decide) ?_
        | refine br_f (by decide) ?_
      refine br_t (nI_pos' (by omega)) ?_
      repeat first
        | refine br_t (by decide) ?_
        | refine br_f (by decide) ?_
      refine nm_r (e' := nI d) (pk_sub (a := d) (b := 0) (Nat.zero_le _)) ?_
      repeat first
        | refine br_t (by decide) ?_
        | refine br_f (by decide) ?_
      refine br_f (nI_nlt hd (by omega)) ?_
      exact h3 _ hp

theorem ti_call (H : (tf_H p f i e o q md mr mu mf ll d r w n os cd hc oh od op co oy onm li nm kd im ad st we wo oo ol ao ap tk gv io ia ik iv ow ck ci ox oz lp fu rk ra rb rc yk ya yb lo)) (hk : ik i = 3) : tf_OI lo p f i (k1, k2, k3, k4, k5, k6, k7, k8, k9, (nI md), (nI mr), (nI mu), (nI mf), (nI ll), (nI lp), tS, tE, tN, (nI d), (nI r), (nI w), en, (nI n), op, co, onm, (nI os), (nI cd), (nI hc), (nI oh), (nI od), cu, (nI fu), (nI i), (nI e), (-1), 0, re, li, da, rk, ra, rb, rc, nm, kd, ls, im, sr, st, we, ad, wo, tk, gv, io, ia, ck, ci, ce, ou, ox) ((nI md), (nI mr), (nI mu), (nI mf), (nI ll), (nI lp), sv, (nI d), (nI r), (nI w), en, (nI n), (nI hc), (nI od), cu, oy, onm, (nI cd), (nI oh), (nI fu), (-1), re, 0, li, da, yk, ya, (upd yb f (nI (i + 1))), nm, kd, ls, im, sr, ad, oo, ol, ao, ap, ik, iv, ow, ce, oz, ck, ou) := by
  have hh := tf_H_in H
  obtain ⟨hF1, h67⟩ := tf_H_1 H
  have hB := H.1.1
  have hB2 := hB
  unfold tf_B at hB2
  have hi : vp_in (nI i) 96 := vp_in_nI (by omega) (by omega)
  have hfi : vp_in (nI f) 32 := vp_in_nI (by have := H.2.2.1; omega) (by omega)
  have hI1 := (H.1.2.2.2.2.2.2.2.1 i hh.1).2
  obtain ⟨hio, hia, c, hcl, hiv⟩ : io i = 1 ∧ ia i = iv i ∧ ∃ c : Nat, c ≤ tf_oN ow i ∧ iv i = nI c := by
    rcases hI1 with z | z | z | z
    · exact absurd (hk.symm.trans z.1) (by decide)
    · exact ⟨z.2.1, z.2.2.1, z.2.2.2⟩
    · exact absurd (hk.symm.trans z.1) (by decide)
    · obtain ⟨c, c1, c2⟩ := z.2
      have := (nI_eq (a := 3) (b := c) (by omega) (by omega)).mp (hk.symm.trans c1)
      omega
  refine ⟨(k1, k2, k3, k4, k5, k6, k7, k8, k9, (nI md), (nI mr), (nI mu), (nI mf), (nI ll), (nI lp), tS, tE, tN, (nI d), (nI r), (nI w), en, (nI n), op, co, onm, (nI os), (nI cd), (nI hc), (nI oh), (nI od), cu, (nI fu), (nI (i + 1)), (nI e), (nI c), 0, re, li, da, rk, ra, rb, rc, nm, kd, ls, im, sr, st, we, ad, wo, tk, gv, io, ia, ck, ci, ce, ou, ox), ((nI md), (nI mr), (nI mu), (nI mf), (nI ll), (nI lp), sv, (nI d), (nI r), (nI w), en, (nI n), (nI hc), (nI od), cu, oy, onm, (nI cd), (nI oh), (nI fu), (nI c), re, 0, li, da, yk, ya, (upd yb f (nI (i + 1))), nm, kd, ls, im, sr, ad, oo, ol, ao, ap, ik, iv, ow, ce, oz, ck, ou), Or.inr (Or.inl (tf_MP_in (q := p - 66) hF1 (by omega) (by omega))), fun post hp => ?_, fun post hp => ?_⟩
  · have hia := hia.trans hiv
    refine And.intro hi (nm_r ((tf_rc (by omega)).trans hio) (And.intro hi (nm_r ((tf_rc (by omega)).trans hia) (nm_r (nI_1 i) ?_))))
    repeat first
      | refine br_t (by decide) ?_
      | refine br_f (by decide) ?_
    exact hp
  · refine And.intro hi (nm_r ((tf_rc (by omega)).trans hk) ?_)
    repeat first
      | refine br_t (by decide) ?_
      | refine br_f (by decide) ?_
    refine br_t (nI_pos' (by omega)) ?_
    repeat first
      | refine br_t (by decide) ?_
      | refine br_f (by decide) ?_
    refine nm_r (e' := nI d) (pk_sub (a := d) (b := 0) (Nat.zero_le _)) ?_
    repeat first
      | refine br_t (by decide) ?_
      | refine br_f (by decide) ?_
    exact And.intro hi (nm_r ((tf_rc (by omega)).trans hiv) hp)

theorem ti_comp (H : (tf_H p f i e o q md mr mu mf ll d r w n os cd hc oh od op co oy onm li nm kd im ad st we wo oo ol ao ap tk gv io ia ik iv ow ck ci ox oz lp fu rk ra rb rc yk ya yb lo)) (hk : ik i = 2) : tf_OI lo p f i (k1, k2, k3, k4, k5, k6, k7, k8, k9, (nI md), (nI mr), (nI mu), (nI mf), (nI ll), (nI lp), tS, tE, tN, (nI d), (nI r), (nI w), en, (nI n), op, co, onm, (nI os), (nI cd), (nI hc), (nI oh), (nI od), cu, (nI fu), (nI i), (nI e), (-1), 0, re, li, da, rk, ra, rb, rc, nm, kd, ls, im, sr, st, we, ad, wo, tk, gv, io, ia, ck, ci, ce, ou, ox) ((nI md), (nI mr), (nI mu), (nI mf), (nI ll), (nI lp), sv, (nI d), (nI r), (nI w), en, (nI n), (nI hc), (nI od), cu, oy, onm, (nI cd), (nI oh), (nI fu), (-1), re, 0, li, da, yk, ya, (upd yb f (nI (i + 1))), nm, kd, ls, im, sr, ad, oo, ol, ao, ap, ik, iv, ow, ce, oz, ck, ou) := by
  have hh := tf_H_in H
  obtain ⟨hF1, h67⟩ := tf_H_1 H
  have hB := H.1.1
  have hB2 := hB
  unfold tf_B at hB2
  have hi : vp_in (nI i) 96 := vp_in_nI (by omega) (by omega)
  have hfi : vp_in (nI f) 32 := vp_in_nI (by have := H.2.2.1; omega) (by omega)
  have hI1 := (H.1.2.2.2.2.2.2.2.1 i hh.1).2
  obtain ⟨hio, hia, c, hcl, hiv⟩ : io i = 2 ∧ ia i = iv i ∧ ∃ c : Nat, c < tf_oN ow i ∧ iv i = nI c := by
    rcases hI1 with z | z | z | z
    · exact absurd (hk.symm.trans z.1) (by decide)
    · exact absurd (hk.symm.trans z.1) (by decide)
    · exact ⟨z.2.1, z.2.2.1, z.2.2.2⟩
    · obtain ⟨c, c1, c2⟩ := z.2
      have := (nI_eq (a := 2) (b := c) (by omega) (by omega)).mp (hk.symm.trans c1)
      omega
  have hia := hia.trans hiv
  rcases tf_opc H.1 with ⟨o1, o2, o3, o4⟩ | ⟨o1, o2, o3, o4, o5⟩
  · subst o1
    subst o2
    obtain ⟨u', v', h1, h2, h3⟩ := tl_raise hF1 (-14)
    refine ⟨u', v', tf_M_mono (by omega) h1, fun post hp => ?_, fun post hp => ?_⟩
    · refine And.intro hi (nm_r ((tf_rc (by omega)).trans hio) (And.intro hi (nm_r ((tf_rc (by omega)).trans hia) (nm_r (nI_1 i) ?_))))
      repeat first
        | refine br_t (by decide) ?_
        | refine br_f (by decide) ?_
      exact h2 _ hp
    · refine And.intro hi (nm_r ((tf_rc (by omega)).trans hk) ?_)
      repeat first
        | refine br_t (by decide) ?_
        | refine br_f (by decide) ?_
      refine br_t (nI_pos' (by omega)) ?_
      repeat first
        | refine br_t (by decide) ?_
        | refine br_f (by decide) ?_
      refine nm_r (e' := nI d) (pk_sub (a := d) (b := 0) (Nat.zero_le _)) ?_
      repeat first
        | refine br_t (by decide) ?_
        | refine br_f (by decide) ?_
      exact h3 _ hp
  · subst o1
    have hne : ¬ oy = 0 := by
      rcases o2 with ⟨_, o2⟩ | ⟨_, o2⟩ <;> subst o2 <;> decide
    obtain ⟨u', v', h1, h2, h3⟩ := tl_item (xo := 1) (xk := 3) (v := nI c) hF1 (Or.inr (Or.inl ⟨rfl, rfl, c, by omega, rfl⟩))
    refine ⟨u', v', tf_M_mono (by omega) h1, fun post hp => ?_, fun post hp => ?_⟩
    · refine And.intro hi (nm_r ((tf_rc (by omega)).trans hio) (And.intro hi (nm_r ((tf_rc (by omega)).trans hia) (nm_r (nI_1 i) ?_))))
      repeat first
        | refine br_t (by decide) ?_
        | refine br_f (by decide) ?_
      exact h2 _ hp
    · refine And.intro hi (nm_r ((tf_rc (by omega)).trans hk) ?_)
      repeat first
        | refine br_t (by decide) ?_
        | refine br_f (by decide) ?_
      refine br_t (nI_pos' (by omega)) ?_
      repeat first
        | refine br_t (by decide) ?_
        | refine br_f (by decide) ?_
      refine nm_r (e' := nI d) (pk_sub (a := d) (b := 0) (Nat.zero_le _)) ?_
      repeat first
        | refine br_t (by decide) ?_
        | refine br_f (by decide) ?_
      refine br_f hne ?_
      repeat first
        | refine br_t (by decide) ?_
        | refine br_f (by decide) ?_
      refine And.intro hi ?_
      rw [nI_clamp (show i < 2 ^ 31 by omega), hiv]
      exact h3 _ hp

theorem ti_38 (H : (tf_H p f i e o q md mr mu mf ll d r w n os cd hc oh od op co oy onm li nm kd im ad st we wo oo ol ao ap tk gv io ia ik iv ow ck ci ox oz lp fu rk ra rb rc yk ya yb lo)) (hk : ik i = 38) : tf_OI lo p f i (k1, k2, k3, k4, k5, k6, k7, k8, k9, (nI md), (nI mr), (nI mu), (nI mf), (nI ll), (nI lp), tS, tE, tN, (nI d), (nI r), (nI w), en, (nI n), op, co, onm, (nI os), (nI cd), (nI hc), (nI oh), (nI od), cu, (nI fu), (nI i), (nI e), (-1), 0, re, li, da, rk, ra, rb, rc, nm, kd, ls, im, sr, st, we, ad, wo, tk, gv, io, ia, ck, ci, ce, ou, ox) ((nI md), (nI mr), (nI mu), (nI mf), (nI ll), (nI lp), sv, (nI d), (nI r), (nI w), en, (nI n), (nI hc), (nI od), cu, oy, onm, (nI cd), (nI oh), (nI fu), (-1), re, 0, li, da, yk, ya, (upd yb f (nI (i + 1))), nm, kd, ls, im, sr, ad, oo, ol, ao, ap, ik, iv, ow, ce, oz, ck, ou) := by
  have hh := tf_H_in H
  obtain ⟨hF1, h67⟩ := tf_H_1 H
  have hB := H.1.1
  have hB2 := hB
  unfold tf_B at hB2
  have hi : vp_in (nI i) 96 := vp_in_nI (by omega) (by omega)
  have hfi : vp_in (nI f) 32 := vp_in_nI (by have := H.2.2.1; omega) (by omega)
  have hI1 := (H.1.2.2.2.2.2.2.2.1 i hh.1).2
  have hio := tf_I1_c hI1 hk (by decide)
  refine ⟨(k1, k2, k3, k4, k5, k6, k7, k8, k9, (nI md), (nI mr), (nI mu), (nI mf), (nI ll), (nI lp), tS, tE, tN, (nI d), (nI r), (nI w), en, (nI n), op, co, onm, (nI os), (nI cd), (nI hc), (nI oh), (nI od), cu, (nI fu), (nI (i + 1)), (nI e), (-1), 0, re, li, da, rk, ra, rb, rc, nm, kd, ls, im, sr, st, we, ad, wo, tk, gv, io, ia, ck, ci, ce, ou, ox), ((nI md), (nI mr), (nI mu), (nI mf), (nI ll), (nI lp), sv, (nI d), (nI r), (nI w), en, (nI n), (nI hc), (nI od), cu, oy, onm, (nI cd), (nI oh), (nI fu), (-1), re, 0, li, da, yk, ya, (upd yb f (nI (i + 1))), nm, kd, ls, im, sr, ad, oo, ol, ao, ap, ik, iv, ow, ce, oz, ck, ou), tf_M_mono (p := p - 66) (by omega) (Or.inl (tf_MR_in hF1)), fun post hp => ?_, fun post hp => ?_⟩
  · refine And.intro hi (nm_r ((tf_rc (by omega)).trans hio) (And.intro hi (nm_r (tf_rc (by omega)) (nm_r (nI_1 i) ?_))))
    repeat first
      | refine br_t (by decide) ?_
      | refine br_f (by decide) ?_
    exact hp
  · refine And.intro hi (nm_r ((tf_rc (by omega)).trans hk) ?_)
    repeat first
      | refine br_t (by decide) ?_
      | refine br_f (by decide) ?_
    refine br_t (nI_pos' (by omega)) ?_
    repeat first
      | refine br_t (by decide) ?_
      | refine br_f (by decide) ?_
    refine nm_r (e' := nI d) (pk_sub (a := d) (b := 0) (Nat.zero_le _)) ?_
    repeat first
      | refine br_t (by decide) ?_
      | refine br_f (by decide) ?_
    exact hp

theorem ti_39 (H : (tf_H p f i e o q md mr mu mf ll d r w n os cd hc oh od op co oy onm li nm kd im ad st we wo oo ol ao ap tk gv io ia ik iv ow ck ci ox oz lp fu rk ra rb rc yk ya yb lo)) (hk : ik i = 39) : tf_OI lo p f i (k1, k2, k3, k4, k5, k6, k7, k8, k9, (nI md), (nI mr), (nI mu), (nI mf), (nI ll), (nI lp), tS, tE, tN, (nI d), (nI r), (nI w), en, (nI n), op, co, onm, (nI os), (nI cd), (nI hc), (nI oh), (nI od), cu, (nI fu), (nI i), (nI e), (-1), 0, re, li, da, rk, ra, rb, rc, nm, kd, ls, im, sr, st, we, ad, wo, tk, gv, io, ia, ck, ci, ce, ou, ox) ((nI md), (nI mr), (nI mu), (nI mf), (nI ll), (nI lp), sv, (nI d), (nI r), (nI w), en, (nI n), (nI hc), (nI od), cu, oy, onm, (nI cd), (nI oh), (nI fu), (-1), re, 0, li, da, yk, ya, (upd yb f (nI (i + 1))), nm, kd, ls, im, sr, ad, oo, ol, ao, ap, ik, iv, ow, ce, oz, ck, ou) := by
  have hh := tf_H_in H
  obtain ⟨hF1, h67⟩ := tf_H_1 H
  have hB := H.1.1
  have hB2 := hB
  unfold tf_B at hB2
  have hi : vp_in (nI i) 96 := vp_in_nI (by omega) (by omega)
  have hfi : vp_in (nI f) 32 := vp_in_nI (by have := H.2.2.1; omega) (by omega)
  have hI1 := (H.1.2.2.2.2.2.2.2.1 i hh.1).2
  have hio := tf_I1_c hI1 hk (by decide)
  refine ⟨(k1, k2, k3, k4, k5, k6, k7, k8, k9, (nI md), (nI mr), (nI mu), (nI mf), (nI ll), (nI lp), tS, tE, tN, (nI d), (nI r), (nI w), en, (nI n), op, co, onm, (nI os), (nI cd), (nI hc), (nI oh), (nI od), cu, (nI fu), (nI (i + 1)), (nI e), (-1), 0, re, li, da, rk, ra, rb, rc, nm, kd, ls, im, sr, st, we, ad, wo, tk, gv, io, ia, ck, ci, ce, ou, ox), ((nI md), (nI mr), (nI mu), (nI mf), (nI ll), (nI lp), sv, (nI d), (nI r), (nI w), en, (nI n), (nI hc), (nI od), cu, oy, onm, (nI cd), (nI oh), (nI fu), (-1), re, 0, li, da, yk, ya, (upd yb f (nI (i + 1))), nm, kd, ls, im, sr, ad, oo, ol, ao, ap, ik, iv, ow, ce, oz, ck, ou), tf_M_mono (p := p - 66) (by omega) (Or.inl (tf_MR_in hF1)), fun post hp => ?_, fun post hp => ?_⟩
  · refine And.intro hi (nm_r ((tf_rc (by omega)).trans hio) (And.intro hi (nm_r (tf_rc (by omega)) (nm_r (nI_1 i) ?_))))
    repeat first
      | refine br_t (by decide) ?_
      | refine br_f (by decide) ?_
    exact hp
  · refine And.intro hi (nm_r ((tf_rc (by omega)).trans hk) ?_)
    repeat first
      | refine br_t (by decide) ?_
      | refine br_f (by decide) ?_
    refine br_t (nI_pos' (by omega)) ?_
    repeat first
      | refine br_t (by decide) ?_
      | refine br_f (by decide) ?_
    refine nm_r (e' := nI d) (pk_sub (a := d) (b := 0) (Nat.zero_le _)) ?_
    repeat first
      | refine br_t (by decide) ?_
      | refine br_f (by decide) ?_
    exact hp

theorem ti_37 (H : (tf_H p f i e o q md mr mu mf ll d r w n os cd hc oh od op co oy onm li nm kd im ad st we wo oo ol ao ap tk gv io ia ik iv ow ck ci ox oz lp fu rk ra rb rc yk ya yb lo)) (hk : ik i = 37) : tf_OI lo p f i (k1, k2, k3, k4, k5, k6, k7, k8, k9, (nI md), (nI mr), (nI mu), (nI mf), (nI ll), (nI lp), tS, tE, tN, (nI d), (nI r), (nI w), en, (nI n), op, co, onm, (nI os), (nI cd), (nI hc), (nI oh), (nI od), cu, (nI fu), (nI i), (nI e), (-1), 0, re, li, da, rk, ra, rb, rc, nm, kd, ls, im, sr, st, we, ad, wo, tk, gv, io, ia, ck, ci, ce, ou, ox) ((nI md), (nI mr), (nI mu), (nI mf), (nI ll), (nI lp), sv, (nI d), (nI r), (nI w), en, (nI n), (nI hc), (nI od), cu, oy, onm, (nI cd), (nI oh), (nI fu), (-1), re, 0, li, da, yk, ya, (upd yb f (nI (i + 1))), nm, kd, ls, im, sr, ad, oo, ol, ao, ap, ik, iv, ow, ce, oz, ck, ou) := by
  have hh := tf_H_in H
  obtain ⟨hF1, h67⟩ := tf_H_1 H
  have hB := H.1.1
  have hB2 := hB
  unfold tf_B at hB2
  have hi : vp_in (nI i) 96 := vp_in_nI (by omega) (by omega)
  have hfi : vp_in (nI f) 32 := vp_in_nI (by have := H.2.2.1; omega) (by omega)
  have hI1 := (H.1.2.2.2.2.2.2.2.1 i hh.1).2
  have hio := tf_I1_c hI1 hk (by decide)
  obtain ⟨t, t1, t2, t3, t4, t5, t6⟩ := (tf_H_TG H).1 (Or.inr hk)
  have hia := t1
  have hFt := tf_H_FR H t3 t4
  have hub : upd (upd yb f (nI (i + 1))) f (nI (t + 1)) = upd yb f (nI (t + 1)) := tf_upd2
  refine ⟨(k1, k2, k3, k4, k5, k6, k7, k8, k9, (nI md), (nI mr), (nI mu), (nI mf), (nI ll), (nI lp), tS, tE, tN, (nI d), (nI r), (nI w), en, (nI n), op, co, onm, (nI os), (nI cd), (nI hc), (nI oh), (nI od), cu, (nI fu), (nI (t + 1)), (nI e), (-1), 0, re, li, da, rk, ra, rb, rc, nm, kd, ls, im, sr, st, we, ad, wo, tk, gv, io, ia, ck, ci, ce, ou, ox), ((nI md), (nI mr), (nI mu), (nI mf), (nI ll), (nI lp), sv, (nI d), (nI r), (nI w), en, (nI n), (nI hc), (nI od), cu, oy, onm, (nI cd), (nI oh), (nI fu), (-1), re, 0, li, da, yk, ya, (upd yb f (nI (t + 1))), nm, kd, ls, im, sr, ad, oo, ol, ao, ap, ik, iv, ow, ce, oz, ck, ou), tf_M_mono (p := p) (Nat.le_refl _) (Or.inl (tf_MR_in (tf_H_F H hFt (by have := H.2.2.2.2.2.2.2.2.1; have := H.2.2.2.2.2.2.2.2.2.2; omega)))), fun post hp => ?_, fun post hp => ?_⟩
  · refine And.intro hi (nm_r ((tf_rc (by omega)).trans hio) (And.intro hi (nm_r ((tf_rc (by omega)).trans hia) (nm_r (nI_1 i) ?_))))
    repeat first
      | refine br_t (by decide) ?_
      | refine br_f (by decide) ?_
    exact hp
  · refine And.intro hi (nm_r ((tf_rc (by omega)).trans hk) ?_)
    repeat first
      | refine br_t (by decide) ?_
      | refine br_f (by decide) ?_
    refine br_t (nI_pos' (by omega)) ?_
    repeat first
      | refine br_t (by decide) ?_
      | refine br_f (by decide) ?_
    refine nm_r (e' := nI d) (pk_sub (a := d) (b := 0) (Nat.zero_le _)) ?_
    repeat first
      | refine br_t (by decide) ?_
      | refine br_f (by decide) ?_
    exact ty_after (Or.inl rfl) (by omega) t2 t3 t5 t6 (And.intro hfi (nm_r ((tf_uc (by have := H.2.2.1; omega)).trans hub) hp))

theorem ti_36 (H : (tf_H p f i e o q md mr mu mf ll d r w n os cd hc oh od op co oy onm li nm kd im ad st we wo oo ol ao ap tk gv io ia ik iv ow ck ci ox oz lp fu rk ra rb rc yk ya yb lo)) (hk : ik i = 36) : tf_OI lo p f i (k1, k2, k3, k4, k5, k6, k7, k8, k9, (nI md), (nI mr), (nI mu), (nI mf), (nI ll), (nI lp), tS, tE, tN, (nI d), (nI r), (nI w), en, (nI n), op, co, onm, (nI os), (nI cd), (nI hc), (nI oh), (nI od), cu, (nI fu), (nI i), (nI e), (-1), 0, re, li, da, rk, ra, rb, rc, nm, kd, ls, im, sr, st, we, ad, wo, tk, gv, io, ia, ck, ci, ce, ou, ox) ((nI md), (nI mr), (nI mu), (nI mf), (nI ll), (nI lp), sv, (nI d), (nI r), (nI w), en, (nI n), (nI hc), (nI od), cu, oy, onm, (nI cd), (nI oh), (nI fu), (-1), re, 0, li, da, yk, ya, (upd yb f (nI (i + 1))), nm, kd, ls, im, sr, ad, oo, ol, ao, ap, ik, iv, ow, ce, oz, ck, ou) := by
  have hh := tf_H_in H
  obtain ⟨hF1, h67⟩ := tf_H_1 H
  have hB := H.1.1
  have hB2 := hB
  unfold tf_B at hB2
  have hi : vp_in (nI i) 96 := vp_in_nI (by omega) (by omega)
  have hfi : vp_in (nI f) 32 := vp_in_nI (by have := H.2.2.1; omega) (by omega)
  have hI1 := (H.1.2.2.2.2.2.2.2.1 i hh.1).2
  have hio := tf_I1_c hI1 hk (by decide)
  obtain ⟨t, t1, t2, t3, t4, t5, t6⟩ := (tf_H_TG H).1 (Or.inl hk)
  have hia := t1
  have hFt := tf_H_FR H t3 t4
  have hub : upd (upd yb f (nI (i + 1))) f (nI (t + 1)) = upd yb f (nI (t + 1)) := tf_upd2
  rcases Nat.eq_zero_or_pos d with hd | hd
  · subst hd
    obtain ⟨u', v', h1, h2, h3⟩ := tl_raise hF1 (-4)
    refine ⟨u', v', tf_M_mono (by omega) h1, fun post hp => ?_, fun post hp => ?_⟩
    · refine And.intro hi (nm_r ((tf_rc (by omega)).trans hio) (And.intro hi (nm_r ((tf_rc (by omega)).trans hia) (nm_r (nI_1 i) ?_))))
      repeat first
        | refine br_t (by decide) ?_
        | refine br_f (by decide) ?_
      exact h2 _ hp
    · refine And.intro hi (nm_r ((tf_rc (by omega)).trans hk) ?_)
      repeat first
        | refine br_t (by decide) ?_
        | refine br_f (by decide) ?_
      exact h3 _ hp
  · obtain ⟨b, hb⟩ : ∃ b, d = b + 1 := ⟨d - 1, by omega⟩
    subst hb
    by_cases hz : da b = 0
    · refine ⟨(k1, k2, k3, k4, k5, k6, k7, k8, k9, (nI md), (nI mr), (nI mu), (nI mf), (nI ll), (nI lp), tS, tE, tN, (nI b), (nI r), (nI w), en, (nI n), op, co, onm, (nI os), (nI cd), (nI hc), (nI oh), (nI od), cu, (nI fu), (nI (t + 1)), (nI e), (-1), 0, re, li, da, rk, ra, rb, rc, nm, kd, ls, im, sr, st, we, ad, wo, tk, gv, io, ia, ck, ci, ce, ou, ox), ((nI md), (nI mr), (nI mu), (nI mf), (nI ll), (nI lp), sv, (nI b), (nI r), (nI w), en, (nI n), (nI hc), (nI od), cu, oy, onm, (nI cd), (nI oh), (nI fu), (-1), re, 0, li, da, yk, ya, (upd yb f (nI (t + 1))), nm, kd, ls, im, sr, ad, oo, ol, ao, ap, ik, iv, ow, ce, oz, ck, ou), tf_M_mono (p := p) (Nat.le_refl _) (Or.inl (tf_MR_in (d := b) ⟨⟨tf_B_d hB (by omega), (tf_H_F (p' := p) H hFt (by have := H.2.2.2.2.2.2.2.2.1; have := H.2.2.2.2.2.2.2.2.2.2; omega)).1.2⟩, (tf_H_F (p' := p) H hFt (by have := H.2.2.2.2.2.2.2.2.1; have := H.2.2.2.2.2.2.2.2.2.2; omega)).2⟩)), fun post hp => ?_, fun post hp => ?_⟩
      · refine And.intro hi (nm_r ((tf_rc (by omega)).trans hio) (And.intro hi (nm_r ((tf_rc (by omega)).trans hia) (nm_r (nI_1 i) ?_))))
        repeat first
          | refine br_t (by decide) ?_
          | refine br_f (by decide) ?_
        refine br_t (nI_le (a := 1) (b := b + 1) (by omega) (by omega)) (nm_r (nI_pred b) (And.intro (vp_in_nI (by omega) (by omega)) ?_))
        refine br_t (by rw [nI_clamp (show b < 2 ^ 31 by omega)]; exact hz) ?_
        repeat first
          | refine br_t (by decide) ?_
          | refine br_f (by decide) ?_
        exact hp
      · refine And.intro hi (nm_r ((tf_rc (by omega)).trans hk) ?_)
        repeat first
          | refine br_t (by decide) ?_
          | refine br_f (by decide) ?_
        refine br_t (nI_le (a := 1) (b := b + 1) (by omega) (by omega)) ?_
        repeat first
          | refine br_t (by decide) ?_
          | refine br_f (by decide) ?_
        rw [nI_pred, nI_clamp (show b < 2 ^ 31 by omega)]
        refine And.intro (vp_in_nI (by omega) (by omega)) ?_
        repeat first
          | refine br_t (by decide) ?_
          | refine br_f (by decide) ?_
        refine nm_r (nI_pred b) ?_
        repeat first
          | refine br_t (by decide) ?_
          | refine br_f (by decide) ?_
        refine br_t hz ?_
        exact ty_after (Or.inl rfl) (by omega) t2 t3 t5 t6 (And.intro hfi (nm_r ((tf_uc (by have := H.2.2.1; omega)).trans hub) hp))
    · refine ⟨(k1, k2, k3, k4, k5, k6, k7, k8, k9, (nI md), (nI mr), (nI mu), (nI mf), (nI ll), (nI lp), tS, tE, tN, (nI b), (nI r), (nI w), en, (nI n), op, co, onm, (nI os), (nI cd), (nI hc), (nI oh), (nI od), cu, (nI fu), (nI (i + 1)), (nI e), (-1), 0, re, li, da, rk, ra, rb, rc, nm, kd, ls, im, sr, st, we, ad, wo, tk, gv, io, ia, ck, ci, ce, ou, ox), ((nI md), (nI mr), (nI mu), (nI mf), (nI ll), (nI lp), sv, (nI b), (nI r), (nI w), en, (nI n), (nI hc), (nI od), cu, oy, onm, (nI cd), (nI oh), (nI fu), (-1), re, 0, li, da, yk, ya, (upd yb f (nI (i + 1))), nm, kd, ls, im, sr, ad, oo, ol, ao, ap, ik, iv, ow, ce, oz, ck, ou), tf_M_mono (p := p - 66) (by omega) (Or.inl (tf_MR_in (d := b) ⟨⟨tf_B_d hB (by omega), hF1.1.2⟩, hF1.2⟩)), fun post hp => ?_, fun post hp => ?_⟩
      · refine And.intro hi (nm_r ((tf_rc (by omega)).trans hio) (And.intro hi (nm_r ((tf_rc (by omega)).trans hia) (nm_r (nI_1 i) ?_))))
        repeat first
          | refine br_t (by decide) ?_
          | refine br_f (by decide) ?_
        refine br_t (nI_le (a := 1) (b := b + 1) (by omega) (by omega)) (nm_r (nI_pred b) (And.intro (vp_in_nI (by omega) (by omega)) ?_))
        exact br_f (by rw [nI_clamp (show b < 2 ^ 31 by omega)]; exact hz) hp
      · refine And.intro hi (nm_r ((tf_rc (by omega)).trans hk) ?_)
        repeat first
          | refine br_t (by decide) ?_
          | refine br_f (by decide) ?_
        refine br_t (nI_le (a := 1) (b := b + 1) (by omega) (by omega)) ?_
        repeat first
          | refine br_t (by decide) ?_
          | refine br_f (by decide) ?_
        rw [nI_pred, nI_clamp (show b < 2 ^ 31 by omega)]
        refine And.intro (vp_in_nI (by omega) (by omega)) ?_
        repeat first
          | refine br_t (by decide) ?_
          | refine br_f (by decide) ?_
        refine nm_r (nI_pred b) ?_
        repeat first
          | refine br_t (by decide) ?_
          | refine br_f (by decide) ?_
        refine br_f hz ?_
        repeat first
          | refine br_t (by decide) ?_
          | refine br_f (by decide) ?_
        exact hp

theorem ti_41 (H : (tf_H p f i e o q md mr mu mf ll d r w n os cd hc oh od op co oy onm li nm kd im ad st we wo oo ol ao ap tk gv io ia ik iv ow ck ci ox oz lp fu rk ra rb rc yk ya yb lo)) (hk : ik i = 41) : tf_OI lo p f i (k1, k2, k3, k4, k5, k6, k7, k8, k9, (nI md), (nI mr), (nI mu), (nI mf), (nI ll), (nI lp), tS, tE, tN, (nI d), (nI r), (nI w), en, (nI n), op, co, onm, (nI os), (nI cd), (nI hc), (nI oh), (nI od), cu, (nI fu), (nI i), (nI e), (-1), 0, re, li, da, rk, ra, rb, rc, nm, kd, ls, im, sr, st, we, ad, wo, tk, gv, io, ia, ck, ci, ce, ou, ox) ((nI md), (nI mr), (nI mu), (nI mf), (nI ll), (nI lp), sv, (nI d), (nI r), (nI w), en, (nI n), (nI hc), (nI od), cu, oy, onm, (nI cd), (nI oh), (nI fu), (-1), re, 0, li, da, yk, ya, (upd yb f (nI (i + 1))), nm, kd, ls, im, sr, ad, oo, ol, ao, ap, ik, iv, ow, ce, oz, ck, ou) := by
  have hh := tf_H_in H
  obtain ⟨hF1, h67⟩ := tf_H_1 H
  have hB := H.1.1
  have hB2 := hB
  unfold tf_B at hB2
  have hi : vp_in (nI i) 96 := vp_in_nI (by omega) (by omega)
  have hfi : vp_in (nI f) 32 := vp_in_nI (by have := H.2.2.1; omega) (by omega)
  have hI1 := (H.1.2.2.2.2.2.2.2.1 i hh.1).2
  have hio := tf_I1_c hI1 hk (by decide)
  obtain ⟨t, t1, t2, t3, t4, t5, t6⟩ := (tf_H_TG H).2.1 hk
  have hia := t1
  have hFt := tf_H_FR H t3 t4
  have hub : upd (upd yb f (nI (i + 1))) f (nI (t + 1)) = upd yb f (nI (t + 1)) := tf_upd2
  rcases Nat.eq_zero_or_pos d with hd | hd
  · subst hd
    obtain ⟨u', v', h1, h2, h3⟩ := tl_raise hF1 (-4)
    refine ⟨u', v', tf_M_mono (by omega) h1, fun post hp => ?_, fun post hp => ?_⟩
    · refine And.intro hi (nm_r ((tf_rc (by omega)).trans hio) (And.intro hi (nm_r ((tf_rc (by omega)).trans hia) (nm_r (nI_1 i) ?_))))
      repeat first
        | refine br_t (by decide) ?_
        | refine br_f (by decide) ?_
      exact h2 _ hp
    · refine And.intro hi (nm_r ((tf_rc (by omega)).trans hk) ?_)
      repeat first
        | refine br_t (by decide) ?_
        | refine br_f (by decide) ?_
      exact h3 _ hp
  · obtain ⟨b, hb⟩ : ∃ b, d = b + 1 := ⟨d - 1, by omega⟩
    subst hb
    by_cases hz : da b = 0
    · refine ⟨(k1, k2, k3, k4, k5, k6, k7, k8, k9, (nI md), (nI mr), (nI mu), (nI mf), (nI ll), (nI lp), tS, tE, tN, (nI b), (nI r), (nI w), en, (nI n), op, co, onm, (nI os), (nI cd), (nI hc), (nI oh), (nI od), cu, (nI fu), (nI (t + 1)), (nI e), (-1), 0, re, li, da, rk, ra, rb, rc, nm, kd, ls, im, sr, st, we, ad, wo, tk, gv, io, ia, ck, ci, ce, ou, ox), ((nI md), (nI mr), (nI mu), (nI mf), (nI ll), (nI lp), sv, (nI b), (nI r), (nI w), en, (nI n), (nI hc), (nI od), cu, oy, onm, (nI cd), (nI oh), (nI fu), (-1), re, 0, li, da, yk, ya, (upd yb f (nI (t + 1))), nm, kd, ls, im, sr, ad, oo, ol, ao, ap, ik, iv, ow, ce, oz, ck, ou), tf_M_mono (p := p) (Nat.le_refl _) (Or.inl (tf_MR_in (d := b) ⟨⟨tf_B_d hB (by omega), (tf_H_F (p' := p) H hFt (by have := H.2.2.2.2.2.2.2.2.1; have := H.2.2.2.2.2.2.2.2.2.2; omega)).1.2⟩, (tf_H_F (p' := p) H hFt (by have := H.2.2.2.2.2.2.2.2.1; have := H.2.2.2.2.2.2.2.2.2.2; omega)).2⟩)), fun post hp => ?_, fun post hp => ?_⟩
      · refine And.intro hi (nm_r ((tf_rc (by omega)).trans hio) (And.intro hi (nm_r ((tf_rc (by omega)).trans hia) (nm_r (nI_1 i) ?_))))
        repeat first
          | refine br_t (by decide) ?_
          | refine br_f (by decide) ?_
        refine br_t (nI_le (a := 1) (b := b + 1) (by omega) (by omega)) (nm_r (nI_pred b) (And.intro (vp_in_nI (by omega) (by omega)) ?_))
        refine br_t (by rw [nI_clamp (show b < 2 ^ 31 by omega)]; exact hz) ?_
        repeat first
          | refine br_t (by decide) ?_
          | refine br_f (by decide) ?_
        exact hp
      · refine And.intro hi (nm_r ((tf_rc (by omega)).trans hk) ?_)
        repeat first
          | refine br_t (by decide) ?_
          | refine br_f (by decide) ?_
        refine br_t (nI_le (a := 1) (b := b + 1) (by omega) (by omega)) ?_
        repeat first
          | refine br_t (by decide) ?_
          | refine br_f (by decide) ?_
        rw [nI_pred, nI_clamp (show b < 2 ^ 31 by omega)]
        refine And.intro (vp_in_nI (by omega) (by omega)) ?_
        repeat first
          | refine br_t (by decide) ?_
          | refine br_f (by decide) ?_
        refine nm_r (nI_pred b) ?_
        repeat first
          | refine br_t (by decide) ?_
          | refine br_f (by decide) ?_
        refine br_t hz ?_
        exact ty_after (Or.inr (Or.inl rfl)) (by omega) t2 t3 t5 t6 (And.intro hfi (nm_r ((tf_uc (by have := H.2.2.1; omega)).trans hub) hp))
    · refine ⟨(k1, k2, k3, k4, k5, k6, k7, k8, k9, (nI md), (nI mr), (nI mu), (nI mf), (nI ll), (nI lp), tS, tE, tN, (nI b), (nI r), (nI w), en, (nI n), op, co, onm, (nI os), (nI cd), (nI hc), (nI oh), (nI od), cu, (nI fu), (nI (i + 1)), (nI e), (-1), 0, re, li, da, rk, ra, rb, rc, nm, kd, ls, im, sr, st, we, ad, wo, tk, gv, io, ia, ck, ci, ce, ou, ox), ((nI md), (nI mr), (nI mu), (nI mf), (nI ll), (nI lp), sv, (nI b), (nI r), (nI w), en, (nI n), (nI hc), (nI od), cu, oy, onm, (nI cd), (nI oh), (nI fu), (-1), re, 0, li, da, yk, ya, (upd yb f (nI (i + 1))), nm, kd, ls, im, sr, ad, oo, ol, ao, ap, ik, iv, ow, ce, oz, ck, ou), tf_M_mono (p := p - 66) (by omega) (Or.inl (tf_MR_in (d := b) ⟨⟨tf_B_d hB (by omega), hF1.1.2⟩, hF1.2⟩)), fun post hp => ?_, fun post hp => ?_⟩
      · refine And.intro hi (nm_r ((tf_rc (by omega)).trans hio) (And.intro hi (nm_r ((tf_rc (by omega)).trans hia) (nm_r (nI_1 i) ?_))))
        repeat first
          | refine br_t (by decide) ?_
          | refine br_f (by decide) ?_
        refine br_t (nI_le (a := 1) (b := b + 1) (by omega) (by omega)) (nm_r (nI_pred b) (And.intro (vp_in_nI (by omega) (by omega)) ?_))
        exact br_f (by rw [nI_clamp (show b < 2 ^ 31 by omega)]; exact hz) hp
      · refine And.intro hi (nm_r ((tf_rc (by omega)).trans hk) ?_)
        repeat first
          | refine br_t (by decide) ?_
          | refine br_f (by decide) ?_
        refine br_t (nI_le (a := 1) (b := b + 1) (by omega) (by omega)) ?_
        repeat first
          | refine br_t (by decide) ?_
          | refine br_f (by decide) ?_
        rw [nI_pred, nI_clamp (show b < 2 ^ 31 by omega)]
        refine And.intro (vp_in_nI (by omega) (by omega)) ?_
        repeat first
          | refine br_t (by decide) ?_
          | refine br_f (by decide) ?_
        refine nm_r (nI_pred b) ?_
        repeat first
          | refine br_t (by decide) ?_
          | refine br_f (by decide) ?_
        refine br_f hz ?_
        repeat first
          | refine br_t (by decide) ?_
          | refine br_f (by decide) ?_
        exact hp

theorem ti_40 (H : (tf_H p f i e o q md mr mu mf ll d r w n os cd hc oh od op co oy onm li nm kd im ad st we wo oo ol ao ap tk gv io ia ik iv ow ck ci ox oz lp fu rk ra rb rc yk ya yb lo)) (hk : ik i = 40) : tf_OI lo p f i (k1, k2, k3, k4, k5, k6, k7, k8, k9, (nI md), (nI mr), (nI mu), (nI mf), (nI ll), (nI lp), tS, tE, tN, (nI d), (nI r), (nI w), en, (nI n), op, co, onm, (nI os), (nI cd), (nI hc), (nI oh), (nI od), cu, (nI fu), (nI i), (nI e), (-1), 0, re, li, da, rk, ra, rb, rc, nm, kd, ls, im, sr, st, we, ad, wo, tk, gv, io, ia, ck, ci, ce, ou, ox) ((nI md), (nI mr), (nI mu), (nI mf), (nI ll), (nI lp), sv, (nI d), (nI r), (nI w), en, (nI n), (nI hc), (nI od), cu, oy, onm, (nI cd), (nI oh), (nI fu), (-1), re, 0, li, da, yk, ya, (upd yb f (nI (i + 1))), nm, kd, ls, im, sr, ad, oo, ol, ao, ap, ik, iv, ow, ce, oz, ck, ou) := by
  have hh := tf_H_in H
  obtain ⟨hF1, h67⟩ := tf_H_1 H
  have hB := H.1.1
  have hB2 := hB
  unfold tf_B at hB2
  have hi : vp_in (nI i) 96 := vp_in_nI (by omega) (by omega)
  have hfi : vp_in (nI f) 32 := vp_in_nI (by have := H.2.2.1; omega) (by omega)
  have hI1 := (H.1.2.2.2.2.2.2.2.1 i hh.1).2
  have hio := tf_I1_c hI1 hk (by decide)
  obtain ⟨t, t1, t2, t3, t4, t5⟩ := (tf_H_TG H).2.2.2.1 (Or.inl hk)
  have hia := t1
  have hFt := tf_H_FR H (by omega) t3
  have hub : upd (upd yb f (nI (i + 1))) f (nI (t + 1)) = upd yb f (nI (t + 1)) := tf_upd2
  rcases Nat.eq_zero_or_pos d with hd | hd
  · subst hd
    obtain ⟨u', v', h1, h2, h3⟩ := tl_raise hF1 (-4)
    refine ⟨u', v', tf_M_mono (by omega) h1, fun post hp => ?_, fun post hp => ?_⟩
    · refine And.intro hi (nm_r ((tf_rc (by omega)).trans hio) (And.intro hi (nm_r ((tf_rc (by omega)).trans hia) (nm_r (nI_1 i) ?_))))
      repeat first
        | refine br_t (by decide) ?_
        | refine br_f (by decide) ?_
      exact h2 _ hp
    · refine And.intro hi (nm_r ((tf_rc (by omega)).trans hk) ?_)
      repeat first
        | refine br_t (by decide) ?_
        | refine br_f (by decide) ?_
      exact h3 _ hp
  · obtain ⟨b, hb⟩ : ∃ b, d = b + 1 := ⟨d - 1, by omega⟩
    subst hb
    by_cases hz : da b = 0
    · rcases Nat.eq_zero_or_pos fu with hfu | hfu
      · obtain ⟨u', v', h1, h2, h3⟩ := tl_nofuel' (d := b) ⟨⟨tf_B_d hB (by omega), hF1.1.2⟩, hF1.2⟩ hfu
        refine ⟨u', v', Or.inr (Or.inr h1), fun post hp => ?_, fun post hp => ?_⟩
        · refine And.intro hi (nm_r ((tf_rc (by omega)).trans hio) (And.intro hi (nm_r ((tf_rc (by omega)).trans hia) (nm_r (nI_1 i) ?_))))
          repeat first
            | refine br_t (by decide) ?_
            | refine br_f (by decide) ?_
          refine br_t (nI_le (a := 1) (b := b + 1) (by omega) (by omega)) (nm_r (nI_pred b) (And.intro (vp_in_nI (by omega) (by omega)) ?_))
          refine br_t (by rw [nI_clamp (show b < 2 ^ 31 by omega)]; exact hz) ?_
          repeat first
            | refine br_t (by decide) ?_
            | refine br_f (by decide) ?_
          exact tx_gb0 h2 hp
        · refine And.intro hi (nm_r ((tf_rc (by omega)).trans hk) ?_)
          repeat first
            | refine br_t (by decide) ?_
            | refine br_f (by decide) ?_
          refine br_t (nI_le (a := 1) (b := b + 1) (by omega) (by omega)) ?_
          repeat first
            | refine br_t (by decide) ?_
            | refine br_f (by decide) ?_
          rw [nI_pred, nI_clamp (show b < 2 ^ 31 by omega)]
          refine And.intro (vp_in_nI (by omega) (by omega)) ?_
          repeat first
            | refine br_t (by decide) ?_
            | refine br_f (by decide) ?_
          refine nm_r (nI_pred b) ?_
          repeat first
            | refine br_t (by decide) ?_
            | refine br_f (by decide) ?_
          refine br_t hz ?_
          refine h3 _ ?_
          exact br_t rfl hp
      · obtain ⟨g, hg⟩ : ∃ g, fu = g + 1 := ⟨fu - 1, by omega⟩
        subst hg
        have hF2 : (tf_F p md mr mu mf ll (b + 1) r w n os cd hc oh od op co oy onm li nm kd im ad st we wo oo ol ao ap tk gv io ia ik iv ow ck ci ox oz lp g (nI (t + 1)) (nI e) rk ra rb rc yk ya (upd yb f (nI (t + 1))) lo) := by
          have K := tf_H_F (p' := q + 67 * (e - (t + 1)) + 1 + 6433 * (g + 1) + 67 * (ll - lp)) H hFt (Nat.le_refl _)
          obtain ⟨k1', k2', k3', k4', k5', k6'⟩ := K
          have h7 := H.2.2.2.2.2.2.2.2.2.2
          have h8 := H.2.2.2.2.2.2.2.2.1
          refine ⟨k1', k2', by omega, _, k5', ?_⟩
          have h9 : k4' ≤ q + 67 * (e - (t + 1)) + 1 := by omega
          omega
        refine ⟨(k1, k2, k3, k4, k5, k6, k7, k8, k9, (nI md), (nI mr), (nI mu), (nI mf), (nI ll), (nI lp), tS, tE, tN, (nI b), (nI r), (nI w), en, (nI n), op, co, onm, (nI os), (nI cd), (nI hc), (nI oh), (nI od), cu, (nI g), (nI (t + 1)), (nI e), (-1), 0, re, li, da, rk, ra, rb, rc, nm, kd, ls, im, sr, st, we, ad, wo, tk, gv, io, ia, ck, ci, ce, ou, ox), ((nI md), (nI mr), (nI mu), (nI mf), (nI ll), (nI lp), sv, (nI b), (nI r), (nI w), en, (nI n), (nI hc), (nI od), cu, oy, onm, (nI cd), (nI oh), (nI g), (-1), re, 0, li, da, yk, ya, (upd yb f (nI (t + 1))), nm, kd, ls, im, sr, ad, oo, ol, ao, ap, ik, iv, ow, ce, oz, ck, ou), Or.inl (tf_MR_in (d := b) ⟨⟨tf_B_d hB (by omega), hF2.1.2⟩, hF2.2⟩), fun post hp => ?_, fun post hp => ?_⟩
        · refine And.intro hi (nm_r ((tf_rc (by omega)).trans hio) (And.intro hi (nm_r ((tf_rc (by omega)).trans hia) (nm_r (nI_1 i) ?_))))
          repeat first
            | refine br_t (by decide) ?_
            | refine br_f (by decide) ?_
          refine br_t (nI_le (a := 1) (b := b + 1) (by omega) (by omega)) (nm_r (nI_pred b) (And.intro (vp_in_nI (by omega) (by omega)) ?_))
          refine br_t (by rw [nI_clamp (show b < 2 ^ 31 by omega)]; exact hz) ?_
          repeat first
            | refine br_t (by decide) ?_
            | refine br_f (by decide) ?_
          exact tx_gb1 (by have := H.2.1.2; omega) hp
        · refine And.intro hi (nm_r ((tf_rc (by omega)).trans hk) ?_)
          repeat first
            | refine br_t (by decide) ?_
            | refine br_f (by decide) ?_
          refine br_t (nI_le (a := 1) (b := b + 1) (by omega) (by omega)) ?_
          repeat first
            | refine br_t (by decide) ?_
            | refine br_f (by decide) ?_
          rw [nI_pred, nI_clamp (show b < 2 ^ 31 by omega)]
          refine And.intro (vp_in_nI (by omega) (by omega)) ?_
          repeat first
            | refine br_t (by decide) ?_
            | refine br_f (by decide) ?_
          refine nm_r (nI_pred b) ?_
          repeat first
            | refine br_t (by decide) ?_
            | refine br_f (by decide) ?_
          refine br_t hz ?_
          refine ty_fuel (fu := g) (by have := H.2.1.2; omega) ?_
          refine br_f (by decide) ?_
          exact ty_back (Or.inr (Or.inl rfl)) (by omega) t2 t4 t5 (And.intro hfi (nm_r ((tf_uc (by have := H.2.2.1; omega)).trans hub) hp))
    · refine ⟨(k1, k2, k3, k4, k5, k6, k7, k8, k9, (nI md), (nI mr), (nI mu), (nI mf), (nI ll), (nI lp), tS, tE, tN, (nI b), (nI r), (nI w), en, (nI n), op, co, onm, (nI os), (nI cd), (nI hc), (nI oh), (nI od), cu, (nI fu), (nI (i + 1)), (nI e), (-1), 0, re, li, da, rk, ra, rb, rc, nm, kd, ls, im, sr, st, we, ad, wo, tk, gv, io, ia, ck, ci, ce, ou, ox), ((nI md), (nI mr), (nI mu), (nI mf), (nI ll), (nI lp), sv, (nI b), (nI r), (nI w), en, (nI n), (nI hc), (nI od), cu, oy, onm, (nI cd), (nI oh), (nI fu), (-1), re, 0, li, da, yk, ya, (upd yb f (nI (i + 1))), nm, kd, ls, im, sr, ad, oo, ol, ao, ap, ik, iv, ow, ce, oz, ck, ou), tf_M_mono (p := p - 66) (by omega) (Or.inl (tf_MR_in (d := b) ⟨⟨tf_B_d hB (by omega), hF1.1.2⟩, hF1.2⟩)), fun post hp => ?_, fun post hp => ?_⟩
      · refine And.intro hi (nm_r ((tf_rc (by omega)).trans hio) (And.intro hi (nm_r ((tf_rc (by omega)).trans hia) (nm_r (nI_1 i) ?_))))
        repeat first
          | refine br_t (by decide) ?_
          | refine br_f (by decide) ?_
        refine br_t (nI_le (a := 1) (b := b + 1) (by omega) (by omega)) (nm_r (nI_pred b) (And.intro (vp_in_nI (by omega) (by omega)) ?_))
        exact br_f (by rw [nI_clamp (show b < 2 ^ 31 by omega)]; exact hz) hp
      · refine And.intro hi (nm_r ((tf_rc (by omega)).trans hk) ?_)
        repeat first
          | refine br_t (by decide) ?_
          | refine br_f (by decide) ?_
        refine br_t (nI_le (a := 1) (b := b + 1) (by omega) (by omega)) ?_
        repeat first
          | refine br_t (by decide) ?_
          | refine br_f (by decide) ?_
        rw [nI_pred, nI_clamp (show b < 2 ^ 31 by omega)]
        refine And.intro (vp_in_nI (by omega) (by omega)) ?_
        repeat first
          | refine br_t (by decide) ?_
          | refine br_f (by decide) ?_
        refine nm_r (nI_pred b) ?_
        repeat first
          | refine br_t (by decide) ?_
          | refine br_f (by decide) ?_
        refine br_f hz ?_
        repeat first
          | refine br_t (by decide) ?_
          | refine br_f (by decide) ?_
        exact hp

theorem ti_42 (H : (tf_H p f i e o q md mr mu mf ll d r w n os cd hc oh od op co oy onm li nm kd im ad st we wo oo ol ao ap tk gv io ia ik iv ow ck ci ox oz lp fu rk ra rb rc yk ya yb lo)) (hk : ik i = 42) : tf_OI lo p f i (k1, k2, k3, k4, k5, k6, k7, k8, k9, (nI md), (nI mr), (nI mu), (nI mf), (nI ll), (nI lp), tS, tE, tN, (nI d), (nI r), (nI w), en, (nI n), op, co, onm, (nI os), (nI cd), (nI hc), (nI oh), (nI od), cu, (nI fu), (nI i), (nI e), (-1), 0, re, li, da, rk, ra, rb, rc, nm, kd, ls, im, sr, st, we, ad, wo, tk, gv, io, ia, ck, ci, ce, ou, ox) ((nI md), (nI mr), (nI mu), (nI mf), (nI ll), (nI lp), sv, (nI d), (nI r), (nI w), en, (nI n), (nI hc), (nI od), cu, oy, onm, (nI cd), (nI oh), (nI fu), (-1), re, 0, li, da, yk, ya, (upd yb f (nI (i + 1))), nm, kd, ls, im, sr, ad, oo, ol, ao, ap, ik, iv, ow, ce, oz, ck, ou) := by
  have hh := tf_H_in H
  obtain ⟨hF1, h67⟩ := tf_H_1 H
  have hB := H.1.1
  have hB2 := hB
  unfold tf_B at hB2
  have hi : vp_in (nI i) 96 := vp_in_nI (by omega) (by omega)
  have hfi : vp_in (nI f) 32 := vp_in_nI (by have := H.2.2.1; omega) (by omega)
  have hI1 := (H.1.2.2.2.2.2.2.2.1 i hh.1).2
  have hio := tf_I1_c hI1 hk (by decide)
  obtain ⟨t, t1, t2, t3, t4, t5⟩ := (tf_H_TG H).2.2.2.1 (Or.inr hk)
  have hia := t1
  have hFt := tf_H_FR H (by omega) t3
  have hub : upd (upd yb f (nI (i + 1))) f (nI (t + 1)) = upd yb f (nI (t + 1)) := tf_upd2
  rcases Nat.eq_zero_or_pos fu with hfu | hfu
  · obtain ⟨u', v', h1, h2, h3⟩ := tl_nofuel' (d := d) ⟨⟨tf_B_d hB (by omega), hF1.1.2⟩, hF1.2⟩ hfu
    refine ⟨u', v', Or.inr (Or.inr h1), fun post hp => ?_, fun post hp => ?_⟩
    · refine And.intro hi (nm_r ((tf_rc (by omega)).trans hio) (And.intro hi (nm_r ((tf_rc (by omega)).trans hia) (nm_r (nI_1 i) ?_))))
      repeat first
        | refine br_t (by decide) ?_
        | refine br_f (by decide) ?_
      exact tx_gb0 h2 hp
    · refine And.intro hi (nm_r ((tf_rc (by omega)).trans hk) ?_)
      repeat first
        | refine br_t (by decide) ?_
        | refine br_f (by decide) ?_
      refine br_t (nI_pos' (by omega)) ?_
      repeat first
        | refine br_t (by decide) ?_
        | refine br_f (by decide) ?_
      refine nm_r (e' := nI d) (pk_sub (a := d) (b := 0) (Nat.zero_le _)) ?_
      repeat first
        | refine br_t (by decide) ?_
        | refine br_f (by decide) ?_
      refine h3 _ ?_
      exact br_t rfl hp
  · obtain ⟨g, hg⟩ : ∃ g, fu = g + 1 := ⟨fu - 1, by omega⟩
    subst hg
    have hF2 : (tf_F p md mr mu mf ll d r w n os cd hc oh od op co oy onm li nm kd im ad st we wo oo ol ao ap tk gv io ia ik iv ow ck ci ox oz lp g (nI (t + 1)) (nI e) rk ra rb rc yk ya (upd yb f (nI (t + 1))) lo) := by
      have K := tf_H_F (p' := q + 67 * (e - (t + 1)) + 1 + 6433 * (g + 1) + 67 * (ll - lp)) H hFt (Nat.le_refl _)
      obtain ⟨k1', k2', k3', k4', k5', k6'⟩ := K
      have h7 := H.2.2.2.2.2.2.2.2.2.2
      have h8 := H.2.2.2.2.2.2.2.2.1
      refine ⟨k1', k2', by omega, _, k5', ?_⟩
      have h9 : k4' ≤ q + 67 * (e - (t + 1)) + 1 := by omega
      omega
    refine ⟨(k1, k2, k3, k4, k5, k6, k7, k8, k9, (nI md), (nI mr), (nI mu), (nI mf), (nI ll), (nI lp), tS, tE, tN, (nI d), (nI r), (nI w), en, (nI n), op, co, onm, (nI os), (nI cd), (nI hc), (nI oh), (nI od), cu, (nI g), (nI (t + 1)), (nI e), (-1), 0, re, li, da, rk, ra, rb, rc, nm, kd, ls, im, sr, st, we, ad, wo, tk, gv, io, ia, ck, ci, ce, ou, ox), ((nI md), (nI mr), (nI mu), (nI mf), (nI ll), (nI lp), sv, (nI d), (nI r), (nI w), en, (nI n), (nI hc), (nI od), cu, oy, onm, (nI cd), (nI oh), (nI g), (-1), re, 0, li, da, yk, ya, (upd yb f (nI (t + 1))), nm, kd, ls, im, sr, ad, oo, ol, ao, ap, ik, iv, ow, ce, oz, ck, ou), Or.inl (tf_MR_in (d := d) ⟨⟨tf_B_d hB (by omega), hF2.1.2⟩, hF2.2⟩), fun post hp => ?_, fun post hp => ?_⟩
    · refine And.intro hi (nm_r ((tf_rc (by omega)).trans hio) (And.intro hi (nm_r ((tf_rc (by omega)).trans hia) (nm_r (nI_1 i) ?_))))
      repeat first
        | refine br_t (by decide) ?_
        | refine br_f (by decide) ?_
      exact tx_gb1 (by have := H.2.1.2; omega) hp
    · refine And.intro hi (nm_r ((tf_rc (by omega)).trans hk) ?_)
      repeat first
        | refine br_t (by decide) ?_
        | refine br_f (by decide) ?_
      refine br_t (nI_pos' (by omega)) ?_
      repeat first
        | refine br_t (by decide) ?_
        | refine br_f (by decide) ?_
      refine nm_r (e' := nI d) (pk_sub (a := d) (b := 0) (Nat.zero_le _)) ?_
      repeat first
        | refine br_t (by decide) ?_
        | refine br_f (by decide) ?_
      refine ty_fuel (fu := g) (by have := H.2.1.2; omega) ?_
      refine br_f (by decide) ?_
      exact ty_back (Or.inr (Or.inl rfl)) (by omega) t2 t4 t5 (And.intro hfi (nm_r ((tf_uc (by have := H.2.2.1; omega)).trans hub) hp))

theorem ti_43 (H : (tf_H p f i e o q md mr mu mf ll d r w n os cd hc oh od op co oy onm li nm kd im ad st we wo oo ol ao ap tk gv io ia ik iv ow ck ci ox oz lp fu rk ra rb rc yk ya yb lo)) (hk : ik i = 43) : tf_OI lo p f i (k1, k2, k3, k4, k5, k6, k7, k8, k9, (nI md), (nI mr), (nI mu), (nI mf), (nI ll), (nI lp), tS, tE, tN, (nI d), (nI r), (nI w), en, (nI n), op, co, onm, (nI os), (nI cd), (nI hc), (nI oh), (nI od), cu, (nI fu), (nI i), (nI e), (-1), 0, re, li, da, rk, ra, rb, rc, nm, kd, ls, im, sr, st, we, ad, wo, tk, gv, io, ia, ck, ci, ce, ou, ox) ((nI md), (nI mr), (nI mu), (nI mf), (nI ll), (nI lp), sv, (nI d), (nI r), (nI w), en, (nI n), (nI hc), (nI od), cu, oy, onm, (nI cd), (nI oh), (nI fu), (-1), re, 0, li, da, yk, ya, (upd yb f (nI (i + 1))), nm, kd, ls, im, sr, ad, oo, ol, ao, ap, ik, iv, ow, ce, oz, ck, ou) := by
  have hh := tf_H_in H
  obtain ⟨hF1, h67⟩ := tf_H_1 H
  have hB := H.1.1
  have hB2 := hB
  unfold tf_B at hB2
  have hi : vp_in (nI i) 96 := vp_in_nI (by omega) (by omega)
  have hfi : vp_in (nI f) 32 := vp_in_nI (by have := H.2.2.1; omega) (by omega)
  have hI1 := (H.1.2.2.2.2.2.2.2.1 i hh.1).2
  have hio := tf_I1_c hI1 hk (by decide)
  rcases Nat.lt_or_ge d 2 with hd | hd
  · obtain ⟨u', v', h1, h2, h3⟩ := tl_raise hF1 (-4)
    refine ⟨u', v', tf_M_mono (by omega) h1, fun post hp => ?_, fun post hp => ?_⟩
    · refine And.intro hi (nm_r ((tf_rc (by omega)).trans hio) (And.intro hi (nm_r (tf_rc (by omega)) (nm_r (nI_1 i) ?_))))
      repeat first
        | refine br_t (by decide) ?_
        | refine br_f (by decide) ?_
      refine br_f (nI_ge (b := 2) hd (by decide)) ?_
      exact h2 _ hp
    · refine And.intro hi (nm_r ((tf_rc (by omega)).trans hk) ?_)
      repeat first
        | refine br_t (by decide) ?_
        | refine br_f (by decide) ?_
      refine br_f (nI_ge (b := 2) hd (by decide)) ?_
      exact h3 _ hp
  · obtain ⟨b, hb⟩ : ∃ b, d = b + 2 := ⟨d - 2, by omega⟩
    subst hb
    have e3 : nI (b + 2) - 1 = nI (b + 1) := nI_pred (b + 1)
    have e4 : nI (b + 2) - 2 = nI b := pk_sub (a := b + 2) (b := 2) (by omega)
    rcases Nat.lt_or_ge r mr with hr | hr
    · obtain ⟨g1, g2, g3, g4, g5⟩ := hF1.2
      refine ⟨(k1, k2, k3, k4, k5, k6, k7, k8, k9, (nI md), (nI mr), (nI mu), (nI mf), (nI ll), (nI lp), tS, tE, tN, (nI b), (nI (r + 1)), (nI w), en, (nI n), op, co, onm, (nI os), (nI cd), (nI hc), (nI oh), (nI od), cu, (nI fu), (nI (i + 1)), (nI e), (-1), 0, re, li, da, (upd rk r 2), (upd ra r (da b)), (upd rb r (da (b + 1))), (upd rc r 0), nm, kd, ls, im, sr, st, we, ad, wo, tk, gv, io, ia, ck, ci, ce, ou, ox), ((nI md), (nI mr), (nI mu), (nI mf), (nI ll), (nI lp), sv, (nI b), (nI (r + 1)), (nI w), en, (nI n), (nI hc), (nI od), cu, oy, onm, (nI cd), (nI oh), (nI fu), (-1), re, 0, li, da, (upd yk r 5), (upd ya r (da b)), (upd (upd yb f (nI (i + 1))) r (da (b + 1))), nm, kd, ls, im, sr, ad, oo, ol, ao, ap, ik, iv, ow, ce, oz, ck, ou), tf_M_mono (p := p - 66) (by omega) (Or.inl (tf_MR_in ⟨⟨tf_B_dr hB (by omega) (by omega), hF1.1.2⟩, g1, g2, g3, tf_RS_loop (by have := H.2.2.1; omega) g4, g5⟩)), fun post hp => ?_, fun post hp => ?_⟩
      · refine And.intro hi (nm_r ((tf_rc (by omega)).trans hio) (And.intro hi (nm_r (tf_rc (by omega)) (nm_r (nI_1 i) ?_))))
        repeat first
          | refine br_t (by decide) ?_
          | refine br_f (by decide) ?_
        refine br_t (nI_le (a := 2) (b := b + 2) (by omega) (by omega)) ?_
        rw [e3, nI_clamp (show b + 1 < 2 ^ 31 by omega), e4, nI_clamp (show b < 2 ^ 31 by omega)]
        refine And.intro (vp_in_nI (by omega) (by omega)) (nm_e (And.intro (vp_in_nI (by omega) (by omega)) (nm_e (nm_e ?_))))
        exact br_t (nI_lt hr (by omega)) (tx_pushR hr (by omega) hp)
      · refine And.intro hi (nm_r ((tf_rc (by omega)).trans hk) ?_)
        repeat first
          | refine br_t (by decide) ?_
          | refine br_f (by decide) ?_
        refine br_t (nI_le (a := 2) (b := b + 2) (by omega) (by omega)) ?_
        repeat first
          | refine br_t (by decide) ?_
          | refine br_f (by decide) ?_
        rw [e3, nI_clamp (show b + 1 < 2 ^ 31 by omega)]
        refine And.intro (vp_in_nI (by omega) (by omega)) ?_
        repeat first
          | refine br_t (by decide) ?_
          | refine br_f (by decide) ?_
        rw [e4, nI_clamp (show b < 2 ^ 31 by omega)]
        refine And.intro (vp_in_nI (by omega) (by omega)) ?_
        refine nm_r e4 ?_
        repeat first
          | refine br_t (by decide) ?_
          | refine br_f (by decide) ?_
        refine br_t (nI_lt hr (by omega)) ?_
        repeat first
          | refine br_t (by decide) ?_
          | refine br_f (by decide) ?_
        exact ty_pushR (by omega) hp
    · obtain ⟨u', v', h1, h2, h3⟩ := tl_raise (d := b) ⟨⟨tf_B_d hB (by omega), hF1.1.2⟩, hF1.2⟩ (-5)
      refine ⟨u', v', tf_M_mono (by omega) h1, fun post hp => ?_, fun post hp => ?_⟩
      · refine And.intro hi (nm_r ((tf_rc (by omega)).trans hio) (And.intro hi (nm_r (tf_rc (by omega)) (nm_r (nI_1 i) ?_))))
        repeat first
          | refine br_t (by decide) ?_
          | refine br_f (by decide) ?_
        refine br_t (nI_le (a := 2) (b := b + 2) (by omega) (by omega)) ?_
        rw [e3, nI_clamp (show b + 1 < 2 ^ 31 by omega), e4, nI_clamp (show b < 2 ^ 31 by omega)]
        refine And.intro (vp_in_nI (by omega) (by omega)) (nm_e (And.intro (vp_in_nI (by omega) (by omega)) (nm_e (nm_e ?_))))
        refine br_f (nI_nlt hr (by omega)) ?_
        exact h2 _ hp
      · refine And.intro hi (nm_r ((tf_rc (by omega)).trans hk) ?_)
        repeat first
          | refine br_t (by decide) ?_
          | refine br_f (by decide) ?_
        refine br_t (nI_le (a := 2) (b := b + 2) (by omega) (by omega)) ?_
        repeat first
          | refine br_t (by decide) ?_
          | refine br_f (by decide) ?_
        rw [e3, nI_clamp (show b + 1 < 2 ^ 31 by omega)]
        refine And.intro (vp_in_nI (by omega) (by omega)) ?_
        repeat first
          | refine br_t (by decide) ?_
          | refine br_f (by decide) ?_
        rw [e4, nI_clamp (show b < 2 ^ 31 by omega)]
        refine And.intro (vp_in_nI (by omega) (by omega)) ?_
        refine nm_r e4 ?_
        repeat first
          | refine br_t (by decide) ?_
          | refine br_f (by decide) ?_
        refine br_f (nI_nlt hr (by omega)) ?_
        exact h3 _ hp

theorem ti_46 (H : (tf_H p f i e o q md mr mu mf ll d r w n os cd hc oh od op co oy onm li nm kd im ad st we wo oo ol ao ap tk gv io ia ik iv ow ck ci ox oz lp fu rk ra rb rc yk ya yb lo)) (hk : ik i = 46) : tf_OI lo p f i (k1, k2, k3, k4, k5, k6, k7, k8, k9, (nI md), (nI mr), (nI mu), (nI mf), (nI ll), (nI lp), tS, tE, tN, (nI d), (nI r), (nI w), en, (nI n), op, co, onm, (nI os), (nI cd), (nI hc), (nI oh), (nI od), cu, (nI fu), (nI i), (nI e), (-1), 0, re, li, da, rk, ra, rb, rc, nm, kd, ls, im, sr, st, we, ad, wo, tk, gv, io, ia, ck, ci, ce, ou, ox) ((nI md), (nI mr), (nI mu), (nI mf), (nI ll), (nI lp), sv, (nI d), (nI r), (nI w), en, (nI n), (nI hc), (nI od), cu, oy, onm, (nI cd), (nI oh), (nI fu), (-1), re, 0, li, da, yk, ya, (upd yb f (nI (i + 1))), nm, kd, ls, im, sr, ad, oo, ol, ao, ap, ik, iv, ow, ce, oz, ck, ou) := by
  have hh := tf_H_in H
  obtain ⟨hF1, h67⟩ := tf_H_1 H
  have hB := H.1.1
  have hB2 := hB
  unfold tf_B at hB2
  have hi : vp_in (nI i) 96 := vp_in_nI (by omega) (by omega)
  have hfi : vp_in (nI f) 32 := vp_in_nI (by have := H.2.2.1; omega) (by omega)
  have hI1 := (H.1.2.2.2.2.2.2.2.1 i hh.1).2
  have hio := tf_I1_c hI1 hk (by decide)
  refine ⟨(k1, k2, k3, k4, k5, k6, k7, k8, k9, (nI md), (nI mr), (nI mu), (nI mf), (nI ll), (nI lp), tS, tE, tN, (nI d), (nI f), (nI w), en, (nI n), op, co, onm, (nI os), (nI cd), (nI hc), (nI oh), (nI od), cu, (nI fu), (ra f), (rb f), (-1), 0, re, li, da, rk, ra, rb, rc, nm, kd, ls, im, sr, st, we, ad, wo, tk, gv, io, ia, ck, ci, ce, ou, ox), ((nI md), (nI mr), (nI mu), (nI mf), (nI ll), (nI lp), sv, (nI d), (nI f), (nI w), en, (nI n), (nI hc), (nI od), cu, oy, onm, (nI cd), (nI oh), (nI fu), (-1), re, 0, li, da, yk, ya, (upd yb f (nI (i + 1))), nm, kd, ls, im, sr, ad, oo, ol, ao, ap, ik, iv, ow, ce, oz, ck, ou), Or.inl (tf_MR_in (p := p) ⟨⟨tf_B_dr hB (by omega) (by have := H.2.2.1; omega), H.1.2⟩, H.2.1.1, H.2.1.2, q, tf_RS_map (Nat.le_refl _) (fun _ _ _ _ h => h) (fun t' ht => ⟨rfl, rfl, rfl, rfl, rfl, rfl, pk_un (by omega)⟩) H.2.2.2.2.2.2.2.2.2.1, by have := H.2.2.2.2.2.2.2.2.2.2; omega⟩), fun post hp => ?_, fun post hp => ?_⟩
  · refine And.intro hi (nm_r ((tf_rc (by omega)).trans hio) (And.intro hi (nm_r (tf_rc (by omega)) (nm_r (nI_1 i) ?_))))
    repeat first
      | refine br_t (by decide) ?_
      | refine br_f (by decide) ?_
    refine tx_te H.2.2.2.2.1 (by omega) H.2.2.1 (fun t a b => (tf_NE_no (H.2.2.2.1 t a b)).1) ?_
    refine br_t (nI_pos' (by have := H.2.2.1; omega)) (And.intro hfi (nm_r (tf_rc (by have := H.2.2.1; omega)) (And.intro hfi (nm_r (tf_rc (by have := H.2.2.1; omega)) hp))))
  · refine And.intro hi (nm_r ((tf_rc (by omega)).trans hk) ?_)
    repeat first
      | refine br_t (by decide) ?_
      | refine br_f (by decide) ?_
    refine br_t (nI_pos' (by omega)) ?_
    repeat first
      | refine br_t (by decide) ?_
      | refine br_f (by decide) ?_
    refine nm_r (e' := nI d) (pk_sub (a := d) (b := 0) (Nat.zero_le _)) ?_
    repeat first
      | refine br_t (by decide) ?_
      | refine br_f (by decide) ?_
    exact hp

theorem ti_45 (H : (tf_H p f i e o q md mr mu mf ll d r w n os cd hc oh od op co oy onm li nm kd im ad st we wo oo ol ao ap tk gv io ia ik iv ow ck ci ox oz lp fu rk ra rb rc yk ya yb lo)) (hk : ik i = 45) : tf_OI lo p f i (k1, k2, k3, k4, k5, k6, k7, k8, k9, (nI md), (nI mr), (nI mu), (nI mf), (nI ll), (nI lp), tS, tE, tN, (nI d), (nI r), (nI w), en, (nI n), op, co, onm, (nI os), (nI cd), (nI hc), (nI oh), (nI od), cu, (nI fu), (nI i), (nI e), (-1), 0, re, li, da, rk, ra, rb, rc, nm, kd, ls, im, sr, st, we, ad, wo, tk, gv, io, ia, ck, ci, ce, ou, ox) ((nI md), (nI mr), (nI mu), (nI mf), (nI ll), (nI lp), sv, (nI d), (nI r), (nI w), en, (nI n), (nI hc), (nI od), cu, oy, onm, (nI cd), (nI oh), (nI fu), (-1), re, 0, li, da, yk, ya, (upd yb f (nI (i + 1))), nm, kd, ls, im, sr, ad, oo, ol, ao, ap, ik, iv, ow, ce, oz, ck, ou) := by
  have hh := tf_H_in H
  obtain ⟨hF1, h67⟩ := tf_H_1 H
  have hB := H.1.1
  have hB2 := hB
  unfold tf_B at hB2
  have hi : vp_in (nI i) 96 := vp_in_nI (by omega) (by omega)
  have hfi : vp_in (nI f) 32 := vp_in_nI (by have := H.2.2.1; omega) (by omega)
  have hI1 := (H.1.2.2.2.2.2.2.2.1 i hh.1).2
  have hio := tf_I1_c hI1 hk (by decide)
  obtain ⟨t, t1, t2, t3, t4, t5, t6⟩ := (tf_H_TG H).2.2.1 hk
  have hia := t1
  have hFt := tf_H_FR H t3 t4
  have hub : upd (upd yb f (nI (i + 1))) f (nI (t + 1)) = upd yb f (nI (t + 1)) := tf_upd2
  obtain ⟨m, hm⟩ : ∃ m, r = m + 1 := ⟨r - 1, by have := H.2.2.1; omega⟩
  subst hm
  rcases tf_H_top H with ⟨hfm, hr1, hr2, hr3, hr4⟩ | ⟨hn1, hn2⟩
  · have H2 := tf_H_r H hfm
    refine ⟨(k1, k2, k3, k4, k5, k6, k7, k8, k9, (nI md), (nI mr), (nI mu), (nI mf), (nI ll), (nI lp), tS, tE, tN, (nI d), (nI m), (nI w), en, (nI n), op, co, onm, (nI os), (nI cd), (nI hc), (nI oh), (nI od), cu, (nI fu), (nI (t + 1)), (nI e), (-1), 0, re, li, da, rk, ra, rb, rc, nm, kd, ls, im, sr, st, we, ad, wo, tk, gv, io, ia, ck, ci, ce, ou, ox), ((nI md), (nI mr), (nI mu), (nI mf), (nI ll), (nI lp), sv, (nI d), (nI m), (nI w), en, (nI n), (nI hc), (nI od), cu, oy, onm, (nI cd), (nI oh), (nI fu), (-1), re, 0, li, da, yk, ya, (upd yb f (nI (t + 1))), nm, kd, ls, im, sr, ad, oo, ol, ao, ap, ik, iv, ow, ce, oz, ck, ou), tf_M_mono (p := p) (Nat.le_refl _) (Or.inl (tf_MR_in (tf_H_F H2 hFt (by have := H.2.2.2.2.2.2.2.2.1; have := H.2.2.2.2.2.2.2.2.2.2; omega)))), fun post hp => ?_, fun post hp => ?_⟩
    · refine And.intro hi (nm_r ((tf_rc (by omega)).trans hio) (And.intro hi (nm_r ((tf_rc (by omega)).trans hia) (nm_r (nI_1 i) ?_))))
      repeat first
        | refine br_t (by decide) ?_
        | refine br_f (by decide) ?_
      refine tx_trk (by omega) ?_
      exact br_t hr1 (nm_r (nI_pred m) hp)
    · refine And.intro hi (nm_r ((tf_rc (by omega)).trans hk) ?_)
      repeat first
        | refine br_t (by decide) ?_
        | refine br_f (by decide) ?_
      refine br_t (nI_pos' (by omega)) ?_
      repeat first
        | refine br_t (by decide) ?_
        | refine br_f (by decide) ?_
      refine nm_r (e' := nI d) (pk_sub (a := d) (b := 0) (Nat.zero_le _)) ?_
      repeat first
        | refine br_t (by decide) ?_
        | refine br_f (by decide) ?_
      have hyc : yk (nI (m + 1) - 1).toNatClampNeg = yk m := by rw [nI_pred, nI_clamp (show m < 2 ^ 31 by omega)]
      refine And.intro (by rw [nI_pred]; exact vp_in_nI (by omega) (by omega)) ?_
      refine br_t (hyc.trans hr2) ?_
      repeat first
        | refine br_t (by decide) ?_
        | refine br_f (by decide) ?_
      refine nm_r (nI_pred m) ?_
      exact ty_after (Or.inr (Or.inr rfl)) (by omega) t2 t3 t5 t6 (And.intro hfi (nm_r ((tf_uc (by have := H.2.2.1; omega)).trans hub) hp))
  · obtain ⟨u', v', h1, h2, h3⟩ := tl_raise hF1 (-26)
    refine ⟨u', v', tf_M_mono (by omega) h1, fun post hp => ?_, fun post hp => ?_⟩
    · refine And.intro hi (nm_r ((tf_rc (by omega)).trans hio) (And.intro hi (nm_r ((tf_rc (by omega)).trans hia) (nm_r (nI_1 i) ?_))))
      repeat first
        | refine br_t (by decide) ?_
        | refine br_f (by decide) ?_
      refine tx_trk (by omega) ?_
      refine br_f hn1 ?_
      exact h2 _ hp
    · refine And.intro hi (nm_r ((tf_rc (by omega)).trans hk) ?_)
      repeat first
        | refine br_t (by decide) ?_
        | refine br_f (by decide) ?_
      refine br_t (nI_pos' (by omega)) ?_
      repeat first
        | refine br_t (by decide) ?_
        | refine br_f (by decide) ?_
      refine nm_r (e' := nI d) (pk_sub (a := d) (b := 0) (Nat.zero_le _)) ?_
      repeat first
        | refine br_t (by decide) ?_
        | refine br_f (by decide) ?_
      have hyc : yk (nI (m + 1) - 1).toNatClampNeg = yk m := by rw [nI_pred, nI_clamp (show m < 2 ^ 31 by omega)]
      refine And.intro (by rw [nI_pred]; exact vp_in_nI (by omega) (by omega)) ?_
      refine br_f (by rw [hyc]; exact hn2) ?_
      exact h3 _ hp

theorem ti_44 (H : (tf_H p f i e o q md mr mu mf ll d r w n os cd hc oh od op co oy onm li nm kd im ad st we wo oo ol ao ap tk gv io ia ik iv ow ck ci ox oz lp fu rk ra rb rc yk ya yb lo)) (hk : ik i = 44) : tf_OI lo p f i (k1, k2, k3, k4, k5, k6, k7, k8, k9, (nI md), (nI mr), (nI mu), (nI mf), (nI ll), (nI lp), tS, tE, tN, (nI d), (nI r), (nI w), en, (nI n), op, co, onm, (nI os), (nI cd), (nI hc), (nI oh), (nI od), cu, (nI fu), (nI i), (nI e), (-1), 0, re, li, da, rk, ra, rb, rc, nm, kd, ls, im, sr, st, we, ad, wo, tk, gv, io, ia, ck, ci, ce, ou, ox) ((nI md), (nI mr), (nI mu), (nI mf), (nI ll), (nI lp), sv, (nI d), (nI r), (nI w), en, (nI n), (nI hc), (nI od), cu, oy, onm, (nI cd), (nI oh), (nI fu), (-1), re, 0, li, da, yk, ya, (upd yb f (nI (i + 1))), nm, kd, ls, im, sr, ad, oo, ol, ao, ap, ik, iv, ow, ce, oz, ck, ou) := by
  have hh := tf_H_in H
  obtain ⟨hF1, h67⟩ := tf_H_1 H
  have hB := H.1.1
  have hB2 := hB
  unfold tf_B at hB2
  have hi : vp_in (nI i) 96 := vp_in_nI (by omega) (by omega)
  have hfi : vp_in (nI f) 32 := vp_in_nI (by have := H.2.2.1; omega) (by omega)
  have hI1 := (H.1.2.2.2.2.2.2.2.1 i hh.1).2
  have hio := tf_I1_c hI1 hk (by decide)
  obtain ⟨t, t1, t2, t3, t4, t5⟩ := (tf_H_TG H).2.2.2.2 hk
  have hia := t1
  have hFt := tf_H_FR H (by omega) t3
  have hub : upd (upd yb f (nI (i + 1))) f (nI (t + 1)) = upd yb f (nI (t + 1)) := tf_upd2
  obtain ⟨m, hm⟩ : ∃ m, r = m + 1 := ⟨r - 1, by have := H.2.2.1; omega⟩
  subst hm
  rcases tf_H_top H with ⟨hfm, hr1, hr2, hr3, hr4⟩ | ⟨hn1, hn2⟩
  · have hym : upd yb f (nI (i + 1)) m = yb m := pk_un (by omega)
    have hmi : vp_in (nI m) 32 := vp_in_nI (by omega) (by omega)
    by_cases hz : rb m + 1 = ra m
    · have H2 := tf_H_r H hfm
      obtain ⟨g0, g1, g2, g3, g4, g5⟩ := (tf_H_1 H2).1
      refine ⟨(k1, k2, k3, k4, k5, k6, k7, k8, k9, (nI md), (nI mr), (nI mu), (nI mf), (nI ll), (nI lp), tS, tE, tN, (nI d), (nI m), (nI w), en, (nI n), op, co, onm, (nI os), (nI cd), (nI hc), (nI oh), (nI od), cu, (nI fu), (nI (i + 1)), (nI e), (-1), 0, re, li, da, rk, ra, (upd rb m (rb m + 1)), rc, nm, kd, ls, im, sr, st, we, ad, wo, tk, gv, io, ia, ck, ci, ce, ou, ox), ((nI md), (nI mr), (nI mu), (nI mf), (nI ll), (nI lp), sv, (nI d), (nI m), (nI w), en, (nI n), (nI hc), (nI od), cu, oy, onm, (nI cd), (nI oh), (nI fu), (-1), re, 0, li, da, yk, ya, (upd (upd yb f (nI (i + 1))) m (rb m + 1)), nm, kd, ls, im, sr, ad, oo, ol, ao, ap, ik, iv, ow, ce, oz, ck, ou), tf_M_mono (p := p - 66) (by omega) (Or.inl (tf_MR_in ⟨g0, g1, g2, g3, tf_RS_map (Nat.le_refl _) (fun _ _ _ _ h => h) (fun t ht => ⟨rfl, rfl, pk_un (by omega), rfl, rfl, rfl, pk_un (by omega)⟩) g4, g5⟩)), fun post hp => ?_, fun post hp => ?_⟩
      · refine And.intro hi (nm_r ((tf_rc (by omega)).trans hio) (And.intro hi (nm_r ((tf_rc (by omega)).trans hia) (nm_r (nI_1 i) ?_))))
        repeat first
          | refine br_t (by decide) ?_
          | refine br_f (by decide) ?_
        unfold wpX_runLoop
        refine tx_trk (by omega) ?_
        refine br_t hr1 (nm_r (nI_pred m) (And.intro hmi (And.intro hmi (nm_r (e' := upd rb m (rb m + 1)) (by rw [nI_clamp (show m < 2 ^ 31 by omega)]) (And.intro hmi (And.intro hmi ?_))))))
        exact br_t (by rw [nI_clamp (show m < 2 ^ 31 by omega), pk_us]; exact hz) (nm_r (nI_pred m) hp)
      · refine And.intro hi (nm_r ((tf_rc (by omega)).trans hk) ?_)
        repeat first
          | refine br_t (by decide) ?_
          | refine br_f (by decide) ?_
        refine br_t (nI_pos' (by omega)) ?_
        repeat first
          | refine br_t (by decide) ?_
          | refine br_f (by decide) ?_
        refine nm_r (e' := nI d) (pk_sub (a := d) (b := 0) (Nat.zero_le _)) ?_
        repeat first
          | refine br_t (by decide) ?_
          | refine br_f (by decide) ?_
        have hyc : yk (nI (m + 1) - 1).toNatClampNeg = yk m := by rw [nI_pred, nI_clamp (show m < 2 ^ 31 by omega)]
        refine And.intro (by rw [nI_pred]; exact vp_in_nI (by omega) (by omega)) ?_
        refine br_t (hyc.trans hr2) ?_
        repeat first
          | refine br_t (by decide) ?_
          | refine br_f (by decide) ?_
        rw [nI_pred]
        refine And.intro hmi (And.intro hmi (nm_r (e' := upd (upd yb f (nI (i + 1))) m (rb m + 1)) (by rw [nI_clamp (show m < 2 ^ 31 by omega), hym, hr4]) (And.intro hmi (And.intro hmi ?_))))
        exact br_t (by rw [nI_clamp (show m < 2 ^ 31 by omega), pk_us, ← hr3]; exact hz) (nm_e hp)
    · have H2 := tf_H_l (v := rb m + 1) H hfm ⟨hr1, hr2, hr3⟩
      have hup : upd (upd yb m (rb m + 1)) f (nI (i + 1)) = upd (upd yb f (nI (i + 1))) m (rb m + 1) := tf_updc (by omega)
      have hup3 : upd (upd (upd yb f (nI (i + 1))) m (rb m + 1)) f (nI (t + 1)) = upd (upd yb m (rb m + 1)) f (nI (t + 1)) := tf_upd3 (by omega)
      have hFL := (tf_H_1 H2).1
      rw [hup] at hFL
      rcases Nat.eq_zero_or_pos fu with hfu | hfu
      · obtain ⟨u', v', h1, h2, h3⟩ := tl_nofuel' hFL hfu
        refine ⟨u', v', Or.inr (Or.inr h1), fun post hp => ?_, fun post hp => ?_⟩
        · refine And.intro hi (nm_r ((tf_rc (by omega)).trans hio) (And.intro hi (nm_r ((tf_rc (by omega)).trans hia) (nm_r (nI_1 i) ?_))))
          repeat first
            | refine br_t (by decide) ?_
            | refine br_f (by decide) ?_
          unfold wpX_runLoop
          refine tx_trk (by omega) ?_
          refine br_t hr1 (nm_r (nI_pred m) (And.intro hmi (And.intro hmi (nm_r (e' := upd rb m (rb m + 1)) (by rw [nI_clamp (show m < 2 ^ 31 by omega)]) (And.intro hmi (And.intro hmi ?_))))))
          refine br_f (by rw [nI_clamp (show m < 2 ^ 31 by omega), pk_us]; exact hz) ?_
          exact tx_gb0 h2 hp
        · refine And.intro hi (nm_r ((tf_rc (by omega)).trans hk) ?_)
          repeat first
            | refine br_t (by decide) ?_
            | refine br_f (by decide) ?_
          refine br_t (nI_pos' (by omega)) ?_
          repeat first
            | refine br_t (by decide) ?_
            | refine br_f (by decide) ?_
          refine nm_r (e' := nI d) (pk_sub (a := d) (b := 0) (Nat.zero_le _)) ?_
          repeat first
            | refine br_t (by decide) ?_
            | refine br_f (by decide) ?_
          have hyc : yk (nI (m + 1) - 1).toNatClampNeg = yk m := by rw [nI_pred, nI_clamp (show m < 2 ^ 31 by omega)]
          refine And.intro (by rw [nI_pred]; exact vp_in_nI (by omega) (by omega)) ?_
          refine br_t (hyc.trans hr2) ?_
          repeat first
            | refine br_t (by decide) ?_
            | refine br_f (by decide) ?_
          rw [nI_pred]
          refine And.intro hmi (And.intro hmi (nm_r (e' := upd (upd yb f (nI (i + 1))) m (rb m + 1)) (by rw [nI_clamp (show m < 2 ^ 31 by omega), hym, hr4]) (And.intro hmi (And.intro hmi ?_))))
          refine br_f (by rw [nI_clamp (show m < 2 ^ 31 by omega), pk_us, ← hr3]; exact hz) ?_
          refine h3 _ ?_
          exact br_t rfl hp
      · obtain ⟨g, hg⟩ : ∃ g, fu = g + 1 := ⟨fu - 1, by omega⟩
        subst hg
        have hF2 : (tf_F p md mr mu mf ll d (m + 1) w n os cd hc oh od op co oy onm li nm kd im ad st we wo oo ol ao ap tk gv io ia ik iv ow ck ci ox oz lp g (nI (t + 1)) (nI e) rk ra (upd rb m (rb m + 1)) rc yk ya (upd (upd (upd yb f (nI (i + 1))) m (rb m + 1)) f (nI (t + 1))) lo) := by
          rw [hup3]
          have K := tf_H_F (p' := q + 67 * (e - (t + 1)) + 1 + 6433 * (g + 1) + 67 * (ll - lp)) H2 hFt (Nat.le_refl _)
          obtain ⟨k1', k2', k3', k4', k5', k6'⟩ := K
          have h7 := H.2.2.2.2.2.2.2.2.2.2
          have h8 := H.2.2.2.2.2.2.2.2.1
          refine ⟨k1', k2', by omega, _, k5', ?_⟩
          have h9 : k4' ≤ q + 67 * (e - (t + 1)) + 1 := by omega
          omega
        refine ⟨(k1, k2, k3, k4, k5, k6, k7, k8, k9, (nI md), (nI mr), (nI mu), (nI mf), (nI ll), (nI lp), tS, tE, tN, (nI d), (nI (m + 1)), (nI w), en, (nI n), op, co, onm, (nI os), (nI cd), (nI hc), (nI oh), (nI od), cu, (nI g), (nI (t + 1)), (nI e), (-1), 0, re, li, da, rk, ra, (upd rb m (rb m + 1)), rc, nm, kd, ls, im, sr, st, we, ad, wo, tk, gv, io, ia, ck, ci, ce, ou, ox), ((nI md), (nI mr), (nI mu), (nI mf), (nI ll), (nI lp), sv, (nI d), (nI (m + 1)), (nI w), en, (nI n), (nI hc), (nI od), cu, oy, onm, (nI cd), (nI oh), (nI g), (-1), re, 0, li, da, yk, ya, (upd (upd (upd yb f (nI (i + 1))) m (rb m + 1)) f (nI (t + 1))), nm, kd, ls, im, sr, ad, oo, ol, ao, ap, ik, iv, ow, ce, oz, ck, ou), Or.inl (tf_MR_in hF2), fun post hp => ?_, fun post hp => ?_⟩
        · refine And.intro hi (nm_r ((tf_rc (by omega)).trans hio) (And.intro hi (nm_r ((tf_rc (by omega)).trans hia) (nm_r (nI_1 i) ?_))))
          repeat first
            | refine br_t (by decide) ?_
            | refine br_f (by decide) ?_
          unfold wpX_runLoop
          refine tx_trk (by omega) ?_
          refine br_t hr1 (nm_r (nI_pred m) (And.intro hmi (And.intro hmi (nm_r (e' := upd rb m (rb m + 1)) (by rw [nI_clamp (show m < 2 ^ 31 by omega)]) (And.intro hmi (And.intro hmi ?_))))))
          refine br_f (by rw [nI_clamp (show m < 2 ^ 31 by omega), pk_us]; exact hz) ?_
          exact tx_gb1 (by have := H.2.1.2; omega) hp
        · refine And.intro hi (nm_r ((tf_rc (by omega)).trans hk) ?_)
          repeat first
            | refine br_t (by decide) ?_
            | refine br_f (by decide) ?_
          refine br_t (nI_pos' (by omega)) ?_
          repeat first
            | refine br_t (by decide) ?_
            | refine br_f (by decide) ?_
          refine nm_r (e' := nI d) (pk_sub (a := d) (b := 0) (Nat.zero_le _)) ?_
          repeat first
            | refine br_t (by decide) ?_
            | refine br_f (by decide) ?_
          have hyc : yk (nI (m + 1) - 1).toNatClampNeg = yk m := by rw [nI_pred, nI_clamp (show m < 2 ^ 31 by omega)]
          refine And.intro (by rw [nI_pred]; exact vp_in_nI (by omega) (by omega)) ?_
          refine br_t (hyc.trans hr2) ?_
          repeat first
            | refine br_t (by decide) ?_
            | refine br_f (by decide) ?_
          rw [nI_pred]
          refine And.intro hmi (And.intro hmi (nm_r (e' := upd (upd yb f (nI (i + 1))) m (rb m + 1)) (by rw [nI_clamp (show m < 2 ^ 31 by omega), hym, hr4]) (And.intro hmi (And.intro hmi ?_))))
          refine br_f (by rw [nI_clamp (show m < 2 ^ 31 by omega), pk_us, ← hr3]; exact hz) ?_
          refine ty_fuel (fu := g) (by have := H.2.1.2; omega) ?_
          refine br_f (by decide) ?_
          exact ty_back (Or.inr (Or.inr rfl)) (by omega) t2 t4 t5 (And.intro hfi (nm_r (tf_uc (by have := H.2.2.1; omega)) hp))
  · obtain ⟨u', v', h1, h2, h3⟩ := tl_raise hF1 (-26)
    refine ⟨u', v', tf_M_mono (by omega) h1, fun post hp => ?_, fun post hp => ?_⟩
    · refine And.intro hi (nm_r ((tf_rc (by omega)).trans hio) (And.intro hi (nm_r ((tf_rc (by omega)).trans hia) (nm_r (nI_1 i) ?_))))
      repeat first
        | refine br_t (by decide) ?_
        | refine br_f (by decide) ?_
      unfold wpX_runLoop
      refine tx_trk (by omega) ?_
      refine br_f hn1 ?_
      exact h2 _ hp
    · refine And.intro hi (nm_r ((tf_rc (by omega)).trans hk) ?_)
      repeat first
        | refine br_t (by decide) ?_
        | refine br_f (by decide) ?_
      refine br_t (nI_pos' (by omega)) ?_
      repeat first
        | refine br_t (by decide) ?_
        | refine br_f (by decide) ?_
      refine nm_r (e' := nI d) (pk_sub (a := d) (b := 0) (Nat.zero_le _)) ?_
      repeat first
        | refine br_t (by decide) ?_
        | refine br_f (by decide) ?_
      have hyc : yk (nI (m + 1) - 1).toNatClampNeg = yk m := by rw [nI_pred, nI_clamp (show m < 2 ^ 31 by omega)]
      refine And.intro (by rw [nI_pred]; exact vp_in_nI (by omega) (by omega)) ?_
      refine br_f (by rw [hyc]; exact hn2) ?_
      exact h3 _ hp

theorem ti_50 (H : (tf_H p f i e o q md mr mu mf ll d r w n os cd hc oh od op co oy onm li nm kd im ad st we wo oo ol ao ap tk gv io ia ik iv ow ck ci ox oz lp fu rk ra rb rc yk ya yb lo)) (hk : ik i = 50) : tf_OI lo p f i (k1, k2, k3, k4, k5, k6, k7, k8, k9, (nI md), (nI mr), (nI mu), (nI mf), (nI ll), (nI lp), tS, tE, tN, (nI d), (nI r), (nI w), en, (nI n), op, co, onm, (nI os), (nI cd), (nI hc), (nI oh), (nI od), cu, (nI fu), (nI i), (nI e), (-1), 0, re, li, da, rk, ra, rb, rc, nm, kd, ls, im, sr, st, we, ad, wo, tk, gv, io, ia, ck, ci, ce, ou, ox) ((nI md), (nI mr), (nI mu), (nI mf), (nI ll), (nI lp), sv, (nI d), (nI r), (nI w), en, (nI n), (nI hc), (nI od), cu, oy, onm, (nI cd), (nI oh), (nI fu), (-1), re, 0, li, da, yk, ya, (upd yb f (nI (i + 1))), nm, kd, ls, im, sr, ad, oo, ol, ao, ap, ik, iv, ow, ce, oz, ck, ou) := by
  have hh := tf_H_in H
  obtain ⟨hF1, h67⟩ := tf_H_1 H
  have hB := H.1.1
  have hB2 := hB
  unfold tf_B at hB2
  have hi : vp_in (nI i) 96 := vp_in_nI (by omega) (by omega)
  have hfi : vp_in (nI f) 32 := vp_in_nI (by have := H.2.2.1; omega) (by omega)
  have hI1 := (H.1.2.2.2.2.2.2.2.1 i hh.1).2
  have hio := tf_I1_c hI1 hk (by decide)
  obtain ⟨m, hm⟩ : ∃ m, w = m + 1 := ⟨w - 1, by omega⟩
  subst hm
  have hwm : vp_in (nI m) 75 := vp_in_nI (by omega) (by omega)
  have hN := H.1.2.2.2.2.1
  have key : kd m ≠ 1 → 51 ≤ m → (tf_F p md mr mu mf ll d f (m + 1) n os cd hc oh od op co oy onm li nm (upd kd m 3) im ad (upd st m (nI (i + 1))) (upd we m (nI e)) wo oo ol (upd ao m (nI o)) (upd ap m (nI (i + 1))) tk gv io ia ik iv ow ck ci ox oz lp fu (ra f) (rb f) rk ra rb rc yk ya (upd yb f (nI (i + 1))) lo) := by
    intro hm1 hm51
    have hFt := tf_H_FR H (t := i) hh.1 rfl
    have hFm : tf_FR m kd st we (i + 1) e o (i + 1) := by
      obtain ⟨z1, z2, z3, z4⟩ := hFt
      have : o ≠ m := fun z => hm1 (by rw [← z]; exact z3)
      exact ⟨z1, by omega, z3, z4⟩
    refine ⟨⟨tf_B_dr hB (by omega) (by have := H.2.2.1; omega), H.1.2.1, H.1.2.2.1, H.1.2.2.2.1, ⟨hN.1, hN.2.1, fun k hk' => ?_, fun k hk1 hk2' => ?_⟩, H.1.2.2.2.2.2.1, tf_S_does hm1 hFm H.1.2.2.2.2.2.2.1, H.1.2.2.2.2.2.2.2⟩, H.2.1.1, H.2.1.2, q, ?_, by have := H.2.2.2.2.2.2.2.2.2.2; omega⟩
    · rw [pk_un (by omega)]; exact hN.2.2.1 k hk'
    · by_cases hkm : k = m
      · subst hkm
        rw [pk_us]
        exact ⟨Or.inr (Or.inr (Or.inl rfl)), (hN.2.2.2 k hk1 hk2').2⟩
      · rw [pk_un hkm]; exact hN.2.2.2 k hk1 hk2'
    · exact tf_RS_map (Nat.le_refl _) (fun _ _ _ _ h => tf_FR_does hm1 h) (fun t' ht => ⟨rfl, rfl, rfl, rfl, rfl, rfl, pk_un (by omega)⟩) H.2.2.2.2.2.2.2.2.2.1
  have key2 : kd m ≠ 0 → 51 ≤ m := by
    intro hm0
    rcases Nat.lt_or_ge m 51 with z | z
    · exact absurd (hN.2.2.1 m z) hm0
    · exact z
  by_cases hk2 : kd m = 2
  · refine ⟨(k1, k2, k3, k4, k5, k6, k7, k8, k9, (nI md), (nI mr), (nI mu), (nI mf), (nI ll), (nI lp), tS, tE, tN, (nI d), (nI f), (nI (m + 1)), en, (nI n), op, co, onm, (nI os), (nI cd), (nI hc), (nI oh), (nI od), cu, (nI fu), (ra f), (rb f), (-1), 0, re, li, da, rk, ra, rb, rc, nm, (upd kd m 3), ls, im, sr, (upd st m (nI (i + 1))), (upd we m (nI e)), ad, wo, tk, gv, io, ia, ck, ci, ce, ou, ox), ((nI md), (nI mr), (nI mu), (nI mf), (nI ll), (nI lp), sv, (nI d), (nI f), (nI (m + 1)), en, (nI n), (nI hc), (nI od), cu, oy, onm, (nI cd), (nI oh), (nI fu), (-1), re, 0, li, da, yk, ya, (upd yb f (nI (i + 1))), nm, (upd kd m 3), ls, im, sr, ad, oo, ol, (upd ao m (nI o)), (upd ap m (nI (i + 1))), ik, iv, ow, ce, oz, ck, ou), Or.inl (tf_MR_in (key (by rw [hk2]; decide) (key2 (by rw [hk2]; decide)))), fun post hp => ?_, fun post hp => ?_⟩
    · refine And.intro hi (nm_r ((tf_rc (by omega)).trans hio) (And.intro hi (nm_r (tf_rc (by omega)) (nm_r (nI_1 i) ?_))))
      repeat first
        | refine br_t (by decide) ?_
        | refine br_f (by decide) ?_
      refine nm_r (nI_pred m) (And.intro hwm ?_)
      refine br_t (by rw [nI_clamp (show m < 2 ^ 31 by omega)]; exact hk2) ?_
      refine And.intro hwm (nm_r (tf_uc (by omega)) (And.intro hwm (nm_r (tf_uc (by omega)) (And.intro hwm (nm_r (tf_uc (by omega)) ?_)))))
      refine tx_te H.2.2.2.2.1 (by omega) H.2.2.1 (fun t a b => (tf_NE_no (H.2.2.2.1 t a b)).1) ?_
      refine br_t (nI_pos' (by have := H.2.2.1; omega)) (And.intro hfi (nm_r (tf_rc (by have := H.2.2.1; omega)) (And.intro hfi (nm_r (tf_rc (by have := H.2.2.1; omega)) hp))))
    · refine And.intro hi (nm_r ((tf_rc (by omega)).trans hk) ?_)
      repeat first
        | refine br_t (by decide) ?_
        | refine br_f (by decide) ?_
      refine br_t (nI_pos' (by omega)) ?_
      repeat first
        | refine br_t (by decide) ?_
        | refine br_f (by decide) ?_
      refine nm_r (e' := nI d) (pk_sub (a := d) (b := 0) (Nat.zero_le _)) ?_
      repeat first
        | refine br_t (by decide) ?_
        | refine br_f (by decide) ?_
      rw [nI_pred]
      refine And.intro hwm ?_
      refine br_t (by rw [nI_clamp (show m < 2 ^ 31 by omega)]; exact hk2) ?_
      repeat first
        | refine br_t (by decide) ?_
        | refine br_f (by decide) ?_
      rw [nI_pred]
      refine And.intro hwm (nm_r (tf_uc (by omega)) (And.intro hfi (And.intro hwm (nm_r (e' := upd ao m (nI o)) (by rw [nI_clamp (show m < 2 ^ 31 by omega), nI_clamp (show f < 2 ^ 31 by have := H.2.2.1; omega), H.2.2.2.2.2.2.1]) (And.intro hwm (nm_r (e' := upd ap m (nI (i + 1))) (by rw [nI_clamp (show m < 2 ^ 31 by omega), nI_1]) ?_))))))
      exact hp
  · have hk9 := hk2
    clear hk2
    by_cases hk2 : kd m = 3
    · refine ⟨(k1, k2, k3, k4, k5, k6, k7, k8, k9, (nI md), (nI mr), (nI mu), (nI mf), (nI ll), (nI lp), tS, tE, tN, (nI d), (nI f), (nI (m + 1)), en, (nI n), op, co, onm, (nI os), (nI cd), (nI hc), (nI oh), (nI od), cu, (nI fu), (ra f), (rb f), (-1), 0, re, li, da, rk, ra, rb, rc, nm, (upd kd m 3), ls, im, sr, (upd st m (nI (i + 1))), (upd we m (nI e)), ad, wo, tk, gv, io, ia, ck, ci, ce, ou, ox), ((nI md), (nI mr), (nI mu), (nI mf), (nI ll), (nI lp), sv, (nI d), (nI f), (nI (m + 1)), en, (nI n), (nI hc), (nI od), cu, oy, onm, (nI cd), (nI oh), (nI fu), (-1), re, 0, li, da, yk, ya, (upd yb f (nI (i + 1))), nm, (upd kd m 3), ls, im, sr, ad, oo, ol, (upd ao m (nI o)), (upd ap m (nI (i + 1))), ik, iv, ow, ce, oz, ck, ou), Or.inl (tf_MR_in (key (by rw [hk2]; decide) (key2 (by rw [hk2]; decide)))), fun post hp => ?_, fun post hp => ?_⟩
      · refine And.intro hi (nm_r ((tf_rc (by omega)).trans hio) (And.intro hi (nm_r (tf_rc (by omega)) (nm_r (nI_1 i) ?_))))
        repeat first
          | refine br_t (by decide) ?_
          | refine br_f (by decide) ?_
        refine nm_r (nI_pred m) (And.intro hwm ?_)
        refine br_f (by rw [nI_clamp (show m < 2 ^ 31 by omega), hk2]; decide) (And.intro hwm (br_t (by rw [nI_clamp (show m < 2 ^ 31 by omega)]; exact hk2) ?_))
        refine And.intro hwm (nm_r (tf_uc (by omega)) (And.intro hwm (nm_r (tf_uc (by omega)) (And.intro hwm (nm_r (tf_uc (by omega)) ?_)))))
        refine tx_te H.2.2.2.2.1 (by omega) H.2.2.1 (fun t a b => (tf_NE_no (H.2.2.2.1 t a b)).1) ?_
        refine br_t (nI_pos' (by have := H.2.2.1; omega)) (And.intro hfi (nm_r (tf_rc (by have := H.2.2.1; omega)) (And.intro hfi (nm_r (tf_rc (by have := H.2.2.1; omega)) hp))))
      · refine And.intro hi (nm_r ((tf_rc (by omega)).trans hk) ?_)
        repeat first
          | refine br_t (by decide) ?_
          | refine br_f (by decide) ?_
        refine br_t (nI_pos' (by omega)) ?_
        repeat first
          | refine br_t (by decide) ?_
          | refine br_f (by decide) ?_
        refine nm_r (e' := nI d) (pk_sub (a := d) (b := 0) (Nat.zero_le _)) ?_
        repeat first
          | refine br_t (by decide) ?_
          | refine br_f (by decide) ?_
        rw [nI_pred]
        refine And.intro hwm ?_
        refine br_f (by rw [nI_clamp (show m < 2 ^ 31 by omega), hk2]; decide) (And.intro hwm (br_t (by rw [nI_clamp (show m < 2 ^ 31 by omega)]; exact hk2) ?_))
        repeat first
          | refine br_t (by decide) ?_
          | refine br_f (by decide) ?_
        rw [nI_pred]
        refine And.intro hwm (nm_r (tf_uc (by omega)) (And.intro hfi (And.intro hwm (nm_r (e' := upd ao m (nI o)) (by rw [nI_clamp (show m < 2 ^ 31 by omega), nI_clamp (show f < 2 ^ 31 by have := H.2.2.1; omega), H.2.2.2.2.2.2.1]) (And.intro hwm (nm_r (e' := upd ap m (nI (i + 1))) (by rw [nI_clamp (show m < 2 ^ 31 by omega), nI_1]) ?_))))))
        exact hp
    · obtain ⟨u', v', h1, h2, h3⟩ := tl_raise hF1 (-31)
      refine ⟨u', v', tf_M_mono (by omega) h1, fun post hp => ?_, fun post hp => ?_⟩
      · refine And.intro hi (nm_r ((tf_rc (by omega)).trans hio) (And.intro hi (nm_r (tf_rc (by omega)) (nm_r (nI_1 i) ?_))))
        repeat first
          | refine br_t (by decide) ?_
          | refine br_f (by decide) ?_
        refine nm_r (nI_pred m) (And.intro hwm ?_)
        refine br_f (by rw [nI_clamp (show m < 2 ^ 31 by omega)]; exact hk9) (And.intro hwm (br_f (by rw [nI_clamp (show m < 2 ^ 31 by omega)]; exact hk2) ?_))
        exact h2 _ hp
      · refine And.intro hi (nm_r ((tf_rc (by omega)).trans hk) ?_)
        repeat first
          | refine br_t (by decide) ?_
          | refine br_f (by decide) ?_
        refine br_t (nI_pos' (by omega)) ?_
        repeat first
          | refine br_t (by decide) ?_
          | refine br_f (by decide) ?_
        refine nm_r (e' := nI d) (pk_sub (a := d) (b := 0) (Nat.zero_le _)) ?_
        repeat first
          | refine br_t (by decide) ?_
          | refine br_f (by decide) ?_
        rw [nI_pred]
        refine And.intro hwm ?_
        refine br_f (by rw [nI_clamp (show m < 2 ^ 31 by omega)]; exact hk9) (And.intro hwm (br_f (by rw [nI_clamp (show m < 2 ^ 31 by omega)]; exact hk2) ?_))
        exact h3 _ hp

end
end
section
section
variable {md mr mu mf ll lp d r w n os cd hc oh od fu : Nat} {k1 k2 k3 k4 k5 k6 k7 k8 k9 tS tE en op co cu ip ie pe ab re oy sv : Int32} {tN onm : Int64} {li da rk ra rb rc kd ls im sr st we ad wo tk gv io ia ck ci ce ou ox yk ya yb oo ol ao ap ik iv ow oz : Nat → Int32} {nm : Nat → Int64} {lo : Nat}
variable {p c : Nat}
theorem tw_all (F : (tf_F p md mr mu mf ll d r w n os cd hc oh od op co oy onm li nm kd im ad st we wo oo ol ao ap tk gv io ia ik iv ow ck ci ox oz lp fu ip ie rk ra rb rc yk ya yb lo)) (hc' : c < 51) : tf_OB lo (p + 2 * d + 1) c (k1, k2, k3, k4, k5, k6, k7, k8, k9, (nI md), (nI mr), (nI mu), (nI mf), (nI ll), (nI lp), tS, tE, tN, (nI d), (nI r), (nI w), en, (nI n), op, co, onm, (nI os), (nI cd), (nI hc), (nI oh), (nI od), cu, (nI fu), ip, ie, (-1), 0, re, li, da, rk, ra, rb, rc, nm, kd, ls, im, sr, st, we, ad, wo, tk, gv, io, ia, ck, ci, ce, ou, ox) ((nI md), (nI mr), (nI mu), (nI mf), (nI ll), (nI lp), sv, (nI d), (nI r), (nI w), en, (nI n), (nI hc), (nI od), cu, oy, onm, (nI cd), (nI oh), (nI fu), (-1), re, 0, li, da, yk, ya, yb, nm, kd, ls, im, sr, ad, oo, ol, ao, ap, ik, iv, ow, ce, oz, ck, ou) := by
  have h : c = 0 ∨ c = 1 ∨ c = 2 ∨ c = 3 ∨ c = 4 ∨ c = 5 ∨ c = 6 ∨ c = 7 ∨ c = 8 ∨ c = 9 ∨ c = 10 ∨ c = 11 ∨ c = 12 ∨ c = 13 ∨ c = 14 ∨ c = 15 ∨ c = 16 ∨ c = 17 ∨ c = 18 ∨ c = 19 ∨ c = 20 ∨ c = 21 ∨ c = 22 ∨ c = 23 ∨ c = 24 ∨ c = 25 ∨ c = 26 ∨ c = 27 ∨ c = 28 ∨ c = 29 ∨ c = 30 ∨ c = 31 ∨ c = 32 ∨ c = 33 ∨ c = 34 ∨ c = 35 ∨ c = 36 ∨ c = 37 ∨ c = 38 ∨ c = 39 ∨ c = 40 ∨ c = 41 ∨ c = 42 ∨ c = 43 ∨ c = 44 ∨ c = 45 ∨ c = 46 ∨ c = 47 ∨ c = 48 ∨ c = 49 ∨ c = 50 := by omega
  rcases h with h | h | h | h | h | h | h | h | h | h | h | h | h | h | h | h | h | h | h | h | h | h | h | h | h | h | h | h | h | h | h | h | h | h | h | h | h | h | h | h | h | h | h | h | h | h | h | h | h | h | h
  · subst h; exact tw_0 F
  · subst h; exact tw_1 F
  · subst h; exact tw_2 F
  · subst h; exact tw_3 F
  · subst h; exact tw_4 F
  · subst h; exact tw_5 F
  · subst h; exact tw_6 F
  · subst h; exact tw_7 F
  · subst h; exact tw_8 F
  · subst h; exact tw_9 F
  · subst h; exact tw_10 F
  · subst h; exact tw_11 F
  · subst h; exact tw_12 F
  · subst h; exact tw_13 F
  · subst h; exact tw_14 F
  · subst h; exact tw_15 F
  · subst h; exact tw_16 F
  · subst h; exact tw_17 F
  · subst h; exact tw_18 F
  · subst h; exact tw_19 F
  · subst h; exact tw_20 F
  · subst h; exact tw_21 F
  · subst h; exact tw_22 F
  · subst h; exact tw_23 F
  · subst h; exact tw_24 F
  · subst h; exact tw_25 F
  · subst h; exact tw_26 F
  · subst h; exact tw_27 F
  · subst h; exact tw_28 F
  · subst h; exact tw_29 F
  · subst h; exact tw_30 F
  · subst h; exact tw_31 F
  · subst h; exact tw_32 F
  · subst h; exact tw_33 F
  · subst h; exact tw_34 F
  · subst h; exact tw_35 F
  · subst h; exact tw_36 F
  · subst h; exact tw_37 F
  · subst h; exact tw_38 F
  · subst h; exact tw_39 F
  · subst h; exact tw_40 F
  · subst h; exact tw_41 F
  · subst h; exact tw_42 F
  · subst h; exact tw_43 F
  · subst h; exact tw_44 F
  · subst h; exact tw_45 F
  · subst h; exact tw_46 F
  · subst h; exact tw_47 F
  · subst h; exact tw_48 F
  · subst h; exact tw_49 F
  · subst h; exact tw_50 F
def tf_OW (lo p c : Nat) (u : SX) (v : SY) : Prop := ∃ u' v', tf_M lo p u' v' ∧ (∀ post : SX → Prop, post u' → wpX_executeWord post u (nI c)) ∧ (∀ post : SY → Prop, post v' → wpY_execute post v (nI c))
theorem ty_ex2 {post : SY → Prop} {x : Int32} {a : Nat} (hn : n ≤ 96) (ha : a ≤ n) (h1 : a < n → ow a = x) (k : wY_execute_26 post x (nI a) (nI md) (nI mr) (nI mu) (nI mf) (nI ll) (nI lp) sv (nI d) (nI r) (nI w) en (nI n) (nI hc) (nI od) cu oy onm (nI cd) (nI oh) (nI fu) pe re ab li da yk ya yb nm kd ls im sr ad oo ol ao ap ik iv ow ce oz ck ou) : ∀ m i, i + m = n → i ≤ a → (∀ t, i ≤ t → t < a → ow t ≠ x) → wY_execute_2 post x (nI md) (nI mr) (nI mu) (nI mf) (nI ll) (nI lp) sv (nI d) (nI r) (nI w) en (nI n) (nI hc) (nI od) cu oy onm (nI cd) (nI oh) (nI fu) pe re ab li da yk ya yb nm kd ls im sr ad oo ol ao ap ik iv ow ce oz ck ou (m + 1) (nI i)
  | 0, i, h, h2, _ => by
    have e : i = a := by omega
    subst e
    exact br_t (nI_le (by omega) (by omega)) k
  | m + 1, i, h, h2, h3 => by
    refine br_f (nI_ge (by omega) (by omega)) (And.intro (vp_in_nI (by omega) (by omega)) ?_)
    rcases Nat.lt_or_ge i a with g | g
    · exact br_f (by rw [nI_clamp (show i < 2 ^ 31 by omega)]; exact h3 i (Nat.le_refl _) g) (nm_r (nI_1 i) (ty_ex2 hn ha h1 k m (i + 1) (by omega) (by omega) (fun t a b => h3 t (by omega) b)))
    · have e : i = a := by omega
      subst e
      exact br_t (by rw [nI_clamp (show i < 2 ^ 31 by omega)]; exact h1 (by omega)) k
theorem tf_first (ow : Nat → Int32) (x : Int32) (n : Nat) : ∃ a, a ≤ n ∧ (a < n → ow a = x) ∧ ∀ t, t < a → ow t ≠ x := by
  obtain ⟨a, a1, a2, a3, a4⟩ := tf_run (fun t => ow t ≠ x) n n 0 (by omega)
  exact ⟨a, a2, fun z => Classical.not_not.mp (a4 z), fun t ht => a3 t (by omega) ht⟩
theorem ty_ex {post : SY → Prop} {x : Int32} {a : Nat} (hn : n ≤ 96) (ha : a ≤ n) (h1 : a < n → ow a = x) (h2 : ∀ t, t < a → ow t ≠ x) (k : wY_execute_26 post x (nI a) (nI md) (nI mr) (nI mu) (nI mf) (nI ll) (nI lp) sv (nI d) (nI r) (nI w) en (nI n) (nI hc) (nI od) cu oy onm (nI cd) (nI oh) (nI fu) pe re ab li da yk ya yb nm kd ls im sr ad oo ol ao ap ik iv ow ce oz ck ou) : wpY_execute post ((nI md), (nI mr), (nI mu), (nI mf), (nI ll), (nI lp), sv, (nI d), (nI r), (nI w), en, (nI n), (nI hc), (nI od), cu, oy, onm, (nI cd), (nI oh), (nI fu), pe, re, ab, li, da, yk, ya, yb, nm, kd, ls, im, sr, ad, oo, ol, ao, ap, ik, iv, ow, ce, oz, ck, ou) x :=
  Exists.intro (n + 1) (ty_ex2 hn ha h1 k n 0 (by omega) (by omega) (fun t _ b => h2 t b))
/-- a body is entered, in both; q is its kind -/
theorem te_act {i e o j : Nat} {z : Int32} (F : (tf_F p md mr mu mf ll d r w n os cd hc oh od op co oy onm li nm kd im ad st we wo oo ol ao ap tk gv io ia ik iv ow ck ci ox oz lp fu ip ie rk ra rb rc yk ya yb lo)) (hcw : c < w) (hs : st c = nI i) (he : we c = nI e) (hF : tf_FR w kd st we i e o j) (hz : (kd c = 1 ∧ z = 0) ∨ (kd c = 3 ∧ z = 1)) : ∃ u' v', tf_M lo p u' v' ∧ (∀ post : SX → Prop, post u' → wX_activate_15 post (nI c) z k1 k2 k3 k4 k5 k6 k7 k8 k9 (nI md) (nI mr) (nI mu) (nI mf) (nI ll) (nI lp) tS tE tN (nI d) (nI r) (nI w) en (nI n) op co onm (nI os) (nI cd) (nI hc) (nI oh) (nI od) cu (nI fu) ip ie (-1) 0 re li da rk ra rb rc nm kd ls im sr st we ad wo tk gv io ia ck ci ce ou ox) ∧ (∀ post : SY → Prop, post v' → wpY_activate post ((nI md), (nI mr), (nI mu), (nI mf), (nI ll), (nI lp), sv, (nI d), (nI r), (nI w), en, (nI n), (nI hc), (nI od), cu, oy, onm, (nI cd), (nI oh), (nI fu), (-1), re, 0, li, da, yk, ya, yb, nm, kd, ls, im, sr, ad, oo, ol, ao, ap, ik, iv, ow, ce, oz, ck, ou) (nI c) (nI o) (nI j)) := by
  have hB := F.1.1
  have hB2 := hB
  unfold tf_B at hB2
  have hi : vp_in (nI c) 75 := vp_in_nI (by omega) (by omega)
  rcases Nat.eq_zero_or_pos fu with hfu | hfu
  · subst hfu
    obtain ⟨u', v', h1, h2, h3⟩ := tl_nofuel F
    exact ⟨u', v', Or.inr (Or.inr h1), fun post hp => by refine h2 _ ?_; exact br_t rfl hp, fun post hp => by unfold wpY_activate; refine h3 _ ?_; exact br_t rfl hp⟩
  · obtain ⟨g, hg⟩ : ∃ g, fu = g + 1 := ⟨fu - 1, by omega⟩
    subst hg
    obtain ⟨C, f1, f2, q, hRS, hq⟩ := F
    have hie : i ≤ e ∧ e ≤ 96 := ⟨hF.2.2.2.2.2.1, hF.2.2.2.2.2.2.2.1⟩
    have Fg : (tf_F p md mr mu mf ll d r w n os cd hc oh od op co oy onm li nm kd im ad st we wo oo ol ao ap tk gv io ia ik iv ow ck ci ox oz lp g ip ie rk ra rb rc yk ya yb lo) := ⟨C, f1, by omega, q, hRS, by omega⟩
    rcases Nat.lt_or_ge r mr with hr | hr
    · have R1 := tf_RS_call (i := i) (e := e) (o := o) (j := j) (q := q + 67 * (e - i) + 1) (c := 0) hF (Nat.le_refl _) hRS
      rcases hz with ⟨z1, z2⟩ | ⟨z1, z2⟩
      · subst z2
        refine ⟨(k1, k2, k3, k4, k5, k6, k7, k8, k9, (nI md), (nI mr), (nI mu), (nI mf), (nI ll), (nI lp), tS, tE, tN, (nI d), (nI (r+1)), (nI w), en, (nI n), op, co, onm, (nI os), (nI cd), (nI hc), (nI oh), (nI od), cu, (nI g), (nI i), (nI e), (-1), 0, re, li, da, (upd rk r 3), (upd ra r ip), (upd rb r ie), (upd rc r 0), nm, kd, ls, im, sr, st, we, ad, wo, tk, gv, io, ia, ck, ci, ce, ou, ox), ((nI md), (nI mr), (nI mu), (nI mf), (nI ll), (nI lp), sv, (nI d), (nI (r+1)), (nI w), en, (nI n), (nI hc), (nI od), cu, oy, onm, (nI cd), (nI oh), (nI g), (-1), re, 0, li, da, (upd yk r 3), (upd ya r (nI o)), (upd yb r (nI j)), nm, kd, ls, im, sr, ad, oo, ol, ao, ap, ik, iv, ow, ce, oz, ck, ou), Or.inl (tf_MR_in ⟨⟨tf_B_dr hB (by omega) (by omega), C.2⟩, f1, by omega, _, R1, by omega⟩), fun post hp => ?_, fun post hp => ?_⟩
        · refine tx_fuel (by omega) ?_
          refine br_f (by decide) (br_t (nI_lt hr (by omega)) (br_t rfl (tx_pushR hr (by omega) (br_t rfl ?_))))
          exact And.intro hi (nm_r ((tf_rc (by omega)).trans hs) (And.intro hi (nm_r ((tf_rc (by omega)).trans he) hp)))
        · unfold wpY_activate
          refine ty_fuel (by omega) ?_
          refine br_f (by decide) (br_t (nI_lt hr (by omega)) (And.intro hi ?_))
          have hn3 : ¬ kd (nI c).toNatClampNeg = 3 := by rw [nI_clamp (show c < 2 ^ 31 by omega), z1]; decide
          exact br_f hn3 (ty_pushR (by omega) (And.intro hi (br_f hn3 hp)))
      · subst z2
        have h3 : kd (nI c).toNatClampNeg = 3 := by rw [nI_clamp (show c < 2 ^ 31 by omega)]; exact z1
        rcases Nat.lt_or_ge d md with hd | hd
        · refine ⟨(k1, k2, k3, k4, k5, k6, k7, k8, k9, (nI md), (nI mr), (nI mu), (nI mf), (nI ll), (nI lp), tS, tE, tN, (nI (d+1)), (nI (r+1)), (nI w), en, (nI n), op, co, onm, (nI os), (nI cd), (nI hc), (nI oh), (nI od), cu, (nI g), (nI i), (nI e), (-1), 0, re, li, (upd da d (ad c)), (upd rk r 3), (upd ra r ip), (upd rb r ie), (upd rc r 0), nm, kd, ls, im, sr, st, we, ad, wo, tk, gv, io, ia, ck, ci, ce, ou, ox), ((nI md), (nI mr), (nI mu), (nI mf), (nI ll), (nI lp), sv, (nI (d+1)), (nI (r+1)), (nI w), en, (nI n), (nI hc), (nI od), cu, oy, onm, (nI cd), (nI oh), (nI g), (-1), re, 0, li, (upd da d (ad c)), (upd yk r 3), (upd ya r (nI o)), (upd yb r (nI j)), nm, kd, ls, im, sr, ad, oo, ol, ao, ap, ik, iv, ow, ce, oz, ck, ou), Or.inl (tf_MR_in ⟨⟨tf_B_dr hB (by omega) (by omega), C.2⟩, f1, by omega, _, R1, by omega⟩), fun post hp => ?_, fun post hp => ?_⟩
          · refine tx_fuel (by omega) ?_
            refine br_f (by decide) (br_t (nI_lt hr (by omega)) (br_f (by decide) (br_t (nI_lt hd (by omega)) (tx_pushR hr (by omega) (br_f (by decide) (And.intro hi ?_))))))
            rw [nI_clamp (show c < 2 ^ 31 by omega)]
            refine tx_push hd (by omega) ?_
            exact And.intro hi (nm_r ((tf_rc (by omega)).trans hs) (And.intro hi (nm_r ((tf_rc (by omega)).trans he) hp)))
          · unfold wpY_activate
            refine ty_fuel (by omega) ?_
            refine br_f (by decide) (br_t (nI_lt hr (by omega)) (And.intro hi (br_t h3 (br_t (nI_lt hd (by omega)) (ty_pushR (by omega) (And.intro hi (br_t h3 (And.intro hi ?_))))))))
            rw [nI_clamp (show c < 2 ^ 31 by omega)]
            exact ty_push (by omega) hp
        · obtain ⟨u', v', h1, h2, h4⟩ := tl_raise Fg (-3)
          refine ⟨u', v', h1, fun post hp => ?_, fun post hp => ?_⟩
          · refine tx_fuel (by omega) ?_
            exact br_f (by decide) (br_t (nI_lt hr (by omega)) (br_f (by decide) (br_f (nI_nlt hd (by omega)) (h2 _ hp))))
          · unfold wpY_activate
            refine ty_fuel (by omega) ?_
            exact br_f (by decide) (br_t (nI_lt hr (by omega)) (And.intro hi (br_t h3 (br_f (nI_nlt hd (by omega)) (h4 _ hp)))))
    · obtain ⟨u', v', h1, h2, h4⟩ := tl_raise Fg (-5)
      refine ⟨u', v', h1, fun post hp => ?_, fun post hp => ?_⟩
      · refine tx_fuel (by omega) ?_
        exact br_f (by decide) (br_f (nI_nlt hr (by omega)) (h2 _ hp))
      · unfold wpY_activate
        refine ty_fuel (by omega) ?_
        exact br_f (by decide) (br_f (nI_nlt hr (by omega)) (h4 _ hp))
/-- X's four places of a search order -/
theorem tx_unp {post : SX → Prop} {x : Int32} {m : Nat} (hm : x &&& 15 = nI m) (k : post (k1, k2, k3, k4, k5, k6, k7, k8, k9, (nI md), (nI mr), (nI mu), (nI mf), (nI ll), (nI lp), tS, tE, tN, (nI d), (nI r), (nI w), en, (nI n), op, co, onm, (nI os), (nI cd), (nI hc), (nI oh), (nI m), cu, (nI fu), ip, ie, pe, ab, re, li, da, rk, ra, rb, rc, nm, kd, ls, im, sr, st, we, ad, wo, tk, gv, io, ia, ck, ci, ce, ou, (upd (upd (upd (upd ox 0 (tf_ub x 0)) 1 (tf_ub x 1)) 2 (tf_ub x 2)) 3 (tf_ub x 3)))) : wpX_unpackOrder post (k1, k2, k3, k4, k5, k6, k7, k8, k9, (nI md), (nI mr), (nI mu), (nI mf), (nI ll), (nI lp), tS, tE, tN, (nI d), (nI r), (nI w), en, (nI n), op, co, onm, (nI os), (nI cd), (nI hc), (nI oh), (nI od), cu, (nI fu), ip, ie, pe, ab, re, li, da, rk, ra, rb, rc, nm, kd, ls, im, sr, st, we, ad, wo, tk, gv, io, ia, ck, ci, ce, ou, ox) x := by
  refine nm_r hm (Exists.intro 5 ?_)
  refine br_f (by decide) (And.intro (vp_in_nI (n := 0) (by omega) (by omega)) (nm_r (e' := upd ox 0 (tf_ub x 0)) rfl (nm_r (nI_1 0) ?_)))
  refine br_f (by decide) (And.intro (vp_in_nI (n := 1) (by omega) (by omega)) (nm_r (e' := upd (upd ox 0 (tf_ub x 0)) 1 (tf_ub x 1)) rfl (nm_r (nI_1 1) ?_)))
  refine br_f (by decide) (And.intro (vp_in_nI (n := 2) (by omega) (by omega)) (nm_r (e' := upd (upd (upd ox 0 (tf_ub x 0)) 1 (tf_ub x 1)) 2 (tf_ub x 2)) rfl (nm_r (nI_1 2) ?_)))
  refine br_f (by decide) (And.intro (vp_in_nI (n := 3) (by omega) (by omega)) (nm_r (e' := upd (upd (upd (upd ox 0 (tf_ub x 0)) 1 (tf_ub x 1)) 2 (tf_ub x 2)) 3 (tf_ub x 3)) rfl (nm_r (nI_1 3) ?_)))
  exact br_t (by decide) k
theorem ty_206 {post : SY → Prop} {x : Nat} (hx : x < 75) (k : wpY_dropItems (fun u => post u) ((nI md), (nI mr), (nI mu), (nI mf), (nI ll), (nI lp), sv, (nI d), (nI r), (nI w), en, (nI n), (nI hc), (nI od), cu, oy, onm, (nI cd), (nI oh), (nI fu), pe, re, ab, li, da, yk, ya, yb, nm, kd, ls, im, sr, ad, oo, ol, ao, ap, ik, iv, ow, ce, (upd (upd (upd (upd oz 0 (ol (4 * x + 0))) 1 (ol (4 * x + 1))) 2 (ol (4 * x + 2))) 3 (ol (4 * x + 3))), ck, ou)) : wY_execute_206 post (nI x) (nI md) (nI mr) (nI mu) (nI mf) (nI ll) (nI lp) sv (nI d) (nI r) (nI w) en (nI n) (nI hc) (nI od) cu oy onm (nI cd) (nI oh) (nI fu) pe re ab 5 0 li da yk ya yb nm kd ls im sr ad oo ol ao ap ik iv ow ce oz ck ou := by
  have e4 : ∀ i, i < 4 → 4 * nI x + nI i = nI (4 * x + i) := by
    intro i _
    have e1 : (4 : Int32) * nI x = nI (4 * x) := pk_mul 4 x
    rw [e1, nI_add]
  have hv : ∀ i, i < 4 → vp_in (4 * nI x + nI i) 300 := by
    intro i h
    rw [e4 i h]; exact vp_in_nI (by omega) (by omega)
  have hu : ∀ i, i < 4 → ol (4 * nI x + nI i).toNatClampNeg = ol (4 * x + i) := by
    intro i h
    rw [e4 i h, nI_clamp (by omega)]
  refine br_f (by decide) (And.intro (hv 0 (by omega)) (And.intro (vp_in_nI (n := 0) (by omega) (by omega)) (nm_r (e' := upd oz 0 (ol (4 * x + 0))) (congrArg (upd oz 0) (hu 0 (by omega))) (nm_r (nI_1 0) ?_))))
  refine br_f (by decide) (And.intro (hv 1 (by omega)) (And.intro (vp_in_nI (n := 1) (by omega) (by omega)) (nm_r (e' := upd (upd oz 0 (ol (4 * x + 0))) 1 (ol (4 * x + 1))) (congrArg (upd (upd oz 0 (ol (4 * x + 0))) 1) (hu 1 (by omega))) (nm_r (nI_1 1) ?_))))
  refine br_f (by decide) (And.intro (hv 2 (by omega)) (And.intro (vp_in_nI (n := 2) (by omega) (by omega)) (nm_r (e' := upd (upd (upd oz 0 (ol (4 * x + 0))) 1 (ol (4 * x + 1))) 2 (ol (4 * x + 2))) (congrArg (upd (upd (upd oz 0 (ol (4 * x + 0))) 1 (ol (4 * x + 1))) 2) (hu 2 (by omega))) (nm_r (nI_1 2) ?_))))
  refine br_f (by decide) (And.intro (hv 3 (by omega)) (And.intro (vp_in_nI (n := 3) (by omega) (by omega)) (nm_r (e' := upd (upd (upd (upd oz 0 (ol (4 * x + 0))) 1 (ol (4 * x + 1))) 2 (ol (4 * x + 2))) 3 (ol (4 * x + 3))) (congrArg (upd (upd (upd (upd oz 0 (ol (4 * x + 0))) 1 (ol (4 * x + 1))) 2 (ol (4 * x + 2))) 3) (hu 3 (by omega))) (nm_r (nI_1 3) ?_))))
  exact br_t (by decide) k
theorem tf_u03 {g : Nat → Int32} {a b c' e : Int32} {i : Nat} (h : i < 4) : upd (upd (upd (upd g 0 a) 1 b) 2 c') 3 e i = if i = 0 then a else if i = 1 then b else if i = 2 then c' else e := by
  have e' : i = 0 ∨ i = 1 ∨ i = 2 ∨ i = 3 := by omega
  rcases e' with e' | e' | e' | e' <;> subst e' <;> rfl
/-- a marker is executed, in both -/
theorem te_marker (F : (tf_F p md mr mu mf ll d r w n os cd hc oh od op co oy onm li nm kd im ad st we wo oo ol ao ap tk gv io ia ik iv ow ck ci ox oz lp fu ip ie rk ra rb rc yk ya yb lo)) (h51 : 51 ≤ c) (hcw : c < w) (hk : kd c = 4) : ∃ u' v', tf_M lo p u' v' ∧ (∀ post : SX → Prop, post u' → wpX_executeMarker post (k1, k2, k3, k4, k5, k6, k7, k8, k9, (nI md), (nI mr), (nI mu), (nI mf), (nI ll), (nI lp), tS, tE, tN, (nI d), (nI r), (nI w), en, (nI n), op, co, onm, (nI os), (nI cd), (nI hc), (nI oh), (nI od), cu, (nI fu), ip, ie, (-1), 0, re, li, da, rk, ra, rb, rc, nm, kd, ls, im, sr, st, we, ad, wo, tk, gv, io, ia, ck, ci, ce, ou, ox) (nI c)) ∧ (∀ post : SY → Prop, post v' → wY_execute_123 post (nI c) (nI md) (nI mr) (nI mu) (nI mf) (nI ll) (nI lp) sv (nI d) (nI r) (nI w) en (nI n) (nI hc) (nI od) cu oy onm (nI cd) (nI oh) (nI fu) (-1) re 0 li da yk ya yb nm kd ls im sr ad oo ol ao ap ik iv ow ce oz ck ou) := by
  have hB := F.1.1
  have hB2 := hB
  unfold tf_B at hB2
  have hi : vp_in (nI c) 75 := vp_in_nI (by omega) (by omega)
  have hn2 : ¬ kd (nI c).toNatClampNeg = 2 := by rw [nI_clamp (show c < 2 ^ 31 by omega), hk]; decide
  rcases tf_opc F.1 with ⟨o1, o2, o3, o4⟩ | ⟨o1, o2, o3, o4, o5⟩
  · subst o1
    subst o2
    subst o3
    rcases Nat.eq_zero_or_pos r with hr | hr
    · subst hr
      obtain ⟨C, f1, f2, q, hRS, hq⟩ := F
      obtain ⟨_, hL, hT, hO, hN, hQ, Z⟩ := C
      obtain ⟨m, m1, m2, m3, m4, m5⟩ := hQ c h51 hcw
      obtain ⟨s, s1, s2, s3⟩ := (Z.1 c h51 hcw).2.1 hk
      obtain ⟨_, a, a1, a2⟩ := hN.2.2.2 c h51 hcw
      refine ⟨(k1, k2, k3, k4, k5, k6, k7, k8, k9, (nI md), (nI mr), (nI mu), (nI mf), (nI ll), (nI lp), tS, tE, tN, (nI d), (nI 0), (nI c), en, (nI s), 0, co, onm, (nI os), (nI 0), (nI a), (nI oh), (nI m), (ls c), (nI fu), ip, ie, (-1), 0, re, li, da, rk, ra, rb, rc, nm, kd, ls, im, sr, st, we, ad, wo, tk, gv, io, ia, ck, ci, ce, ou, (upd (upd (upd (upd ox 0 (tf_ub (wo c) 0)) 1 (tf_ub (wo c) 1)) 2 (tf_ub (wo c) 2)) 3 (tf_ub (wo c) 3))), ((nI md), (nI mr), (nI mu), (nI mf), (nI ll), (nI lp), sv, (nI d), (nI 0), (nI c), en, (nI s), (nI a), (nI m), (ls c), 0, onm, (nI 0), (nI oh), (nI fu), (-1), re, 0, li, da, yk, ya, yb, nm, kd, ls, im, sr, ad, oo, ol, ao, ap, ik, iv, ow, ce, (upd (upd (upd (upd oz 0 (ol (4 * c + 0))) 1 (ol (4 * c + 1))) 2 (ol (4 * c + 2))) 3 (ol (4 * c + 3))), ck, ou), Or.inl (tf_MR_in ⟨⟨by unfold tf_B; omega, hL, hT, fun i hi' => ?_, ⟨fun k hk' => hN.1 k (by omega), fun k hk' => hN.2.1 k (by omega), hN.2.2.1, fun k k1' k2' => hN.2.2.2 k k1' (by omega)⟩, fun k k1' k2' => hQ k k1' (by omega), tf_Z_cut (co' := co) (onm' := onm) (os' := os) (by omega) s2 s3 (fun i _ h => by rcases h with ⟨_, j, j2, _⟩ | ⟨_, j, c2, j2, _⟩ <;> omega) Z⟩, f1, f2, q, hRS, hq⟩), fun post hp => ?_, fun post hp => ?_⟩
      · obtain ⟨g1, g2⟩ := m5 i hi'
        have h4 : i < 4 := by omega
        rw [tf_u03 h4, tf_u03 h4]
        have e' : i = 0 ∨ i = 1 ∨ i = 2 ∨ i = 3 := by omega
        rcases e' with e' | e' | e' | e' <;> subst e' <;> exact ⟨g1, g2⟩
      · refine br_t rfl (br_t (by decide) (And.intro hi (nm_r ((tf_rc (by omega)).trans s1) (And.intro hi (nm_r ((tf_rc (by omega)).trans a2) (And.intro hi (nm_r (tf_rc (by omega)) (And.intro hi ?_))))))))
        rw [nI_clamp (show c < 2 ^ 31 by omega)]
        exact tx_unp m4 hp
      · refine And.intro hi (br_f hn2 (br_t rfl (br_t (by decide) (And.intro hi (nm_r ((tf_rc (by omega)).trans a2) (And.intro hi (nm_r (tf_rc (by omega)) (And.intro hi (nm_r ((tf_rc (by omega)).trans m3) (Exists.intro 5 (ty_206 (by omega) ?_)))))))))))
        exact ty_drop (by omega) (by omega) s2 (fun i hi' => by
          obtain ⟨⟨b1, b2, b3⟩, _⟩ := Z.2.1 i hi'
          exact ⟨b1, by omega⟩) s3 hp
    · obtain ⟨u', v', h1, h2, h3⟩ := tl_raise F (-29)
      refine ⟨u', v', h1, fun post hp => br_t rfl (br_f (nI_nle hr (by omega)) (h2 _ hp)), fun post hp => And.intro hi (br_f hn2 (br_t rfl (br_f (nI_nle hr (by omega)) (h3 _ hp))))⟩
  · subst o1
    have hne : ¬ oy = 0 := by
      rcases o2 with ⟨_, o2⟩ | ⟨_, o2⟩ <;> subst o2 <;> decide
    obtain ⟨u', v', h1, h2, h3⟩ := tl_raise F (-29)
    exact ⟨u', v', h1, fun post hp => br_f (by decide) (h2 _ hp), fun post hp => And.intro hi (br_f hn2 (br_f hne (h3 _ hp)))⟩
theorem te_exec (F : (tf_F p md mr mu mf ll d r w n os cd hc oh od op co oy onm li nm kd im ad st we wo oo ol ao ap tk gv io ia ik iv ow ck ci ox oz lp fu ip ie rk ra rb rc yk ya yb lo)) (hcw : c < w) : tf_OW lo (p + 2 * d + 1) c (k1, k2, k3, k4, k5, k6, k7, k8, k9, (nI md), (nI mr), (nI mu), (nI mf), (nI ll), (nI lp), tS, tE, tN, (nI d), (nI r), (nI w), en, (nI n), op, co, onm, (nI os), (nI cd), (nI hc), (nI oh), (nI od), cu, (nI fu), ip, ie, (-1), 0, re, li, da, rk, ra, rb, rc, nm, kd, ls, im, sr, st, we, ad, wo, tk, gv, io, ia, ck, ci, ce, ou, ox) ((nI md), (nI mr), (nI mu), (nI mf), (nI ll), (nI lp), sv, (nI d), (nI r), (nI w), en, (nI n), (nI hc), (nI od), cu, oy, onm, (nI cd), (nI oh), (nI fu), (-1), re, 0, li, da, yk, ya, yb, nm, kd, ls, im, sr, ad, oo, ol, ao, ap, ik, iv, ow, ce, oz, ck, ou) := by
  have hB := F.1.1
  have hB2 := hB
  unfold tf_B at hB2
  have hi : vp_in (nI c) 75 := vp_in_nI (by omega) (by omega)
  have hcc : kd (nI c).toNatClampNeg = kd c := tf_rc (by omega)
  obtain ⟨a, ha1, ha2, ha3⟩ := tf_first ow (nI c) n
  have hN := F.1.2.2.2.2.1
  rcases Nat.lt_or_ge c 51 with h51 | h51
  · have hk := hN.2.2.1 c h51
    obtain ⟨u', v', h1, h2, h3⟩ := tw_all F h51
    refine ⟨u', v', h1, fun post hp => And.intro hi (nm_r (hcc.trans hk) (br_t rfl (h2 _ hp))), fun post hp => ty_ex (by omega) ha1 ha2 ha3 (And.intro hi (br_t (hcc.trans hk) (h3 _ hp)))⟩
  · obtain ⟨hkd, a', ha', ead⟩ := hN.2.2.2 c h51 hcw
    obtain ⟨S1, S4, S3⟩ := F.1.2.2.2.2.2.2.1 c h51 hcw
    have n0 : ∀ z : Int32, kd c = z → z ≠ 0 → ¬ kd (nI c).toNatClampNeg = 0 := fun z e1 e2 => by rw [hcc, e1]; exact e2
    rcases hkd with hk | hk | hk | hk
    · obtain ⟨s, e, q1, q2, q3, q4, q5⟩ := S1 hk
      have hFR : tf_FR w kd st we s e c a := by
        refine ⟨h51, hcw, hk, q2, ⟨s, q1, Nat.le_refl _⟩, q3, ?_, by omega, by omega⟩
        have hown : ∀ i, i < n → (ow i = nI c ↔ tf_oN ow i = c) := by
          intro i hi'
          obtain ⟨⟨b1, b2, b3⟩, _⟩ := F.1.2.2.2.2.2.2.2.1 i hi'
          constructor
          · intro h
            unfold tf_oN
            rw [h, nI_clamp (show c < 2 ^ 31 by omega)]
          · intro h
            rw [b1, h]
        rcases Nat.lt_or_ge s e with g | g
        · left
          have hs' := q5 s (by omega)
          have eo : tf_oN ow s = c := by
            have := hs'.2.mp g
            have : ¬ tf_oN ow s < c := fun z => by have := hs'.1.mpr z; omega
            omega
          rcases Nat.lt_or_ge a s with z | z
          · have z2 := (hown a (by omega)).mp (ha2 (by omega))
            have z3 := (q5 a (by omega)).1.mp z
            omega
          · rcases Nat.lt_or_ge s a with z4 | z4
            · exact absurd ((hown s (by omega)).mpr eo) (ha3 s z4)
            · omega
        · right
          refine ⟨by omega, ?_⟩
          rcases Nat.lt_or_ge a n with z | z
          · have z2 := (hown a z).mp (ha2 z)
            have z3 := q5 a z
            have : a < e := z3.2.mpr (by omega)
            have := z3.1.mp (by omega)
            omega
          · omega
      obtain ⟨u', v', h1, h2, h3⟩ := te_act (z := 0) F hcw q1 q2 hFR (Or.inl ⟨hk, rfl⟩)
      refine ⟨u', v', tf_M_mono (by omega) h1, fun post hp => And.intro hi (nm_r (hcc.trans hk) (br_f (by decide) (br_t rfl (And.intro hi (br_f (by rw [hcc, hk]; decide) (h2 _ hp)))))), fun post hp => ty_ex (by omega) ha1 ha2 ha3 (And.intro hi (br_f (n0 1 hk (by decide)) (And.intro hi (br_t (hcc.trans hk) (h3 _ hp)))))⟩
    · rcases Nat.lt_or_ge d md with hd | hd
      · refine ⟨(k1, k2, k3, k4, k5, k6, k7, k8, k9, (nI md), (nI mr), (nI mu), (nI mf), (nI ll), (nI lp), tS, tE, tN, (nI (d+1)), (nI r), (nI w), en, (nI n), op, co, onm, (nI os), (nI cd), (nI hc), (nI oh), (nI od), cu, (nI fu), ip, ie, (-1), 0, re, li, (upd da d (ad c)), rk, ra, rb, rc, nm, kd, ls, im, sr, st, we, ad, wo, tk, gv, io, ia, ck, ci, ce, ou, ox), ((nI md), (nI mr), (nI mu), (nI mf), (nI ll), (nI lp), sv, (nI (d+1)), (nI r), (nI w), en, (nI n), (nI hc), (nI od), cu, oy, onm, (nI cd), (nI oh), (nI fu), (-1), re, 0, li, (upd da d (ad c)), yk, ya, yb, nm, kd, ls, im, sr, ad, oo, ol, ao, ap, ik, iv, ow, ce, oz, ck, ou), tf_M_mono (p := p) (by omega) (Or.inl (tf_MR_in ⟨⟨tf_B_d hB (by omega), F.1.2⟩, F.2⟩)), fun post hp => And.intro hi (nm_r (hcc.trans hk) (br_f (by decide) (br_f (by decide) (br_f (by decide) (br_t rfl (br_t (nI_lt hd (by omega)) (And.intro hi ?_))))))), fun post hp => ty_ex (by omega) ha1 ha2 ha3 (And.intro hi (br_f (n0 2 hk (by decide)) (And.intro hi (br_f (by rw [hcc, hk]; decide) (And.intro hi (br_f (by rw [hcc, hk]; decide) (And.intro hi (br_t (hcc.trans hk) (br_t (nI_lt hd (by omega)) (And.intro hi (br_t (hcc.trans hk) (And.intro hi ?_))))))))))))⟩
        · rw [nI_clamp (show c < 2 ^ 31 by omega)]
          exact tx_push hd (by omega) hp
        · rw [nI_clamp (show c < 2 ^ 31 by omega)]
          exact ty_push (by omega) hp
      · obtain ⟨u', v', h1, h2, h3⟩ := tl_raise F (-3)
        exact ⟨u', v', tf_M_mono (by omega) h1, fun post hp => And.intro hi (nm_r (hcc.trans hk) (br_f (by decide) (br_f (by decide) (br_f (by decide) (br_t rfl (br_f (nI_nlt hd (by omega)) (h2 _ hp))))))), fun post hp => ty_ex (by omega) ha1 ha2 ha3 (And.intro hi (br_f (n0 2 hk (by decide)) (And.intro hi (br_f (by rw [hcc, hk]; decide) (And.intro hi (br_f (by rw [hcc, hk]; decide) (And.intro hi (br_t (hcc.trans hk) (br_f (nI_nlt hd (by omega)) (h3 _ hp))))))))))⟩
    · obtain ⟨i, e, o, j, q1, q2, q3, q4, q5⟩ := S3 hk
      have hFR : tf_FR w kd st we i e o j := by
        obtain ⟨z1, z2, z3⟩ := q5
        exact ⟨z1, by omega, z3⟩
      obtain ⟨u', v', h1, h2, h3⟩ := te_act (z := 1) F hcw q1 q2 hFR (Or.inr ⟨hk, rfl⟩)
      refine ⟨u', v', tf_M_mono (by omega) h1, fun post hp => And.intro hi (nm_r (hcc.trans hk) (br_f (by decide) (br_f (by decide) (br_t rfl (And.intro hi (br_t (hcc.trans hk) (h2 _ hp))))))), fun post hp => ty_ex (by omega) ha1 ha2 ha3 (And.intro hi (br_f (n0 3 hk (by decide)) (And.intro hi (br_f (by rw [hcc, hk]; decide) (And.intro hi (br_t (hcc.trans hk) (And.intro hi (And.intro hi ?_))))))))⟩
      rw [nI_clamp (show c < 2 ^ 31 by omega), q3, q4]
      exact h3 _ hp
    · obtain ⟨u', v', h1, h2, h3⟩ := te_marker F h51 hcw hk
      exact ⟨u', v', tf_M_mono (by omega) h1, fun post hp => And.intro hi (nm_r (hcc.trans hk) (br_f (by decide) (br_f (by decide) (br_f (by decide) (br_f (by decide) (h2 _ hp)))))), fun post hp => ty_ex (by omega) ha1 ha2 ha3 (And.intro hi (br_f (n0 4 hk (by decide)) (And.intro hi (br_f (by rw [hcc, hk]; decide) (And.intro hi (br_f (by rw [hcc, hk]; decide) (And.intro hi (br_f (by rw [hcc, hk]; decide) (h3 _ hp)))))))))⟩
end
end
section
/-! one step of X's run and of Y's loop -/
def tf_XL (post : SX → Prop) (s : Nat) (u : SX) : Prop := match u with
  | (f_ITEM_LIT, f_ITEM_CALL, f_ITEM_COMP, f_ENTRY_VALUE, f_ENTRY_LOOP, f_ENTRY_CALL, f_ENTRY_CATCH, f_AT_OUTER, f_AT_CATCH, f_maxData, f_maxReturn, f_maxUser, f_fuelPerLine, f_lineLen, f_linePos, f_tokenStart, f_tokenEnd, f_tokenName, f_dDepth, f_rDepth, f_words, f_entered, f_itemCount, f_open, f_compiling, f_openName, f_openStart, f_ctlDepth, f_hereCell, f_outHeld, f_orderDepth, f_currentList, f_fuel, f_ip, f_ipEnd, f_pending, f_aborted, f_result, a_line, a_data, a_rKind, a_rA, a_rB, a_rC, a_wName, a_wKind, a_wList, a_wImmediate, a_wSerial, a_wStart, a_wEnd, a_wAddr, a_wOrder, a_takes, a_gives, a_itemOp, a_itemArg, a_ctlKind, a_ctlItem, a_cells, a_output, a_order) => wX_run_17 post (4000001 - s) (nI s) f_ITEM_LIT f_ITEM_CALL f_ITEM_COMP f_ENTRY_VALUE f_ENTRY_LOOP f_ENTRY_CALL f_ENTRY_CATCH f_AT_OUTER f_AT_CATCH f_maxData f_maxReturn f_maxUser f_fuelPerLine f_lineLen f_linePos f_tokenStart f_tokenEnd f_tokenName f_dDepth f_rDepth f_words f_entered f_itemCount f_open f_compiling f_openName f_openStart f_ctlDepth f_hereCell f_outHeld f_orderDepth f_currentList f_fuel f_ip f_ipEnd f_pending f_aborted f_result a_line a_data a_rKind a_rA a_rB a_rC a_wName a_wKind a_wList a_wImmediate a_wSerial a_wStart a_wEnd a_wAddr a_wOrder a_takes a_gives a_itemOp a_itemArg a_ctlKind a_ctlItem a_cells a_output a_order
def tf_YL (post : Int32 → SY → Prop) (s : Nat) (v : SY) : Prop := match v with
  | (f_maxData, f_maxReturn, f_maxUser, f_maxFuel, f_lineLen, f_pos, f_start, f_sp, f_rp, f_words, f_entered, f_items, f_hereAt, f_orders, f_cur, f_open, f_openName, f_ctls, f_outs, f_fuel, f_pending, f_result, f_done, a_line, a_data, a_rKind, a_rA, a_rB, a_names, a_kinds, a_lists, a_immediate, a_serials, a_addr, a_oldOrders, a_oldOrder, a_actOwner, a_actPlace, a_itemKind, a_itemVal, a_owner, a_cells, a_order, a_ctl, a_output) => wY_interpret_35 post (10000001 - s) (nI s) f_maxData f_maxReturn f_maxUser f_maxFuel f_lineLen f_pos f_start f_sp f_rp f_words f_entered f_items f_hereAt f_orders f_cur f_open f_openName f_ctls f_outs f_fuel f_pending f_result f_done a_line a_data a_rKind a_rA a_rB a_names a_kinds a_lists a_immediate a_serials a_addr a_oldOrders a_oldOrder a_actOwner a_actPlace a_itemKind a_itemVal a_owner a_cells a_order a_ctl a_output
section
variable {md mr mu mf ll lp d r w n os cd hc oh od fu : Nat} {k1 k2 k3 k4 k5 k6 k7 k8 k9 tS tE en op co cu ip ie pe ab re oy sv : Int32} {tN onm : Int64} {li da rk ra rb rc kd ls im sr st we ad wo tk gv io ia ck ci ce ou ox yk ya yb oo ol ao ap ik iv ow oz : Nat → Int32} {nm : Nat → Int64} {lo : Nat}
variable {p c s : Nat}
theorem xs_exec {post : SX → Prop} {u' : SX} (hs : s < 4000000) (hcw : c < 2 ^ 31) (hx : ∀ post : SX → Prop, post u' → wpX_executeWord post (k1, k2, k3, k4, k5, k6, k7, k8, k9, (nI md), (nI mr), (nI mu), (nI mf), (nI ll), (nI lp), tS, tE, tN, (nI d), (nI r), (nI w), en, (nI n), op, co, onm, (nI os), (nI cd), (nI hc), (nI oh), (nI od), cu, (nI fu), ip, ie, (-1), 0, re, li, da, rk, ra, rb, rc, nm, kd, ls, im, sr, st, we, ad, wo, tk, gv, io, ia, ck, ci, ce, ou, ox) (nI c)) (K : tf_XL post (s + 1) u') : tf_XL post s (k1, k2, k3, k4, k5, k6, k7, k8, k9, (nI md), (nI mr), (nI mu), (nI mf), (nI ll), (nI lp), tS, tE, tN, (nI d), (nI r), (nI w), en, (nI n), op, co, onm, (nI os), (nI cd), (nI hc), (nI oh), (nI od), cu, (nI fu), ip, ie, (nI c), 0, re, li, da, rk, ra, rb, rc, nm, kd, ls, im, sr, st, we, ad, wo, tk, gv, io, ia, ck, ci, ce, ou, ox) := by
  have e : 4000001 - s = (4000001 - (s + 1)) + 1 := by omega
  show wX_run_17 post (4000001 - s) (nI s) k1 k2 k3 k4 k5 k6 k7 k8 k9 (nI md) (nI mr) (nI mu) (nI mf) (nI ll) (nI lp) tS tE tN (nI d) (nI r) (nI w) en (nI n) op co onm (nI os) (nI cd) (nI hc) (nI oh) (nI od) cu (nI fu) ip ie (nI c) 0 re li da rk ra rb rc nm kd ls im sr st we ad wo tk gv io ia ck ci ce ou ox
  rw [e]
  exact br_f (nI_ge (b := 4000000) hs (by omega)) (br_t rfl (br_f (nI_pos hcw) (hx _ (nm_r (nI_1 s) K))))
theorem xs_ret {post : SX → Prop} (hs : s < 4000000) (K : post (k1, k2, k3, k4, k5, k6, k7, k8, k9, (nI md), (nI mr), (nI mu), (nI mf), (nI ll), (nI lp), tS, tE, tN, (nI d), (nI r), (nI w), en, (nI n), op, co, onm, (nI os), (nI cd), (nI hc), (nI oh), (nI od), cu, (nI fu), (-1), ie, (-1), 0, re, li, da, rk, ra, rb, rc, nm, kd, ls, im, sr, st, we, ad, wo, tk, gv, io, ia, ck, ci, ce, ou, ox)) : tf_XL post s (k1, k2, k3, k4, k5, k6, k7, k8, k9, (nI md), (nI mr), (nI mu), (nI mf), (nI ll), (nI lp), tS, tE, tN, (nI d), (nI r), (nI w), en, (nI n), op, co, onm, (nI os), (nI cd), (nI hc), (nI oh), (nI od), cu, (nI fu), (-1), ie, (-1), 0, re, li, da, rk, ra, rb, rc, nm, kd, ls, im, sr, st, we, ad, wo, tk, gv, io, ia, ck, ci, ce, ou, ox) := by
  have e : 4000001 - s = (4000001 - (s + 1)) + 1 := by omega
  show wX_run_17 post (4000001 - s) (nI s) k1 k2 k3 k4 k5 k6 k7 k8 k9 (nI md) (nI mr) (nI mu) (nI mf) (nI ll) (nI lp) tS tE tN (nI d) (nI r) (nI w) en (nI n) op co onm (nI os) (nI cd) (nI hc) (nI oh) (nI od) cu (nI fu) (-1) ie (-1) 0 re li da rk ra rb rc nm kd ls im sr st we ad wo tk gv io ia ck ci ce ou ox
  rw [e]
  exact br_f (nI_ge (b := 4000000) hs (by omega)) (br_t rfl (br_t (by decide) (br_t rfl K)))
theorem xs_dead {post : SX → Prop} (hs : s < 4000000) (K : post (k1, k2, k3, k4, k5, k6, k7, k8, k9, (nI md), (nI mr), (nI mu), (nI mf), (nI ll), (nI lp), tS, tE, tN, (nI d), (nI r), (nI w), en, (nI n), op, co, onm, (nI os), (nI cd), (nI hc), (nI oh), (nI od), cu, (nI fu), ip, ie, pe, 1, re, li, da, rk, ra, rb, rc, nm, kd, ls, im, sr, st, we, ad, wo, tk, gv, io, ia, ck, ci, ce, ou, ox)) : tf_XL post s (k1, k2, k3, k4, k5, k6, k7, k8, k9, (nI md), (nI mr), (nI mu), (nI mf), (nI ll), (nI lp), tS, tE, tN, (nI d), (nI r), (nI w), en, (nI n), op, co, onm, (nI os), (nI cd), (nI hc), (nI oh), (nI od), cu, (nI fu), ip, ie, pe, 1, re, li, da, rk, ra, rb, rc, nm, kd, ls, im, sr, st, we, ad, wo, tk, gv, io, ia, ck, ci, ce, ou, ox) := by
  have e : 4000001 - s = (4000001 - (s + 1)) + 1 := by omega
  show wX_run_17 post (4000001 - s) (nI s) k1 k2 k3 k4 k5 k6 k7 k8 k9 (nI md) (nI mr) (nI mu) (nI mf) (nI ll) (nI lp) tS tE tN (nI d) (nI r) (nI w) en (nI n) op co onm (nI os) (nI cd) (nI hc) (nI oh) (nI od) cu (nI fu) ip ie pe 1 re li da rk ra rb rc nm kd ls im sr st we ad wo tk gv io ia ck ci ce ou ox
  rw [e]
  exact br_f (nI_ge (b := 4000000) hs (by omega)) (br_f (by decide) K)
theorem xs_catch {post : SX → Prop} {u' : SX} (hs : s < 4000000) (hx : ∀ post : SX → Prop, post u' → wpX_endCatch post (k1, k2, k3, k4, k5, k6, k7, k8, k9, (nI md), (nI mr), (nI mu), (nI mf), (nI ll), (nI lp), tS, tE, tN, (nI d), (nI r), (nI w), en, (nI n), op, co, onm, (nI os), (nI cd), (nI hc), (nI oh), (nI od), cu, (nI fu), (-2), ie, (-1), 0, re, li, da, rk, ra, rb, rc, nm, kd, ls, im, sr, st, we, ad, wo, tk, gv, io, ia, ck, ci, ce, ou, ox)) (K : tf_XL post (s + 1) u') : tf_XL post s (k1, k2, k3, k4, k5, k6, k7, k8, k9, (nI md), (nI mr), (nI mu), (nI mf), (nI ll), (nI lp), tS, tE, tN, (nI d), (nI r), (nI w), en, (nI n), op, co, onm, (nI os), (nI cd), (nI hc), (nI oh), (nI od), cu, (nI fu), (-2), ie, (-1), 0, re, li, da, rk, ra, rb, rc, nm, kd, ls, im, sr, st, we, ad, wo, tk, gv, io, ia, ck, ci, ce, ou, ox) := by
  have e : 4000001 - s = (4000001 - (s + 1)) + 1 := by omega
  show wX_run_17 post (4000001 - s) (nI s) k1 k2 k3 k4 k5 k6 k7 k8 k9 (nI md) (nI mr) (nI mu) (nI mf) (nI ll) (nI lp) tS tE tN (nI d) (nI r) (nI w) en (nI n) op co onm (nI os) (nI cd) (nI hc) (nI oh) (nI od) cu (nI fu) (-2) ie (-1) 0 re li da rk ra rb rc nm kd ls im sr st we ad wo tk gv io ia ck ci ce ou ox
  rw [e]
  exact br_f (nI_ge (b := 4000000) hs (by omega)) (br_t rfl (br_t (by decide) (br_f (by decide) (br_t rfl (hx _ (nm_r (nI_1 s) K))))))
theorem xs_item {post : SX → Prop} {u' : SX} {i e : Nat} (hs : s < 4000000) (hie : i < e) (he : e ≤ 96) (hx : ∀ post : SX → Prop, post u' → wpX_runItem post (k1, k2, k3, k4, k5, k6, k7, k8, k9, (nI md), (nI mr), (nI mu), (nI mf), (nI ll), (nI lp), tS, tE, tN, (nI d), (nI r), (nI w), en, (nI n), op, co, onm, (nI os), (nI cd), (nI hc), (nI oh), (nI od), cu, (nI fu), (nI i), (nI e), (-1), 0, re, li, da, rk, ra, rb, rc, nm, kd, ls, im, sr, st, we, ad, wo, tk, gv, io, ia, ck, ci, ce, ou, ox)) (K : tf_XL post (s + 1) u') : tf_XL post s (k1, k2, k3, k4, k5, k6, k7, k8, k9, (nI md), (nI mr), (nI mu), (nI mf), (nI ll), (nI lp), tS, tE, tN, (nI d), (nI r), (nI w), en, (nI n), op, co, onm, (nI os), (nI cd), (nI hc), (nI oh), (nI od), cu, (nI fu), (nI i), (nI e), (-1), 0, re, li, da, rk, ra, rb, rc, nm, kd, ls, im, sr, st, we, ad, wo, tk, gv, io, ia, ck, ci, ce, ou, ox) := by
  have e' : 4000001 - s = (4000001 - (s + 1)) + 1 := by omega
  show wX_run_17 post (4000001 - s) (nI s) k1 k2 k3 k4 k5 k6 k7 k8 k9 (nI md) (nI mr) (nI mu) (nI mf) (nI ll) (nI lp) tS tE tN (nI d) (nI r) (nI w) en (nI n) op co onm (nI os) (nI cd) (nI hc) (nI oh) (nI od) cu (nI fu) (nI i) (nI e) (-1) 0 re li da rk ra rb rc nm kd ls im sr st we ad wo tk gv io ia ck ci ce ou ox
  rw [e']
  exact br_f (nI_ge (b := 4000000) hs (by omega)) (br_t rfl (br_t (by decide) (br_f (tf_nIm1 (by omega)) (br_f (tf_nIm2 (by omega)) (br_t (nI_lt hie (by omega)) (hx _ (nm_r (nI_1 s) K)))))))
theorem xs_end {post : SX → Prop} {u' : SX} {i e : Nat} (hs : s < 4000000) (hie : e ≤ i) (he : i ≤ 96) (hx : ∀ post : SX → Prop, post u' → wpX_endActivation post (k1, k2, k3, k4, k5, k6, k7, k8, k9, (nI md), (nI mr), (nI mu), (nI mf), (nI ll), (nI lp), tS, tE, tN, (nI d), (nI r), (nI w), en, (nI n), op, co, onm, (nI os), (nI cd), (nI hc), (nI oh), (nI od), cu, (nI fu), (nI i), (nI e), (-1), 0, re, li, da, rk, ra, rb, rc, nm, kd, ls, im, sr, st, we, ad, wo, tk, gv, io, ia, ck, ci, ce, ou, ox)) (K : tf_XL post (s + 1) u') : tf_XL post s (k1, k2, k3, k4, k5, k6, k7, k8, k9, (nI md), (nI mr), (nI mu), (nI mf), (nI ll), (nI lp), tS, tE, tN, (nI d), (nI r), (nI w), en, (nI n), op, co, onm, (nI os), (nI cd), (nI hc), (nI oh), (nI od), cu, (nI fu), (nI i), (nI e), (-1), 0, re, li, da, rk, ra, rb, rc, nm, kd, ls, im, sr, st, we, ad, wo, tk, gv, io, ia, ck, ci, ce, ou, ox) := by
  have e' : 4000001 - s = (4000001 - (s + 1)) + 1 := by omega
  show wX_run_17 post (4000001 - s) (nI s) k1 k2 k3 k4 k5 k6 k7 k8 k9 (nI md) (nI mr) (nI mu) (nI mf) (nI ll) (nI lp) tS tE tN (nI d) (nI r) (nI w) en (nI n) op co onm (nI os) (nI cd) (nI hc) (nI oh) (nI od) cu (nI fu) (nI i) (nI e) (-1) 0 re li da rk ra rb rc nm kd ls im sr st we ad wo tk gv io ia ck ci ce ou ox
  rw [e']
  exact br_f (nI_ge (b := 4000000) hs (by omega)) (br_t rfl (br_t (by decide) (br_f (tf_nIm1 (by omega)) (br_f (tf_nIm2 (by omega)) (br_f (nI_nlt hie (by omega)) (hx _ (nm_r (nI_1 s) K)))))))
/-- Y looks for its topmost call or catch entry -/
theorem ty_scan {post : Int32 → SY → Prop} {J} {x1 : Int32} (k : ∀ x2 : Int32, ((x2 = -1 ∧ ∀ t, t < r → yk t ≠ 3 ∧ yk t ≠ 6) ∨ ∃ f, f < r ∧ x2 = nI f ∧ (yk f = 3 ∨ yk f = 6) ∧ ∀ t, f < t → t < r → yk t ≠ 3 ∧ yk t ≠ 6) → wY_interpret_86 post J x1 x2 (nI md) (nI mr) (nI mu) (nI mf) (nI ll) (nI lp) sv (nI d) (nI r) (nI w) en (nI n) (nI hc) (nI od) cu oy onm (nI cd) (nI oh) (nI fu) pe re ab li da yk ya yb nm kd ls im sr ad oo ol ao ap ik iv ow ce oz ck ou) : ∀ m, m ≤ 32 → m ≤ r → (∀ t, m ≤ t → t < r → yk t ≠ 3 ∧ yk t ≠ 6) → wY_interpret_55 post J x1 (nI md) (nI mr) (nI mu) (nI mf) (nI ll) (nI lp) sv (nI d) (nI r) (nI w) en (nI n) (nI hc) (nI od) cu oy onm (nI cd) (nI oh) (nI fu) pe re ab li da yk ya yb nm kd ls im sr ad oo ol ao ap ik iv ow ce oz ck ou (m + 1) (nI m - 1)
  | 0, _, _, h => by
    rw [tf_m0]
    exact br_t tf_neg1 (k _ (Or.inl ⟨rfl, fun t ht => h t (by omega) ht⟩))
  | m + 1, hm, hm2, h => by
    rw [nI_pred]
    have hi : vp_in (nI m) 32 := vp_in_nI (by omega) (by omega)
    have hc' : yk (nI m).toNatClampNeg = yk m := tf_rc (by omega)
    refine br_f (nI_pos (by omega)) (And.intro hi ?_)
    by_cases h3 : yk m = 3
    · exact br_t (hc'.trans h3) (k _ (Or.inr ⟨m, by omega, rfl, Or.inl h3, fun t a b => h t (by omega) b⟩))
    · refine br_f (by rw [hc']; exact h3) (And.intro hi ?_)
      by_cases h6 : yk m = 6
      · exact br_t (hc'.trans h6) (k _ (Or.inr ⟨m, by omega, rfl, Or.inr h6, fun t a b => h t (by omega) b⟩))
      · refine br_f (by rw [hc']; exact h6) (nm_r (tf_am _) (ty_scan k m (by omega) (by omega) (fun t a b => ?_)))
        rcases Nat.lt_or_ge m t with g | g
        · exact h t (by omega) b
        · have e : t = m := by omega
          rw [e]; exact ⟨h3, h6⟩
theorem ys_head {post : Int32 → SY → Prop} (hs : s < 10000000) (hr : r ≤ 32) (k : ∀ x2 : Int32, ((x2 = -1 ∧ ∀ t, t < r → yk t ≠ 3 ∧ yk t ≠ 6) ∨ ∃ f, f < r ∧ x2 = nI f ∧ (yk f = 3 ∨ yk f = 6) ∧ ∀ t, f < t → t < r → yk t ≠ 3 ∧ yk t ≠ 6) → wY_interpret_86 post (wY_interpret_35 post (10000001 - (s + 1))) (nI s) x2 (nI md) (nI mr) (nI mu) (nI mf) (nI ll) (nI lp) sv (nI d) (nI r) (nI w) en (nI n) (nI hc) (nI od) cu oy onm (nI cd) (nI oh) (nI fu) pe re 0 li da yk ya yb nm kd ls im sr ad oo ol ao ap ik iv ow ce oz ck ou) : tf_YL post s ((nI md), (nI mr), (nI mu), (nI mf), (nI ll), (nI lp), sv, (nI d), (nI r), (nI w), en, (nI n), (nI hc), (nI od), cu, oy, onm, (nI cd), (nI oh), (nI fu), pe, re, 0, li, da, yk, ya, yb, nm, kd, ls, im, sr, ad, oo, ol, ao, ap, ik, iv, ow, ce, oz, ck, ou) := by
  have e : 10000001 - s = (10000001 - (s + 1)) + 1 := by omega
  show wY_interpret_35 post (10000001 - s) (nI s) (nI md) (nI mr) (nI mu) (nI mf) (nI ll) (nI lp) sv (nI d) (nI r) (nI w) en (nI n) (nI hc) (nI od) cu oy onm (nI cd) (nI oh) (nI fu) pe re 0 li da yk ya yb nm kd ls im sr ad oo ol ao ap ik iv ow ce oz ck ou
  rw [e]
  exact br_f (nI_ge (b := 10000000) hs (by omega)) (br_t rfl (nm_e (Exists.intro (r + 1) (ty_scan k r hr (Nat.le_refl _) (fun t a b => by omega)))))
theorem ys_exec {post : Int32 → SY → Prop} {v' : SY} (hs : s < 10000000) (hr : r ≤ 32) (hcw : c < 2 ^ 31) (hx : ∀ post : SY → Prop, post v' → wpY_execute post ((nI md), (nI mr), (nI mu), (nI mf), (nI ll), (nI lp), sv, (nI d), (nI r), (nI w), en, (nI n), (nI hc), (nI od), cu, oy, onm, (nI cd), (nI oh), (nI fu), (-1), re, 0, li, da, yk, ya, yb, nm, kd, ls, im, sr, ad, oo, ol, ao, ap, ik, iv, ow, ce, oz, ck, ou) (nI c)) (K : tf_YL post (s + 1) v') : tf_YL post s ((nI md), (nI mr), (nI mu), (nI mf), (nI ll), (nI lp), sv, (nI d), (nI r), (nI w), en, (nI n), (nI hc), (nI od), cu, oy, onm, (nI cd), (nI oh), (nI fu), (nI c), re, 0, li, da, yk, ya, yb, nm, kd, ls, im, sr, ad, oo, ol, ao, ap, ik, iv, ow, ce, oz, ck, ou) :=
  ys_head hs hr (fun x2 _ => br_f (nI_pos hcw) (hx _ (nm_r (nI_1 s) K)))
theorem ys_frame {post : Int32 → SY → Prop} {v' : SY} {f : Nat} (hs : s < 10000000) (hr : r ≤ 32) (hf : f < r) (hk : yk f = 3 ∨ yk f = 6) (hn : ∀ t, f < t → t < r → yk t ≠ 3 ∧ yk t ≠ 6) (hx : ∀ post : SY → Prop, post v' → wpY_runFrame post ((nI md), (nI mr), (nI mu), (nI mf), (nI ll), (nI lp), sv, (nI d), (nI r), (nI w), en, (nI n), (nI hc), (nI od), cu, oy, onm, (nI cd), (nI oh), (nI fu), (-1), re, 0, li, da, yk, ya, yb, nm, kd, ls, im, sr, ad, oo, ol, ao, ap, ik, iv, ow, ce, oz, ck, ou) (nI f)) (K : tf_YL post (s + 1) v') : tf_YL post s ((nI md), (nI mr), (nI mu), (nI mf), (nI ll), (nI lp), sv, (nI d), (nI r), (nI w), en, (nI n), (nI hc), (nI od), cu, oy, onm, (nI cd), (nI oh), (nI fu), (-1), re, 0, li, da, yk, ya, yb, nm, kd, ls, im, sr, ad, oo, ol, ao, ap, ik, iv, ow, ce, oz, ck, ou) := by
  refine ys_head hs hr (fun x2 h => ?_)
  have e : x2 = nI f := by
    rcases h with ⟨_, h⟩ | ⟨g, g1, g2, g3, g4⟩
    · rcases hk with z | z
      · exact absurd z (h f hf).1
      · exact absurd z (h f hf).2
    · rw [g2]
      rcases Nat.lt_or_ge f g with z | z
      · rcases g3 with y | y
        · exact absurd y (hn g z g1).1
        · exact absurd y (hn g z g1).2
      · rcases Nat.lt_or_ge g f with z2 | z2
        · rcases hk with y | y
          · exact absurd y (g4 f z2 hf).1
          · exact absurd y (g4 f z2 hf).2
        · have : f = g := by omega
          rw [this]
  subst e
  exact br_t (by decide) (br_f (nI_pos (by omega)) (hx _ (nm_r (nI_1 s) K)))
theorem ys_tok {post : Int32 → SY → Prop} {v' : SY} (hs : s < 10000000) (hx : ∀ post : SY → Prop, post v' → wpY_nextToken post ((nI md), (nI mr), (nI mu), (nI mf), (nI ll), (nI lp), sv, (nI d), (nI 0), (nI w), en, (nI n), (nI hc), (nI od), cu, oy, onm, (nI cd), (nI oh), (nI fu), (-1), re, 0, li, da, yk, ya, yb, nm, kd, ls, im, sr, ad, oo, ol, ao, ap, ik, iv, ow, ce, oz, ck, ou)) (K : tf_YL post (s + 1) v') : tf_YL post s ((nI md), (nI mr), (nI mu), (nI mf), (nI ll), (nI lp), sv, (nI d), (nI 0), (nI w), en, (nI n), (nI hc), (nI od), cu, oy, onm, (nI cd), (nI oh), (nI fu), (-1), re, 0, li, da, yk, ya, yb, nm, kd, ls, im, sr, ad, oo, ol, ao, ap, ik, iv, ow, ce, oz, ck, ou) := by
  refine ys_head hs (by omega) (fun x2 h => ?_)
  have e : x2 = -1 := by
    rcases h with ⟨h, _⟩ | ⟨g, g1, _⟩
    · exact h
    · omega
  subst e
  exact br_t (by decide) (br_t (by decide) (hx _ (nm_r (nI_1 s) K)))
theorem ys_done {post : Int32 → SY → Prop} (hs : s < 10000000) (K : post re ((nI md), (nI mr), (nI mu), (nI mf), (nI ll), (nI lp), sv, (nI d), (nI r), (nI w), en, (nI n), (nI hc), (nI od), cu, oy, onm, (nI cd), (nI oh), (nI fu), pe, re, 1, li, da, yk, ya, yb, nm, kd, ls, im, sr, ad, oo, ol, ao, ap, ik, iv, ow, ce, oz, ck, ou)) : tf_YL post s ((nI md), (nI mr), (nI mu), (nI mf), (nI ll), (nI lp), sv, (nI d), (nI r), (nI w), en, (nI n), (nI hc), (nI od), cu, oy, onm, (nI cd), (nI oh), (nI fu), pe, re, 1, li, da, yk, ya, yb, nm, kd, ls, im, sr, ad, oo, ol, ao, ap, ik, iv, ow, ce, oz, ck, ou) := by
  have e : 10000001 - s = (10000001 - (s + 1)) + 1 := by omega
  show wY_interpret_35 post (10000001 - s) (nI s) (nI md) (nI mr) (nI mu) (nI mf) (nI ll) (nI lp) sv (nI d) (nI r) (nI w) en (nI n) (nI hc) (nI od) cu oy onm (nI cd) (nI oh) (nI fu) pe re 1 li da yk ya yb nm kd ls im sr ad oo ol ao ap ik iv ow ce oz ck ou
  rw [e]
  exact br_f (nI_ge (b := 10000000) hs (by omega)) (br_f (by decide) K)
/-- all kinds of items -/
theorem ti_all {f i e o q : Nat} (H : (tf_H p f i e o q md mr mu mf ll d r w n os cd hc oh od op co oy onm li nm kd im ad st we wo oo ol ao ap tk gv io ia ik iv ow ck ci ox oz lp fu rk ra rb rc yk ya yb lo)) : tf_OI lo p f i (k1, k2, k3, k4, k5, k6, k7, k8, k9, (nI md), (nI mr), (nI mu), (nI mf), (nI ll), (nI lp), tS, tE, tN, (nI d), (nI r), (nI w), en, (nI n), op, co, onm, (nI os), (nI cd), (nI hc), (nI oh), (nI od), cu, (nI fu), (nI i), (nI e), (-1), 0, re, li, da, rk, ra, rb, rc, nm, kd, ls, im, sr, st, we, ad, wo, tk, gv, io, ia, ck, ci, ce, ou, ox) ((nI md), (nI mr), (nI mu), (nI mf), (nI ll), (nI lp), sv, (nI d), (nI r), (nI w), en, (nI n), (nI hc), (nI od), cu, oy, onm, (nI cd), (nI oh), (nI fu), (-1), re, 0, li, da, yk, ya, (upd yb f (nI (i + 1))), nm, kd, ls, im, sr, ad, oo, ol, ao, ap, ik, iv, ow, ce, oz, ck, ou) := by
  have hh := tf_H_in H
  rcases (H.1.2.2.2.2.2.2.2.1 i hh.1).2 with z | z | z | z
  · exact ti_lit H z.1
  · exact ti_call H z.1
  · exact ti_comp H z.1
  · obtain ⟨c, c1, c2⟩ := z.2
    have c3 : c = 36 ∨ c = 37 ∨ c = 38 ∨ c = 39 ∨ c = 40 ∨ c = 41 ∨ c = 42 ∨ c = 43 ∨ c = 44 ∨ c = 45 ∨ c = 46 ∨ c = 50 := by omega
    rcases c3 with e | e | e | e | e | e | e | e | e | e | e | e <;> subst e
    · exact ti_36 H c1
    · exact ti_37 H c1
    · exact ti_38 H c1
    · exact ti_39 H c1
    · exact ti_40 H c1
    · exact ti_41 H c1
    · exact ti_42 H c1
    · exact ti_43 H c1
    · exact ti_44 H c1
    · exact ti_45 H c1
    · exact ti_46 H c1
    · exact ti_50 H c1
theorem ts_step (F : (tf_F p md mr mu mf ll d r w n os cd hc oh od op co oy onm li nm kd im ad st we wo oo ol ao ap tk gv io ia ik iv ow ck ci ox oz lp fu ip ie rk ra rb rc yk ya yb lo)) (hr : 0 < r) : 0 < p ∧ ∃ u' v', tf_M lo (p - 1) u' v' ∧ (∀ (post : SX → Prop) s, s < 4000000 → tf_XL post (s + 1) u' → tf_XL post s (k1, k2, k3, k4, k5, k6, k7, k8, k9, (nI md), (nI mr), (nI mu), (nI mf), (nI ll), (nI lp), tS, tE, tN, (nI d), (nI r), (nI w), en, (nI n), op, co, onm, (nI os), (nI cd), (nI hc), (nI oh), (nI od), cu, (nI fu), ip, ie, (-1), 0, re, li, da, rk, ra, rb, rc, nm, kd, ls, im, sr, st, we, ad, wo, tk, gv, io, ia, ck, ci, ce, ou, ox)) ∧ (∀ (post : Int32 → SY → Prop) s, s < 10000000 → tf_YL post (s + 1) v' → tf_YL post s ((nI md), (nI mr), (nI mu), (nI mf), (nI ll), (nI lp), sv, (nI d), (nI r), (nI w), en, (nI n), (nI hc), (nI od), cu, oy, onm, (nI cd), (nI oh), (nI fu), (-1), re, 0, li, da, yk, ya, yb, nm, kd, ls, im, sr, ad, oo, ol, ao, ap, ik, iv, ow, ce, oz, ck, ou)) := by
  obtain ⟨C, h1, h2, p0, hRS, hq⟩ := F
  have hB := C.1
  have hB2 := hB
  unfold tf_B at hB2
  obtain ⟨f, hf, hN, hT⟩ := tf_RS_top hr hRS
  have hfi : vp_in (nI f) 32 := vp_in_nI (by omega) (by omega)
  have hn36 : ∀ t, f < t → t < r → yk t ≠ 3 ∧ yk t ≠ 6 := fun t a b => ⟨(tf_NE_no (hN t a b)).2.2.1, (tf_NE_no (hN t a b)).2.2.2⟩
  have hcf : yk (nI f).toNatClampNeg = yk f := tf_rc (by omega)
  rcases hT with ⟨hk3, y3, i, e, o, j, q, c1, c2, c3, c4, c5, c6, c7⟩ | ⟨c0, hk4, y6, c, q, c1, c2, c3, c4, c5⟩
  · subst c1
    subst c2
    have hn6 : ¬ yk (nI f).toNatClampNeg = 6 := by rw [hcf, y3]; decide
    obtain ⟨g1, g2, g3, g4, ⟨sb, g5, g6⟩, g7, g8, g9, g10⟩ := c5
    obtain ⟨s', e', a1, a2, a3, a4, a5⟩ := (C.2.2.2.2.2.2.1 o g1 g2).1 g3
    have ee : e' = e := tf_inj (by omega) (by omega) (a2.symm.trans g4)
    subst ee
    refine ⟨by omega, ?_⟩
    rcases Nat.lt_or_ge i e' with hie | hie
    · have ej : i = j := by omega
      subst ej
      have H : (tf_H (p - 1) f i e' o q md mr mu mf ll d r w n os cd hc oh od op co oy onm li nm kd im ad st we wo oo ol ao ap tk gv io ia ik iv ow ck ci ox oz lp fu rk ra rb rc yk ya yb lo) := ⟨C, ⟨h1, h2⟩, hf, hN, hk3, y3, c3, ⟨g1, g2, g3, g4, ⟨sb, g5, g6⟩, g7, Or.inl rfl, g9, g10⟩, hie, c6, by omega⟩
      obtain ⟨u', v', m1, m2, m3⟩ := ti_all H
      have hh := tf_H_in H
      refine ⟨u', v', m1, fun post s hs K => xs_item hs hie (by omega) m2 K, fun post s hs K => ys_frame hs (by omega) hf (Or.inl y3) hn36 (fun post hp => ?_) K⟩
      refine And.intro hfi (nm_r ((tf_rc (by omega)).trans c4) (And.intro hfi (br_f hn6 (br_f (nI_ge hh.1 (by omega)) (And.intro (vp_in_nI (by omega) (by omega)) (And.intro hfi (br_t ?_ (And.intro hfi (nm_r (tf_uc1 (by omega)) (m3 _ hp)))))))))) 
      rw [nI_clamp (show i < 2 ^ 31 by omega), nI_clamp (show f < 2 ^ 31 by omega), hh.2.2.2.2.1, c3]
    · have hje : e' ≤ j := by omega
      refine ⟨(k1, k2, k3, k4, k5, k6, k7, k8, k9, (nI md), (nI mr), (nI mu), (nI mf), (nI ll), (nI lp), tS, tE, tN, (nI d), (nI f), (nI w), en, (nI n), op, co, onm, (nI os), (nI cd), (nI hc), (nI oh), (nI od), cu, (nI fu), (ra f), (rb f), (-1), 0, re, li, da, rk, ra, rb, rc, nm, kd, ls, im, sr, st, we, ad, wo, tk, gv, io, ia, ck, ci, ce, ou, ox), ((nI md), (nI mr), (nI mu), (nI mf), (nI ll), (nI lp), sv, (nI d), (nI f), (nI w), en, (nI n), (nI hc), (nI od), cu, oy, onm, (nI cd), (nI oh), (nI fu), (-1), re, 0, li, da, yk, ya, yb, nm, kd, ls, im, sr, ad, oo, ol, ao, ap, ik, iv, ow, ce, oz, ck, ou), Or.inl (tf_MR_in ⟨⟨tf_B_dr hB (by omega) (by omega), C.2⟩, h1, h2, q, c6, by omega⟩), fun post s hs K => xs_end hs hie (by omega) (fun post hp => ?_) K, fun post s hs K => ys_frame hs (by omega) hf (Or.inl y3) hn36 (fun post hp => ?_) K⟩
      · refine tx_te hk3 (by omega) hf (fun t a b => (tf_NE_no (hN t a b)).1) ?_
        exact br_t (nI_pos' (by omega)) (And.intro hfi (nm_r (tf_rc (by omega)) (And.intro hfi (nm_r (tf_rc (by omega)) hp))))
      · refine And.intro hfi (nm_r ((tf_rc (by omega)).trans c4) (And.intro hfi (br_f hn6 ?_)))
        rcases Nat.lt_or_ge j n with hjn | hjn
        · refine br_f (nI_ge hjn (by omega)) (And.intro (vp_in_nI (by omega) (by omega)) (And.intro hfi (br_f (fun z => ?_) hp)))
          rw [nI_clamp (show j < 2 ^ 31 by omega), nI_clamp (show f < 2 ^ 31 by omega), c3] at z
          obtain ⟨⟨b1, b2, b3⟩, _⟩ := C.2.2.2.2.2.2.2.1 j hjn
          have eo : tf_oN ow j = o := by
            unfold tf_oN
            rw [z, nI_clamp (by omega)]
          have := (a5 j hjn).2.mpr (by omega)
          omega
        · exact br_t (nI_le hjn (by omega)) hp
  · subst c0
    refine ⟨by omega, ?_⟩
    have h6 : yk (nI f).toNatClampNeg = 6 := hcf.trans y6
    have Ff : (tf_F (p - 1) md mr mu mf ll d f w n os cd hc oh od op co oy onm li nm kd im ad st we wo oo ol ao ap tk gv io ia ik iv ow ck ci ox oz lp fu (ra f) (rb f) rk ra rb rc yk ya yb lo) := ⟨⟨tf_B_dr hB (by omega) (by omega), C.2⟩, h1, h2, q, c4, by omega⟩
    rcases Nat.lt_or_ge d md with hd | hd
    · refine ⟨(k1, k2, k3, k4, k5, k6, k7, k8, k9, (nI md), (nI mr), (nI mu), (nI mf), (nI ll), (nI lp), tS, tE, tN, (nI (d+1)), (nI f), (nI w), en, (nI n), op, co, onm, (nI os), (nI cd), (nI hc), (nI oh), (nI od), cu, (nI fu), (ra f), (rb f), (-1), 0, re, li, (upd da d 0), rk, ra, rb, rc, nm, kd, ls, im, sr, st, we, ad, wo, tk, gv, io, ia, ck, ci, ce, ou, ox), ((nI md), (nI mr), (nI mu), (nI mf), (nI ll), (nI lp), sv, (nI (d+1)), (nI f), (nI w), en, (nI n), (nI hc), (nI od), cu, oy, onm, (nI cd), (nI oh), (nI fu), (-1), re, 0, li, (upd da d 0), yk, ya, yb, nm, kd, ls, im, sr, ad, oo, ol, ao, ap, ik, iv, ow, ce, oz, ck, ou), Or.inl (tf_MR_in ⟨⟨tf_B_dr hB (by omega) (by omega), C.2⟩, Ff.2⟩), fun post s hs K => xs_catch hs (fun post hp => ?_) K, fun post s hs K => ys_frame hs (by omega) hf (Or.inr y6) hn36 (fun post hp => ?_) K⟩
      · refine tx_te hk4 (by omega) hf (fun t a b => (tf_NE_no (hN t a b)).2.1) ?_
        exact br_t (nI_pos' (by omega)) (And.intro hfi (nm_r (tf_rc (by omega)) (And.intro hfi (nm_r (tf_rc (by omega)) (br_t (nI_lt hd (by omega)) (tx_push hd (by omega) hp))))))
      · exact And.intro hfi (nm_e (And.intro hfi (br_t h6 (br_t (nI_lt hd (by omega)) (ty_push (by omega) hp)))))
    · obtain ⟨u', v', m1, m2, m3⟩ := tl_raise Ff (-3)
      refine ⟨u', v', m1, fun post s hs K => xs_catch hs (fun post hp => ?_) K, fun post s hs K => ys_frame hs (by omega) hf (Or.inr y6) hn36 (fun post hp => ?_) K⟩
      · refine tx_te hk4 (by omega) hf (fun t a b => (tf_NE_no (hN t a b)).2.1) ?_
        exact br_t (nI_pos' (by omega)) (And.intro hfi (nm_r (tf_rc (by omega)) (And.intro hfi (nm_r (tf_rc (by omega)) (br_f (nI_nlt hd (by omega)) (m2 _ hp))))))
      · exact And.intro hfi (nm_e (And.intro hfi (br_t h6 (br_f (nI_nlt hd (by omega)) (m3 _ hp)))))
end
end
section
/-! X's run against Y's loop -/
/-- ready at the outer level -/
def tf_M0 (lo p : Nat) (u : SX) (v : SY) : Prop := ∃ (md mr mu mf ll lp d r w n os cd hc oh od fu : Nat) (k1 k2 k3 k4 k5 k6 k7 k8 k9 tS tE en op co cu ip ie pe ab re oy sv : Int32) (tN onm : Int64) (li da rk ra rb rc kd ls im sr st we ad wo tk gv io ia ck ci ce ou ox yk ya yb oo ol ao ap ik iv ow oz : Nat → Int32) (nm : Nat → Int64), u = (k1, k2, k3, k4, k5, k6, k7, k8, k9, (nI md), (nI mr), (nI mu), (nI mf), (nI ll), (nI lp), tS, tE, tN, (nI d), (nI 0), (nI w), en, (nI n), op, co, onm, (nI os), (nI cd), (nI hc), (nI oh), (nI od), cu, (nI fu), (-1), ie, (-1), 0, re, li, da, rk, ra, rb, rc, nm, kd, ls, im, sr, st, we, ad, wo, tk, gv, io, ia, ck, ci, ce, ou, ox) ∧ v = ((nI md), (nI mr), (nI mu), (nI mf), (nI ll), (nI lp), sv, (nI d), (nI 0), (nI w), en, (nI n), (nI hc), (nI od), cu, oy, onm, (nI cd), (nI oh), (nI fu), (-1), re, 0, li, da, yk, ya, yb, nm, kd, ls, im, sr, ad, oo, ol, ao, ap, ik, iv, ow, ce, oz, ck, ou) ∧ (tf_F p md mr mu mf ll d 0 w n os cd hc oh od op co oy onm li nm kd im ad st we wo oo ol ao ap tk gv io ia ik iv ow ck ci ox oz lp fu (-1) ie rk ra rb rc yk ya yb lo)
theorem tf_M0_el {lo p : Nat} {u : SX} {v : SY} {P : SX → SY → Prop} (H : ∀ (md mr mu mf ll lp d r w n os cd hc oh od fu : Nat) (k1 k2 k3 k4 k5 k6 k7 k8 k9 tS tE en op co cu ip ie pe ab re oy sv : Int32) (tN onm : Int64) (li da rk ra rb rc kd ls im sr st we ad wo tk gv io ia ck ci ce ou ox yk ya yb oo ol ao ap ik iv ow oz : Nat → Int32) (nm : Nat → Int64), (tf_F p md mr mu mf ll d 0 w n os cd hc oh od op co oy onm li nm kd im ad st we wo oo ol ao ap tk gv io ia ik iv ow ck ci ox oz lp fu (-1) ie rk ra rb rc yk ya yb lo) → P (k1, k2, k3, k4, k5, k6, k7, k8, k9, (nI md), (nI mr), (nI mu), (nI mf), (nI ll), (nI lp), tS, tE, tN, (nI d), (nI 0), (nI w), en, (nI n), op, co, onm, (nI os), (nI cd), (nI hc), (nI oh), (nI od), cu, (nI fu), (-1), ie, (-1), 0, re, li, da, rk, ra, rb, rc, nm, kd, ls, im, sr, st, we, ad, wo, tk, gv, io, ia, ck, ci, ce, ou, ox) ((nI md), (nI mr), (nI mu), (nI mf), (nI ll), (nI lp), sv, (nI d), (nI 0), (nI w), en, (nI n), (nI hc), (nI od), cu, oy, onm, (nI cd), (nI oh), (nI fu), (-1), re, 0, li, da, yk, ya, yb, nm, kd, ls, im, sr, ad, oo, ol, ao, ap, ik, iv, ow, ce, oz, ck, ou)) (h : tf_M0 lo p u v) : P u v :=
  Exists.elim h fun md h => Exists.elim h fun mr h => Exists.elim h fun mu h => Exists.elim h fun mf h => Exists.elim h fun ll h => Exists.elim h fun lp h => Exists.elim h fun d h => Exists.elim h fun r h => Exists.elim h fun w h => Exists.elim h fun n h => Exists.elim h fun os h => Exists.elim h fun cd h => Exists.elim h fun hc h => Exists.elim h fun oh h => Exists.elim h fun od h => Exists.elim h fun fu h => Exists.elim h fun k1 h => Exists.elim h fun k2 h => Exists.elim h fun k3 h => Exists.elim h fun k4 h => Exists.elim h fun k5 h => Exists.elim h fun k6 h => Exists.elim h fun k7 h => Exists.elim h fun k8 h => Exists.elim h fun k9 h => Exists.elim h fun tS h => Exists.elim h fun tE h => Exists.elim h fun en h => Exists.elim h fun op h => Exists.elim h fun co h => Exists.elim h fun cu h => Exists.elim h fun ip h => Exists.elim h fun ie h => Exists.elim h fun pe h => Exists.elim h fun ab h => Exists.elim h fun re h => Exists.elim h fun oy h => Exists.elim h fun sv h => Exists.elim h fun tN h => Exists.elim h fun onm h => Exists.elim h fun li h => Exists.elim h fun da h => Exists.elim h fun rk h => Exists.elim h fun ra h => Exists.elim h fun rb h => Exists.elim h fun rc h => Exists.elim h fun kd h => Exists.elim h fun ls h => Exists.elim h fun im h => Exists.elim h fun sr h => Exists.elim h fun st h => Exists.elim h fun we h => Exists.elim h fun ad h => Exists.elim h fun wo h => Exists.elim h fun tk h => Exists.elim h fun gv h => Exists.elim h fun io h => Exists.elim h fun ia h => Exists.elim h fun ck h => Exists.elim h fun ci h => Exists.elim h fun ce h => Exists.elim h fun ou h => Exists.elim h fun ox h => Exists.elim h fun yk h => Exists.elim h fun ya h => Exists.elim h fun yb h => Exists.elim h fun oo h => Exists.elim h fun ol h => Exists.elim h fun ao h => Exists.elim h fun ap h => Exists.elim h fun ik h => Exists.elim h fun iv h => Exists.elim h fun ow h => Exists.elim h fun oz h => Exists.elim h fun nm h => Eq.subst (motive := fun u => P u v) h.1.symm (Eq.subst (motive := fun v => P (k1, k2, k3, k4, k5, k6, k7, k8, k9, (nI md), (nI mr), (nI mu), (nI mf), (nI ll), (nI lp), tS, tE, tN, (nI d), (nI 0), (nI w), en, (nI n), op, co, onm, (nI os), (nI cd), (nI hc), (nI oh), (nI od), cu, (nI fu), (-1), ie, (-1), 0, re, li, da, rk, ra, rb, rc, nm, kd, ls, im, sr, st, we, ad, wo, tk, gv, io, ia, ck, ci, ce, ou, ox) v) h.2.1.symm (H md mr mu mf ll lp d r w n os cd hc oh od fu k1 k2 k3 k4 k5 k6 k7 k8 k9 tS tE en op co cu ip ie pe ab re oy sv tN onm li da rk ra rb rc kd ls im sr st we ad wo tk gv io ia ck ci ce ou ox yk ya yb oo ol ao ap ik iv ow oz nm h.2.2))
/-- the outcome of running on -/
def tf_RO (lo p sx sy : Nat) (u : SX) (v : SY) : Prop := ∃ u' v' sy' p', (tf_M0 lo p' u' v' ∨ tf_MD u' v') ∧ (sy' + p' ≤ sy + p ∧ p' ≤ p) ∧ (∀ post : SX → Prop, post u' → tf_XL post sx u) ∧ (∀ post : Int32 → SY → Prop, tf_YL post sy' v' → tf_YL post sy v)
section
variable {md mr mu mf ll lp d r w n os cd hc oh od fu : Nat} {k1 k2 k3 k4 k5 k6 k7 k8 k9 tS tE en op co cu ip ie pe ab re oy sv : Int32} {tN onm : Int64} {li da rk ra rb rc kd ls im sr st we ad wo tk gv io ia ck ci ce ou ox yk ya yb oo ol ao ap ik iv ow oz : Nat → Int32} {nm : Nat → Int64} {lo : Nat}
theorem tf_M0_in {p : Nat} (h : (tf_F p md mr mu mf ll d 0 w n os cd hc oh od op co oy onm li nm kd im ad st we wo oo ol ao ap tk gv io ia ik iv ow ck ci ox oz lp fu (-1) ie rk ra rb rc yk ya yb lo)) : tf_M0 lo p (k1, k2, k3, k4, k5, k6, k7, k8, k9, (nI md), (nI mr), (nI mu), (nI mf), (nI ll), (nI lp), tS, tE, tN, (nI d), (nI 0), (nI w), en, (nI n), op, co, onm, (nI os), (nI cd), (nI hc), (nI oh), (nI od), cu, (nI fu), (-1), ie, (-1), 0, re, li, da, rk, ra, rb, rc, nm, kd, ls, im, sr, st, we, ad, wo, tk, gv, io, ia, ck, ci, ce, ou, ox) ((nI md), (nI mr), (nI mu), (nI mf), (nI ll), (nI lp), sv, (nI d), (nI 0), (nI w), en, (nI n), (nI hc), (nI od), cu, oy, onm, (nI cd), (nI oh), (nI fu), (-1), re, 0, li, da, yk, ya, yb, nm, kd, ls, im, sr, ad, oo, ol, ao, ap, ik, iv, ow, ce, oz, ck, ou) := Exists.intro md ( Exists.intro mr ( Exists.intro mu ( Exists.intro mf ( Exists.intro ll ( Exists.intro lp ( Exists.intro d ( Exists.intro 0 ( Exists.intro w ( Exists.intro n ( Exists.intro os ( Exists.intro cd ( Exists.intro hc ( Exists.intro oh ( Exists.intro od ( Exists.intro fu ( Exists.intro k1 ( Exists.intro k2 ( Exists.intro k3 ( Exists.intro k4 ( Exists.intro k5 ( Exists.intro k6 ( Exists.intro k7 ( Exists.intro k8 ( Exists.intro k9 ( Exists.intro tS ( Exists.intro tE ( Exists.intro en ( Exists.intro op ( Exists.intro co ( Exists.intro cu ( Exists.intro 0 ( Exists.intro ie ( Exists.intro 0 ( Exists.intro 0 ( Exists.intro re ( Exists.intro oy ( Exists.intro sv ( Exists.intro tN ( Exists.intro onm ( Exists.intro li ( Exists.intro da ( Exists.intro rk ( Exists.intro ra ( Exists.intro rb ( Exists.intro rc ( Exists.intro kd ( Exists.intro ls ( Exists.intro im ( Exists.intro sr ( Exists.intro st ( Exists.intro we ( Exists.intro ad ( Exists.intro wo ( Exists.intro tk ( Exists.intro gv ( Exists.intro io ( Exists.intro ia ( Exists.intro ck ( Exists.intro ci ( Exists.intro ce ( Exists.intro ou ( Exists.intro ox ( Exists.intro yk ( Exists.intro ya ( Exists.intro yb ( Exists.intro oo ( Exists.intro ol ( Exists.intro ao ( Exists.intro ap ( Exists.intro ik ( Exists.intro iv ( Exists.intro ow ( Exists.intro oz ( Exists.intro nm ( ⟨rfl, rfl, h⟩)))))))))))))))))))))))))))))))))))))))))))))))))))))))))))))))))))))))))))
theorem ts_run : ∀ b p, p < b → ∀ u v, tf_M lo p u v → ∀ sx sy, sx + p < 4000000 → sy + p < 10000000 → tf_RO lo p sx sy u v
  | 0, p, h, _, _, _ => absurd h (by omega)
  | b + 1, p, hb, u, v, H => by
    rcases H with H | H | H
    · refine tf_MR_el (P := fun u v => ∀ sx sy, sx + p < 4000000 → sy + p < 10000000 → tf_RO lo p sx sy u v) ?_ H
      intro md mr mu mf ll lp d r w n os cd hc oh od fu k1 k2 k3 k4 k5 k6 k7 k8 k9 tS tE en op co cu ip ie pe ab re oy sv tN onm li da rk ra rb rc kd ls im sr st we ad wo tk gv io ia ck ci ce ou ox yk ya yb oo ol ao ap ik iv ow oz nm F sx sy hsx hsy
      rcases Nat.eq_zero_or_pos r with hr | hr
      · subst hr
        have hip : ip = -1 := by
          obtain ⟨_, _, _, _, hRS, _⟩ := F
          exact hRS
        subst hip
        exact ⟨_, _, sy, p, Or.inl (tf_M0_in F), by omega, fun post hp => xs_ret (by omega) hp, fun post h => h⟩
      · obtain ⟨hp0, u', v', m1, m2, m3⟩ := ts_step F hr
        obtain ⟨u2, v2, sy2, p2, q1, q2, q3, q4⟩ := ts_run b (p - 1) (by omega) u' v' m1 (sx + 1) (sy + 1) (by omega) (by omega)
        exact ⟨u2, v2, sy2, p2, q1, by omega, fun post hp => m2 post sx (by omega) (q3 post hp), fun post h => m3 post sy (by omega) (q4 post h)⟩
    · refine tf_MP_el (P := fun u v => ∀ sx sy, sx + p < 4000000 → sy + p < 10000000 → tf_RO lo p sx sy u v) ?_ H
      intro c q md mr mu mf ll lp d r w n os cd hc oh od fu k1 k2 k3 k4 k5 k6 k7 k8 k9 tS tE en op co cu ip ie pe ab re oy sv tN onm li da rk ra rb rc kd ls im sr st we ad wo tk gv io ia ck ci ce ou ox yk ya yb oo ol ao ap ik iv ow oz nm F hcw hq sx sy hsx hsy
      have hB := F.1.1
      unfold tf_B at hB
      obtain ⟨u', v', m1, m2, m3⟩ := te_exec F hcw
      obtain ⟨u2, v2, sy2, p2, q1, q2, q3, q4⟩ := ts_run b (p - 1) (by omega) u' v' (tf_M_mono (by omega) m1) (sx + 1) (sy + 1) (by omega) (by omega)
      exact ⟨u2, v2, sy2, p2, q1, by omega, fun post hp => xs_exec (by omega) (by omega) m2 (q3 post hp), fun post h => ys_exec (by omega) (by omega) (by omega) m3 (q4 post h)⟩
    · refine tf_MD_el (P := fun u v => ∀ sx sy, sx + p < 4000000 → sy + p < 10000000 → tf_RO lo p sx sy u v) ?_ H
      intro md mr mu mf ll lp d r w n os cd hc oh od fu k1 k2 k3 k4 k5 k6 k7 k8 k9 tS tE en op co cu ip ie pe ab re oy sv tN onm li da rk ra rb rc kd ls im sr st we ad wo tk gv io ia ck ci ce ou ox yk ya yb oo ol ao ap ik iv ow oz nm C sx sy hsx hsy
      exact ⟨_, _, sy, 0, Or.inr (tf_MD_in C), by omega, fun post hp => xs_dead (by omega) hp, fun post h => h⟩
end
end
section
/-! a token as a number, in both -/
def tf_D (li : Nat → Int32) (t : Nat) : Prop := ¬ li t < 48 ∧ li t ≤ 57
def tf_f0 (li : Nat → Int32) (a : Nat) : Nat := if li a = 45 then a + 1 else a
def tf_num (li : Nat → Int32) (a b : Nat) : Prop := tf_f0 li a < b ∧ ∀ t, tf_f0 li a ≤ t → t < b → tf_D li t
/-- the value of j digits from place f on -/
def tf_nv (li : Nat → Int32) (f : Nat) : Nat → Int32
  | 0 => 0
  | j + 1 => tf_nv li f j * 10 + (li (f + j) - 48)
/-- the value of a token -/
def tf_val (li : Nat → Int32) (a b : Nat) : Int32 := if li a = 45 then -(tf_nv li (a + 1) (b - (a + 1))) else tf_nv li a (b - a)
theorem tf_D45 {li : Nat → Int32} {t : Nat} (h : tf_D li t) : ¬ li t = 45 := by
  intro z
  exact h.1 (by rw [z]; decide)
section
variable {md mr mu mf ll lp d r w n os cd hc oh od fu : Nat} {k1 k2 k3 k4 k5 k6 k7 k8 k9 tS tE en op co cu ip ie pe ab re oy sv : Int32} {tN onm : Int64} {li da rk ra rb rc kd ls im sr st we ad wo tk gv io ia ck ci ce ou ox yk ya yb oo ol ao ap ik iv ow oz : Nat → Int32} {nm : Nat → Int64} {lo : Nat}
theorem tx_in39 {post : Int32 → Prop} {b : Nat} (hb : b ≤ 128) (kt : (∀ t, 0 ≤ t → True) → post 1) : ∀ m i, i + m = b → (∀ t, i ≤ t → t < b → tf_D li t) → wX_tokenIsNumber_39 post k1 k2 k3 k4 k5 k6 k7 k8 k9 (nI md) (nI mr) (nI mu) (nI mf) (nI ll) (nI lp) tS (nI b) tN (nI d) (nI r) (nI w) en (nI n) op co onm (nI os) (nI cd) (nI hc) (nI oh) (nI od) cu (nI fu) ip ie pe ab re li da rk ra rb rc nm kd ls im sr st we ad wo tk gv io ia ck ci ce ou ox (m + 1) (nI i)
  | 0, i, h, _ => by
    have e : i = b := by omega
    subst e
    exact br_t (nI_le (Nat.le_refl _) (by omega)) (kt (fun _ _ => trivial))
  | m + 1, i, h, hD => by
    have hi : vp_in (nI i) 128 := vp_in_nI (by omega) (by omega)
    have hcl : li (nI i).toNatClampNeg = li i := tf_rc (by omega)
    obtain ⟨d1, d2⟩ := hD i (Nat.le_refl _) (by omega)
    exact br_f (nI_ge (by omega) (by omega)) (And.intro hi (br_f (by rw [hcl]; exact d1) (And.intro hi (br_t (by rw [hcl]; exact d2) (nm_r (nI_1 i) (tx_in39 hb kt m (i + 1) (by omega) (fun t a b => hD t (by omega) b)))))))
theorem tx_in39n {post : Int32 → Prop} {b : Nat} (hb : b ≤ 128) (kf : post 0) : ∀ m i, i + m = b → (∃ t, i ≤ t ∧ t < b ∧ ¬ tf_D li t) → wX_tokenIsNumber_39 post k1 k2 k3 k4 k5 k6 k7 k8 k9 (nI md) (nI mr) (nI mu) (nI mf) (nI ll) (nI lp) tS (nI b) tN (nI d) (nI r) (nI w) en (nI n) op co onm (nI os) (nI cd) (nI hc) (nI oh) (nI od) cu (nI fu) ip ie pe ab re li da rk ra rb rc nm kd ls im sr st we ad wo tk gv io ia ck ci ce ou ox (m + 1) (nI i)
  | 0, i, h, hD => by
    obtain ⟨t, t1, t2, _⟩ := hD
    omega
  | m + 1, i, h, hD => by
    have hi : vp_in (nI i) 128 := vp_in_nI (by omega) (by omega)
    have hcl : li (nI i).toNatClampNeg = li i := tf_rc (by omega)
    refine br_f (nI_ge (by omega) (by omega)) (And.intro hi ?_)
    by_cases d1 : li i < 48
    · exact br_t (by rw [hcl]; exact d1) kf
    · refine br_f (by rw [hcl]; exact d1) (And.intro hi ?_)
      by_cases d2 : li i ≤ 57
      · refine br_t (by rw [hcl]; exact d2) (nm_r (nI_1 i) (tx_in39n hb kf m (i + 1) (by omega) ?_))
        obtain ⟨t, t1, t2, t3⟩ := hD
        rcases Nat.lt_or_ge i t with g | g
        · exact ⟨t, by omega, t2, t3⟩
        · have e : t = i := by omega
          subst e
          exact absurd ⟨d1, d2⟩ t3
      · exact br_f (by rw [hcl]; exact d2) kf
theorem tx_in27 {post : Int32 → Prop} {b i : Nat} (hb : b ≤ 128) (hi : i ≤ b) (kt : (i < b ∧ ∀ t, i ≤ t → t < b → tf_D li t) → post 1) (kf : ¬ (i < b ∧ ∀ t, i ≤ t → t < b → tf_D li t) → post 0) : wX_tokenIsNumber_27 post (nI i) k1 k2 k3 k4 k5 k6 k7 k8 k9 (nI md) (nI mr) (nI mu) (nI mf) (nI ll) (nI lp) tS (nI b) tN (nI d) (nI r) (nI w) en (nI n) op co onm (nI os) (nI cd) (nI hc) (nI oh) (nI od) cu (nI fu) ip ie pe ab re li da rk ra rb rc nm kd ls im sr st we ad wo tk gv io ia ck ci ce ou ox := by
  rcases Nat.lt_or_ge i b with g | g
  · refine br_t (nI_lt g (by omega)) ?_
    by_cases h : ∀ t, i ≤ t → t < b → tf_D li t
    · exact Exists.intro (b - i + 1) (tx_in39 hb (fun _ => kt ⟨g, h⟩) (b - i) i (by omega) h)
    · refine Exists.intro (b - i + 1) (tx_in39n hb (kf (fun z => h z.2)) (b - i) i (by omega) ?_)
      refine Classical.byContradiction (fun z => h (fun t t1 t2 => Classical.byContradiction (fun y => z ⟨t, t1, t2, y⟩)))
  · exact br_f (nI_nlt g (by omega)) (kf (fun z => by have := z.1; omega))
theorem tx_isn {post : Int32 → Prop} {a b : Nat} (hb : b ≤ 128) (hab : a < b) (kt : tf_num li a b → post 1) (kf : ¬ tf_num li a b → post 0) : wpX_tokenIsNumber post (k1, k2, k3, k4, k5, k6, k7, k8, k9, (nI md), (nI mr), (nI mu), (nI mf), (nI ll), (nI lp), (nI a), (nI b), tN, (nI d), (nI r), (nI w), en, (nI n), op, co, onm, (nI os), (nI cd), (nI hc), (nI oh), (nI od), cu, (nI fu), ip, ie, pe, ab, re, li, da, rk, ra, rb, rc, nm, kd, ls, im, sr, st, we, ad, wo, tk, gv, io, ia, ck, ci, ce, ou, ox) := by
  have hcl : li (nI a).toNatClampNeg = li a := tf_rc (by omega)
  refine br_f (nI_ge hab (by omega)) (And.intro (vp_in_nI (by omega) (by omega)) ?_)
  unfold tf_num tf_f0 at kt kf
  by_cases h : li a = 45
  · rw [if_pos h] at kt kf
    exact br_t (by rw [hcl]; exact h) (nm_r (nI_1 a) (tx_in27 hb (by omega) kt kf))
  · rw [if_neg h] at kt kf
    exact br_f (by rw [hcl]; exact h) (tx_in27 hb (by omega) kt kf)
theorem tx_tv9 {post : Int32 → Prop} {f b : Nat} {z : Int32} (hb : b ≤ 128) (hf : f ≤ b) (k : (z = 0 → post (tf_nv li f (b - f))) ∧ (¬ z = 0 → post (-(tf_nv li f (b - f))))) : ∀ m j, f + j + m = b → (∀ t, f + j ≤ t → t < b → tf_D li t) → wX_tokenValue_9 post k1 k2 k3 k4 k5 k6 k7 k8 k9 (nI md) (nI mr) (nI mu) (nI mf) (nI ll) (nI lp) tS (nI b) tN (nI d) (nI r) (nI w) en (nI n) op co onm (nI os) (nI cd) (nI hc) (nI oh) (nI od) cu (nI fu) ip ie pe ab re li da rk ra rb rc nm kd ls im sr st we ad wo tk gv io ia ck ci ce ou ox (m + 1) (tf_nv li f j) z (nI (f + j))
  | 0, j, h, _ => by
    have e : j = b - f := by omega
    subst e
    have e2 : f + (b - f) = b := by omega
    rw [e2]
    exact br_t (nI_le (Nat.le_refl _) (by omega)) k
  | m + 1, j, h, hD => by
    have hi : vp_in (nI (f + j)) 128 := vp_in_nI (by omega) (by omega)
    have hcl : li (nI (f + j)).toNatClampNeg = li (f + j) := tf_rc (by omega)
    have d1 := tf_D45 (hD (f + j) (Nat.le_refl _) (by omega))
    refine br_f (nI_ge (by omega) (by omega)) (And.intro hi (br_f (by rw [hcl]; exact d1) (And.intro hi (nm_r (e' := tf_nv li f (j + 1)) (by rw [hcl]; rfl) (nm_r (nI_1 (f + j)) ?_)))))
    exact tx_tv9 hb hf k m (j + 1) (by omega) (fun t a b => hD t (by omega) b)
theorem tx_tv {post : Int32 → Prop} {a b : Nat} (hb : b ≤ 128) (hab : a < b) (hN : tf_num li a b) (k : post (tf_val li a b)) : wpX_tokenValue post (k1, k2, k3, k4, k5, k6, k7, k8, k9, (nI md), (nI mr), (nI mu), (nI mf), (nI ll), (nI lp), (nI a), (nI b), tN, (nI d), (nI r), (nI w), en, (nI n), op, co, onm, (nI os), (nI cd), (nI hc), (nI oh), (nI od), cu, (nI fu), ip, ie, pe, ab, re, li, da, rk, ra, rb, rc, nm, kd, ls, im, sr, st, we, ad, wo, tk, gv, io, ia, ck, ci, ce, ou, ox) := by
  obtain ⟨h1, h2⟩ := hN
  unfold tf_f0 at h1 h2
  unfold tf_val at k
  by_cases h : li a = 45
  · rw [if_pos h] at h1 h2 k
    have hcl : li (nI a).toNatClampNeg = li a := tf_rc (by omega)
    refine Exists.intro (b - (a + 1) + 1 + 1) ?_
    refine br_f (nI_ge hab (by omega)) (And.intro (vp_in_nI (by omega) (by omega)) (br_t (by rw [hcl]; exact h) (nm_r (nI_1 a) ?_)))
    exact tx_tv9 (f := a + 1) (z := 1) hb (by omega) (br_f (by decide) k) (b - (a + 1)) 0 (by omega) (fun t z y => h2 t (by omega) y)
  · rw [if_neg h] at h1 h2 k
    exact Exists.intro (b - a + 1) (tx_tv9 (f := a) (z := 0) hb (by omega) (br_t rfl k) (b - a) 0 (by omega) (fun t z y => h2 t (by omega) y))
/-- Y's loop over the digits -/
theorem ty_71 {post : SY → Prop} {x1 x2 : Int32} {f b : Nat} (hb : b ≤ 128) (hf : f ≤ b) : ∀ m j x3, f + j + m = b → (∀ z, ((z = x3 ∧ ∀ t, f + j ≤ t → t < b → tf_D li t) ∨ (z = 0 ∧ ¬ ∀ t, f + j ≤ t → t < b → tf_D li t)) → wY_nextToken_71 post x1 x2 (nI md) (nI mr) (nI mu) (nI mf) (nI ll) (nI b) sv (nI d) (nI r) (nI w) en (nI n) (nI hc) (nI od) cu oy onm (nI cd) (nI oh) (nI fu) pe re ab li da yk ya yb nm kd ls im sr ad oo ol ao ap ik iv ow ce oz ck ou 1 z (tf_nv li f (b - f)) (nI b)) → wY_nextToken_71 post x1 x2 (nI md) (nI mr) (nI mu) (nI mf) (nI ll) (nI b) sv (nI d) (nI r) (nI w) en (nI n) (nI hc) (nI od) cu oy onm (nI cd) (nI oh) (nI fu) pe re ab li da yk ya yb nm kd ls im sr ad oo ol ao ap ik iv ow ce oz ck ou (m + 1) x3 (tf_nv li f j) (nI (f + j))
  | 0, j, x3, h, k => by
    have K := k x3 (Or.inl ⟨rfl, fun t a b => by omega⟩)
    have e : j = b - f := by omega
    subst e
    have e2 : f + (b - f) = b := by omega
    rw [e2]
    exact K
  | m + 1, j, x3, h, k => by
    have hi : vp_in (nI (f + j)) 128 := vp_in_nI (by omega) (by omega)
    have hcl : li (nI (f + j)).toNatClampNeg = li (f + j) := tf_rc (by omega)
    have e1 : tf_nv li f j * 10 + (li (nI (f + j)).toNatClampNeg - 48) = tf_nv li f (j + 1) := by rw [hcl]; rfl
    have bad : ¬ tf_D li (f + j) → wY_nextToken_104 post (wY_nextToken_71 post x1 x2 (nI md) (nI mr) (nI mu) (nI mf) (nI ll) (nI b) sv (nI d) (nI r) (nI w) en (nI n) (nI hc) (nI od) cu oy onm (nI cd) (nI oh) (nI fu) pe re ab li da yk ya yb nm kd ls im sr ad oo ol ao ap ik iv ow ce oz ck ou (m + 1)) x1 x2 (tf_nv li f j) (nI (f + j)) (nI md) (nI mr) (nI mu) (nI mf) (nI ll) (nI b) sv (nI d) (nI r) (nI w) en (nI n) (nI hc) (nI od) cu oy onm (nI cd) (nI oh) (nI fu) pe re ab li da yk ya yb nm kd ls im sr ad oo ol ao ap ik iv ow ce oz ck ou := by
      intro hD
      refine And.intro hi (nm_r e1 (nm_r (nI_1 (f + j)) (ty_71 hb hf m (j + 1) 0 (by omega) (fun z hz => k z (Or.inr ⟨?_, fun y => hD (y _ (Nat.le_refl _) (by omega))⟩)))))
      rcases hz with ⟨z1, _⟩ | ⟨z1, _⟩ <;> exact z1
    refine br_f (nI_ge (by omega) (by omega)) (And.intro hi ?_)
    by_cases d1 : li (f + j) < 48
    · exact br_t (by rw [hcl]; exact d1) (bad (fun z => z.1 d1))
    · refine br_f (by rw [hcl]; exact d1) (And.intro hi ?_)
      by_cases d2 : li (f + j) ≤ 57
      · refine br_t (by rw [hcl]; exact d2) (And.intro hi (nm_r e1 (nm_r (nI_1 (f + j)) (ty_71 hb hf m (j + 1) x3 (by omega) (fun z hz => k z ?_)))))
        rcases hz with ⟨z1, z2⟩ | ⟨z1, z2⟩
        · refine Or.inl ⟨z1, fun t t1 t2 => ?_⟩
          rcases Nat.lt_or_ge (f + j) t with g | g
          · exact z2 t (by omega) t2
          · have e : t = f + j := by omega
            rw [e]; exact ⟨d1, d2⟩
        · exact Or.inr ⟨z1, fun y => z2 (fun t t1 t2 => y t (by omega) t2)⟩
      · exact br_f (by rw [hcl]; exact d2) (bad (fun z => d2 z.2))
/-- Y's check and value of a token -/
theorem ty_num {post : SY → Prop} {x1 : Int32} {a b : Nat} (hb : b ≤ 128) (hab : a < b) (k : ∀ z v, ((tf_num li a b ∧ z = 1 ∧ v = tf_val li a b) ∨ (¬ tf_num li a b ∧ z = 0)) → wY_nextToken_143 post x1 z v (nI md) (nI mr) (nI mu) (nI mf) (nI ll) (nI b) (nI a) (nI d) (nI r) (nI w) en (nI n) (nI hc) (nI od) cu oy onm (nI cd) (nI oh) (nI fu) pe re ab li da yk ya yb nm kd ls im sr ad oo ol ao ap ik iv ow ce oz ck ou) : vp_in (nI a) 128 ∧ ((li (nI a).toNatClampNeg = 45 → wY_nextToken_50 post x1 (nI a + 1) (nI md) (nI mr) (nI mu) (nI mf) (nI ll) (nI b) (nI a) (nI d) (nI r) (nI w) en (nI n) (nI hc) (nI od) cu oy onm (nI cd) (nI oh) (nI fu) pe re ab li da yk ya yb nm kd ls im sr ad oo ol ao ap ik iv ow ce oz ck ou) ∧ (¬ li (nI a).toNatClampNeg = 45 → wY_nextToken_50 post x1 (nI a) (nI md) (nI mr) (nI mu) (nI mf) (nI ll) (nI b) (nI a) (nI d) (nI r) (nI w) en (nI n) (nI hc) (nI od) cu oy onm (nI cd) (nI oh) (nI fu) pe re ab li da yk ya yb nm kd ls im sr ad oo ol ao ap ik iv ow ce oz ck ou)) := by
  have hcl : li (nI a).toNatClampNeg = li a := tf_rc (by omega)
  have K : ∀ f, f = tf_f0 li a → f ≤ b → wY_nextToken_50 post x1 (nI f) (nI md) (nI mr) (nI mu) (nI mf) (nI ll) (nI b) (nI a) (nI d) (nI r) (nI w) en (nI n) (nI hc) (nI od) cu oy onm (nI cd) (nI oh) (nI fu) pe re ab li da yk ya yb nm kd ls im sr ad oo ol ao ap ik iv ow ce oz ck ou := by
    intro f ef hfb
    have fin : ∀ z : Int32, ((z = 1 ∧ tf_num li a b) ∨ (z = 0 ∧ ¬ tf_num li a b)) → wY_nextToken_71 post x1 (nI f) (nI md) (nI mr) (nI mu) (nI mf) (nI ll) (nI b) (nI a) (nI d) (nI r) (nI w) en (nI n) (nI hc) (nI od) cu oy onm (nI cd) (nI oh) (nI fu) pe re ab li da yk ya yb nm kd ls im sr ad oo ol ao ap ik iv ow ce oz ck ou 1 z (tf_nv li f (b - f)) (nI b) := by
      intro z hz
      refine br_t (nI_le (Nat.le_refl _) (by omega)) ?_
      have hv : ∀ v, v = tf_val li a b → wY_nextToken_143 post x1 z v (nI md) (nI mr) (nI mu) (nI mf) (nI ll) (nI b) (nI a) (nI d) (nI r) (nI w) en (nI n) (nI hc) (nI od) cu oy onm (nI cd) (nI oh) (nI fu) pe re ab li da yk ya yb nm kd ls im sr ad oo ol ao ap ik iv ow ce oz ck ou := by
        intro v ev
        refine k z v ?_
        rcases hz with ⟨z1, z2⟩ | ⟨z1, z2⟩
        · exact Or.inl ⟨z2, z1, ev⟩
        · exact Or.inr ⟨z2, z1⟩
      unfold tf_f0 at ef
      unfold tf_val at hv
      by_cases h : li a = 45
      · rw [if_pos h] at ef hv
        subst ef
        exact br_f (nI_ge (by omega) (by omega)) (nm_e (hv _ rfl))
      · rw [if_neg h] at ef hv
        subst ef
        exact br_t (nI_le (Nat.le_refl _) (by omega)) (hv _ rfl)
    have num : tf_num li a b ↔ (f < b ∧ ∀ t, f ≤ t → t < b → tf_D li t) := by
      unfold tf_num
      rw [← ef]
    rcases Nat.lt_or_ge f b with g | g
    · refine br_f (nI_ge g (by omega)) (Exists.intro (b - f + 1) (ty_71 hb hfb (b - f) 0 1 (by omega) (fun z hz => fin z ?_)))
      rcases hz with ⟨z1, z2⟩ | ⟨z1, z2⟩
      · exact Or.inl ⟨z1, num.mpr ⟨g, fun t t1 t2 => z2 t (by omega) t2⟩⟩
      · exact Or.inr ⟨z1, fun y => z2 (fun t t1 t2 => (num.mp y).2 t (by omega) t2)⟩
    · have e : f = b := by omega
      refine br_t (nI_le g (by omega)) (Exists.intro 1 ?_)
      have F := fin 0 (Or.inr ⟨rfl, fun y => by have := (num.mp y).1; omega⟩)
      have e2 : b - f = 0 := by omega
      rw [e2] at F
      rw [e] at F ⊢
      exact F
  refine And.intro (vp_in_nI (by omega) (by omega)) ?_
  by_cases h : li a = 45
  · refine br_t (by rw [hcl]; exact h) ?_
    rw [nI_1]
    exact K (a + 1) (by unfold tf_f0; rw [if_pos h]) (by omega)
  · exact br_f (by rw [hcl]; exact h) (K a (by unfold tf_f0; rw [if_neg h]) (by omega))
end
end
section
/-! a whole line, in both -/
def tf_XI (post : Int32 → SX → Prop) (t : Nat) (u : SX) : Prop := match u with
  | (f_ITEM_LIT, f_ITEM_CALL, f_ITEM_COMP, f_ENTRY_VALUE, f_ENTRY_LOOP, f_ENTRY_CALL, f_ENTRY_CATCH, f_AT_OUTER, f_AT_CATCH, f_maxData, f_maxReturn, f_maxUser, f_fuelPerLine, f_lineLen, f_linePos, f_tokenStart, f_tokenEnd, f_tokenName, f_dDepth, f_rDepth, f_words, f_entered, f_itemCount, f_open, f_compiling, f_openName, f_openStart, f_ctlDepth, f_hereCell, f_outHeld, f_orderDepth, f_currentList, f_fuel, f_ip, f_ipEnd, f_pending, f_aborted, f_result, a_line, a_data, a_rKind, a_rA, a_rB, a_rC, a_wName, a_wKind, a_wList, a_wImmediate, a_wSerial, a_wStart, a_wEnd, a_wAddr, a_wOrder, a_takes, a_gives, a_itemOp, a_itemArg, a_ctlKind, a_ctlItem, a_cells, a_output, a_order) => wX_interpret_30 post (130 - t) (nI t) f_ITEM_LIT f_ITEM_CALL f_ITEM_COMP f_ENTRY_VALUE f_ENTRY_LOOP f_ENTRY_CALL f_ENTRY_CATCH f_AT_OUTER f_AT_CATCH f_maxData f_maxReturn f_maxUser f_fuelPerLine f_lineLen f_linePos f_tokenStart f_tokenEnd f_tokenName f_dDepth f_rDepth f_words f_entered f_itemCount f_open f_compiling f_openName f_openStart f_ctlDepth f_hereCell f_outHeld f_orderDepth f_currentList f_fuel f_ip f_ipEnd f_pending f_aborted f_result a_line a_data a_rKind a_rA a_rB a_rC a_wName a_wKind a_wList a_wImmediate a_wSerial a_wStart a_wEnd a_wAddr a_wOrder a_takes a_gives a_itemOp a_itemArg a_ctlKind a_ctlItem a_cells a_output a_order
/-- the relation between two calls -/
def tf_TR (u : SX) (v : SY) : Prop := ∃ (fv : Nat) (y3 y4 y5 : Int32), ∃ (md mr mu mf ll lp d r w n os cd hc oh od fu : Nat) (k1 k2 k3 k4 k5 k6 k7 k8 k9 tS tE en op co cu ip ie pe ab re oy sv : Int32) (tN onm : Int64) (li da rk ra rb rc kd ls im sr st we ad wo tk gv io ia ck ci ce ou ox yk ya yb oo ol ao ap ik iv ow oz : Nat → Int32) (nm : Nat → Int64), u = (k1, k2, k3, k4, k5, k6, k7, k8, k9, (nI md), (nI mr), (nI mu), (nI mf), (nI ll), (nI 0), tS, tE, tN, (nI d), (nI 0), (nI w), en, (nI n), op, co, onm, (nI os), (nI cd), (nI hc), (nI oh), (nI od), cu, (nI fu), (-1), ie, (-1), ab, re, li, da, rk, ra, rb, rc, nm, kd, ls, im, sr, st, we, ad, wo, tk, gv, io, ia, ck, ci, ce, ou, ox) ∧ v = ((nI md), (nI mr), (nI mu), (nI mf), (nI ll), (nI lp), sv, (nI d), (nI 0), (nI w), en, (nI n), (nI hc), (nI od), cu, oy, onm, (nI cd), (nI oh), (nI fv), y3, y4, y5, li, da, yk, ya, yb, nm, kd, ls, im, sr, ad, oo, ol, ao, ap, ik, iv, ow, ce, oz, ck, ou) ∧ (tf_C md mr mu mf ll d 0 w n os cd hc oh od op co oy onm li nm kd im ad st we wo oo ol ao ap tk gv io ia ik iv ow ck ci ox oz)
theorem tf_TR_el {u : SX} {v : SY} {P : SX → SY → Prop} (H : ∀ (fv : Nat) (y3 y4 y5 : Int32) (md mr mu mf ll lp d r w n os cd hc oh od fu : Nat) (k1 k2 k3 k4 k5 k6 k7 k8 k9 tS tE en op co cu ip ie pe ab re oy sv : Int32) (tN onm : Int64) (li da rk ra rb rc kd ls im sr st we ad wo tk gv io ia ck ci ce ou ox yk ya yb oo ol ao ap ik iv ow oz : Nat → Int32) (nm : Nat → Int64), (tf_C md mr mu mf ll d 0 w n os cd hc oh od op co oy onm li nm kd im ad st we wo oo ol ao ap tk gv io ia ik iv ow ck ci ox oz) → P (k1, k2, k3, k4, k5, k6, k7, k8, k9, (nI md), (nI mr), (nI mu), (nI mf), (nI ll), (nI 0), tS, tE, tN, (nI d), (nI 0), (nI w), en, (nI n), op, co, onm, (nI os), (nI cd), (nI hc), (nI oh), (nI od), cu, (nI fu), (-1), ie, (-1), ab, re, li, da, rk, ra, rb, rc, nm, kd, ls, im, sr, st, we, ad, wo, tk, gv, io, ia, ck, ci, ce, ou, ox) ((nI md), (nI mr), (nI mu), (nI mf), (nI ll), (nI lp), sv, (nI d), (nI 0), (nI w), en, (nI n), (nI hc), (nI od), cu, oy, onm, (nI cd), (nI oh), (nI fv), y3, y4, y5, li, da, yk, ya, yb, nm, kd, ls, im, sr, ad, oo, ol, ao, ap, ik, iv, ow, ce, oz, ck, ou)) (h : tf_TR u v) : P u v :=
  Exists.elim h fun fv h => Exists.elim h fun y3 h => Exists.elim h fun y4 h => Exists.elim h fun y5 h => Exists.elim h fun md h => Exists.elim h fun mr h => Exists.elim h fun mu h => Exists.elim h fun mf h => Exists.elim h fun ll h => Exists.elim h fun lp h => Exists.elim h fun d h => Exists.elim h fun r h => Exists.elim h fun w h => Exists.elim h fun n h => Exists.elim h fun os h => Exists.elim h fun cd h => Exists.elim h fun hc h => Exists.elim h fun oh h => Exists.elim h fun od h => Exists.elim h fun fu h => Exists.elim h fun k1 h => Exists.elim h fun k2 h => Exists.elim h fun k3 h => Exists.elim h fun k4 h => Exists.elim h fun k5 h => Exists.elim h fun k6 h => Exists.elim h fun k7 h => Exists.elim h fun k8 h => Exists.elim h fun k9 h => Exists.elim h fun tS h => Exists.elim h fun tE h => Exists.elim h fun en h => Exists.elim h fun op h => Exists.elim h fun co h => Exists.elim h fun cu h => Exists.elim h fun ip h => Exists.elim h fun ie h => Exists.elim h fun pe h => Exists.elim h fun ab h => Exists.elim h fun re h => Exists.elim h fun oy h => Exists.elim h fun sv h => Exists.elim h fun tN h => Exists.elim h fun onm h => Exists.elim h fun li h => Exists.elim h fun da h => Exists.elim h fun rk h => Exists.elim h fun ra h => Exists.elim h fun rb h => Exists.elim h fun rc h => Exists.elim h fun kd h => Exists.elim h fun ls h => Exists.elim h fun im h => Exists.elim h fun sr h => Exists.elim h fun st h => Exists.elim h fun we h => Exists.elim h fun ad h => Exists.elim h fun wo h => Exists.elim h fun tk h => Exists.elim h fun gv h => Exists.elim h fun io h => Exists.elim h fun ia h => Exists.elim h fun ck h => Exists.elim h fun ci h => Exists.elim h fun ce h => Exists.elim h fun ou h => Exists.elim h fun ox h => Exists.elim h fun yk h => Exists.elim h fun ya h => Exists.elim h fun yb h => Exists.elim h fun oo h => Exists.elim h fun ol h => Exists.elim h fun ao h => Exists.elim h fun ap h => Exists.elim h fun ik h => Exists.elim h fun iv h => Exists.elim h fun ow h => Exists.elim h fun oz h => Exists.elim h fun nm h => Eq.subst (motive := fun u => P u v) h.1.symm (Eq.subst (motive := fun v => P (k1, k2, k3, k4, k5, k6, k7, k8, k9, (nI md), (nI mr), (nI mu), (nI mf), (nI ll), (nI 0), tS, tE, tN, (nI d), (nI 0), (nI w), en, (nI n), op, co, onm, (nI os), (nI cd), (nI hc), (nI oh), (nI od), cu, (nI fu), (-1), ie, (-1), ab, re, li, da, rk, ra, rb, rc, nm, kd, ls, im, sr, st, we, ad, wo, tk, gv, io, ia, ck, ci, ce, ou, ox) v) h.2.1.symm (H fv y3 y4 y5 md mr mu mf ll lp d r w n os cd hc oh od fu k1 k2 k3 k4 k5 k6 k7 k8 k9 tS tE en op co cu ip ie pe ab re oy sv tN onm li da rk ra rb rc kd ls im sr st we ad wo tk gv io ia ck ci ce ou ox yk ya yb oo ol ao ap ik iv ow oz nm h.2.2))
section
variable {md mr mu mf ll lp d r w n os cd hc oh od fu : Nat} {k1 k2 k3 k4 k5 k6 k7 k8 k9 tS tE en op co cu ip ie pe ab re oy sv : Int32} {tN onm : Int64} {li da rk ra rb rc kd ls im sr st we ad wo tk gv io ia ck ci ce ou ox yk ya yb oo ol ao ap ik iv ow oz : Nat → Int32} {nm : Nat → Int64} {lo : Nat}
theorem tf_TR_in {fv : Nat} {y3 y4 y5 : Int32} (h : (tf_C md mr mu mf ll d 0 w n os cd hc oh od op co oy onm li nm kd im ad st we wo oo ol ao ap tk gv io ia ik iv ow ck ci ox oz)) : tf_TR (k1, k2, k3, k4, k5, k6, k7, k8, k9, (nI md), (nI mr), (nI mu), (nI mf), (nI ll), (nI 0), tS, tE, tN, (nI d), (nI 0), (nI w), en, (nI n), op, co, onm, (nI os), (nI cd), (nI hc), (nI oh), (nI od), cu, (nI fu), (-1), ie, (-1), ab, re, li, da, rk, ra, rb, rc, nm, kd, ls, im, sr, st, we, ad, wo, tk, gv, io, ia, ck, ci, ce, ou, ox) ((nI md), (nI mr), (nI mu), (nI mf), (nI ll), (nI lp), sv, (nI d), (nI 0), (nI w), en, (nI n), (nI hc), (nI od), cu, oy, onm, (nI cd), (nI oh), (nI fv), y3, y4, y5, li, da, yk, ya, yb, nm, kd, ls, im, sr, ad, oo, ol, ao, ap, ik, iv, ow, ce, oz, ck, ou) := Exists.intro fv (Exists.intro y3 (Exists.intro y4 (Exists.intro y5 (Exists.intro md ( Exists.intro mr ( Exists.intro mu ( Exists.intro mf ( Exists.intro ll ( Exists.intro lp ( Exists.intro d ( Exists.intro 0 ( Exists.intro w ( Exists.intro n ( Exists.intro os ( Exists.intro cd ( Exists.intro hc ( Exists.intro oh ( Exists.intro od ( Exists.intro fu ( Exists.intro k1 ( Exists.intro k2 ( Exists.intro k3 ( Exists.intro k4 ( Exists.intro k5 ( Exists.intro k6 ( Exists.intro k7 ( Exists.intro k8 ( Exists.intro k9 ( Exists.intro tS ( Exists.intro tE ( Exists.intro en ( Exists.intro op ( Exists.intro co ( Exists.intro cu ( Exists.intro 0 ( Exists.intro ie ( Exists.intro 0 ( Exists.intro ab ( Exists.intro re ( Exists.intro oy ( Exists.intro sv ( Exists.intro tN ( Exists.intro onm ( Exists.intro li ( Exists.intro da ( Exists.intro rk ( Exists.intro ra ( Exists.intro rb ( Exists.intro rc ( Exists.intro kd ( Exists.intro ls ( Exists.intro im ( Exists.intro sr ( Exists.intro st ( Exists.intro we ( Exists.intro ad ( Exists.intro wo ( Exists.intro tk ( Exists.intro gv ( Exists.intro io ( Exists.intro ia ( Exists.intro ck ( Exists.intro ci ( Exists.intro ce ( Exists.intro ou ( Exists.intro ox ( Exists.intro yk ( Exists.intro ya ( Exists.intro yb ( Exists.intro oo ( Exists.intro ol ( Exists.intro ao ( Exists.intro ap ( Exists.intro ik ( Exists.intro iv ( Exists.intro ow ( Exists.intro oz ( Exists.intro nm ( ⟨rfl, rfl, h⟩)))))))))))))))))))))))))))))))))))))))))))))))))))))))))))))))))))))))))))))))
theorem tl_item0 {p : Nat} (F : (tf_F p md mr mu mf ll d 0 w n os cd hc oh od 1 co oy onm li nm kd im ad st we wo oo ol ao ap tk gv io ia ik iv ow ck ci ox oz lp fu (-1) ie rk ra rb rc yk ya yb lo)) {xo xk v : Int32} (hrel : (xk = 1 ∧ xo = 0) ∨ (xk = 3 ∧ xo = 1 ∧ ∃ c : Nat, c ≤ w ∧ v = nI c) ∨ (xk = 2 ∧ xo = 2 ∧ ∃ c : Nat, c < w ∧ v = nI c)) : ∃ u' v', (tf_M0 lo p u' v' ∨ tf_MD u' v') ∧ (∀ post : SX → Prop, post u' → wpX_compileItem post (k1, k2, k3, k4, k5, k6, k7, k8, k9, (nI md), (nI mr), (nI mu), (nI mf), (nI ll), (nI lp), tS, tE, tN, (nI d), (nI 0), (nI w), en, (nI n), 1, co, onm, (nI os), (nI cd), (nI hc), (nI oh), (nI od), cu, (nI fu), (-1), ie, (-1), 0, re, li, da, rk, ra, rb, rc, nm, kd, ls, im, sr, st, we, ad, wo, tk, gv, io, ia, ck, ci, ce, ou, ox) xo v) ∧ (∀ post : SY → Prop, post v' → wpY_addItem post ((nI md), (nI mr), (nI mu), (nI mf), (nI ll), (nI lp), sv, (nI d), (nI 0), (nI w), en, (nI n), (nI hc), (nI od), cu, oy, onm, (nI cd), (nI oh), (nI fu), (-1), re, 0, li, da, yk, ya, yb, nm, kd, ls, im, sr, ad, oo, ol, ao, ap, ik, iv, ow, ce, oz, ck, ou) xk v) := by
  have hB := F.1.1
  have hB2 := hB
  unfold tf_B at hB2
  rcases Nat.lt_or_ge n 96 with h | h
  · obtain ⟨⟨_, hL, hT, hO, hN, hQ, Z⟩, R⟩ := F
    refine ⟨(k1, k2, k3, k4, k5, k6, k7, k8, k9, (nI md), (nI mr), (nI mu), (nI mf), (nI ll), (nI lp), tS, tE, tN, (nI d), (nI 0), (nI w), en, (nI (n+1)), 1, co, onm, (nI os), (nI cd), (nI hc), (nI oh), (nI od), cu, (nI fu), (-1), ie, (-1), 0, re, li, da, rk, ra, rb, rc, nm, kd, ls, im, sr, st, we, ad, wo, tk, gv, (upd io n xo), (upd ia n v), ck, ci, ce, ou, ox), ((nI md), (nI mr), (nI mu), (nI mf), (nI ll), (nI lp), sv, (nI d), (nI 0), (nI w), en, (nI (n+1)), (nI hc), (nI od), cu, oy, onm, (nI cd), (nI oh), (nI fu), (-1), re, 0, li, da, yk, ya, yb, nm, kd, ls, im, sr, ad, oo, ol, ao, ap, (upd ik n xk), (upd iv n v), (upd ow n (nI w)), ce, oz, ck, ou), Or.inl (tf_M0_in ⟨⟨?_, hL, hT, hO, hN, hQ, tf_Z_neut (by omega) h ?_ ?_ Z⟩, R⟩), fun post hp => tx_item h hp, fun post hp => ty_item h hp⟩
    · unfold tf_B; omega
    · rcases hrel with ⟨e, _⟩ | ⟨e, _⟩ | ⟨e, _⟩ <;> subst e <;> decide
    · unfold tf_I1
      rw [pk_us, pk_us, pk_us, pk_us, tf_oN_s (by omega)]
      rcases hrel with ⟨e, e2⟩ | ⟨e, e2, e3⟩ | ⟨e, e2, e3⟩
      · exact Or.inl ⟨e, e2, rfl⟩
      · exact Or.inr (Or.inl ⟨e, e2, rfl, e3⟩)
      · exact Or.inr (Or.inr (Or.inl ⟨e, e2, rfl, e3⟩))
  · obtain ⟨u', v', h1, h2, h3⟩ := tl_abort F (-8) (fun t ht => absurd ht (by omega))
    exact ⟨u', v', Or.inr h1, fun post hp => br_f (nI_nlt (b := 96) h (by omega)) (h2 _ hp), fun post hp => br_f (nI_nlt (b := 96) h (by omega)) (h3 _ hp)⟩
/-- a token is taken -/
theorem ts_tok {p sy a b : Nat} (F : (tf_F p md mr mu mf ll d 0 w n os cd hc oh od op co oy onm li nm kd im ad st we wo oo ol ao ap tk gv io ia ik iv ow ck ci ox oz lp fu (-1) ie rk ra rb rc yk ya yb lo)) (T : tf_Tok li ll lp a b) (hab : a < b) (hp' : p < 4000000) (hsy : sy + p < 9000000) : ∃ u' v' sy' p', (tf_M0 (lo + 1) p' u' v' ∨ tf_MD u' v') ∧ (sy' + p' ≤ sy + p ∧ p' < p) ∧ (∀ post : SX → Prop, post u' → wpX_interpretToken post (k1, k2, k3, k4, k5, k6, k7, k8, k9, (nI md), (nI mr), (nI mu), (nI mf), (nI ll), (nI b), (nI a), (nI b), (tf_na li a b 8), (nI d), (nI 0), (nI w), en, (nI n), op, co, onm, (nI os), (nI cd), (nI hc), (nI oh), (nI od), cu, (nI fu), (-1), ie, (-1), 0, re, li, da, rk, ra, rb, rc, nm, kd, ls, im, sr, st, we, ad, wo, tk, gv, io, ia, ck, ci, ce, ou, ox)) ∧ (∀ post : Int32 → SY → Prop, tf_YL post sy' v' → tf_YL post sy ((nI md), (nI mr), (nI mu), (nI mf), (nI ll), (nI lp), sv, (nI d), (nI 0), (nI w), en, (nI n), (nI hc), (nI od), cu, oy, onm, (nI cd), (nI oh), (nI fu), (-1), re, 0, li, da, yk, ya, yb, nm, kd, ls, im, sr, ad, oo, ol, ao, ap, ik, iv, ow, ce, oz, ck, ou)) := by
  have hB := F.1.1
  have hB2 := hB
  unfold tf_B at hB2
  have hT2 := T
  obtain ⟨t1, t2, t3, _⟩ := hT2
  obtain ⟨C, f1, f2, q, hRS, hq⟩ := F
  have hFn : tf_F (lo := lo + 1) (p - 67) md mr mu mf ll d 0 w n os cd hc oh od op co oy onm li nm kd im ad st we wo oo ol ao ap tk gv io ia ik iv ow ck ci ox oz b fu (-1) ie rk ra rb rc yk ya yb := ⟨C, t3, f2, q, hRS, by omega⟩
  have h67 : 67 ≤ p := by omega
  have hox : ∀ i, i < od → ox i = oz i := fun i hi => (C.2.2.2.1 i hi).1
  -- Y's way to a found or missing name
  have hY : ∀ {v' : SY} (post : Int32 → SY → Prop), (∀ post : SY → Prop, post v' → ∀ z v, ((tf_num li a b ∧ z = 1 ∧ v = tf_val li a b) ∨ (¬ tf_num li a b ∧ z = 0)) → wY_nextToken_143 post (tf_rs (tf_fo ls nm w oz (tf_na li a b 8) od)) z v (nI md) (nI mr) (nI mu) (nI mf) (nI ll) (nI b) (nI a) (nI d) (nI 0) (nI w) en (nI n) (nI hc) (nI od) cu oy onm (nI cd) (nI oh) (nI fu) (-1) re 0 li da yk ya yb nm kd ls im sr ad oo ol ao ap ik iv ow ce oz ck ou) → tf_YL post (sy + 1) v' → tf_YL post sy ((nI md), (nI mr), (nI mu), (nI mf), (nI ll), (nI lp), sv, (nI d), (nI 0), (nI w), en, (nI n), (nI hc), (nI od), cu, oy, onm, (nI cd), (nI oh), (nI fu), (-1), re, 0, li, da, yk, ya, yb, nm, kd, ls, im, sr, ad, oo, ol, ao, ap, ik, iv, ow, ce, oz, ck, ou) := by
    intro v' post hx K
    refine ys_tok (by omega) (fun post hp => ?_) K
    refine ty_rt (by omega) f1 T (fun _ => br_f (by decide) (ty_find (by omega) t2 (by omega) (by omega) ?_)) (fun z => by omega)
    exact ty_num (by omega) hab (hx post hp)
  -- X's way
  have hX : ∀ (post : SX → Prop) (z0 : Int32), ((op = 0 ∧ z0 = 0) ∨ (op = 1 ∧ co = 0 ∧ z0 = 0) ∨ (op = 1 ∧ co = 1 ∧ z0 = 1)) → wX_interpretToken_19 post z0 k1 k2 k3 k4 k5 k6 k7 k8 k9 (nI md) (nI mr) (nI mu) (nI mf) (nI ll) (nI b) (nI a) (nI b) (tf_na li a b 8) (nI d) (nI 0) (nI w) en (nI n) op co onm (nI os) (nI cd) (nI hc) (nI oh) (nI od) cu (nI fu) (-1) ie (-1) 0 re li da rk ra rb rc nm kd ls im sr st we ad wo tk gv io ia ck ci ce ou ox → wpX_interpretToken post (k1, k2, k3, k4, k5, k6, k7, k8, k9, (nI md), (nI mr), (nI mu), (nI mf), (nI ll), (nI b), (nI a), (nI b), (tf_na li a b 8), (nI d), (nI 0), (nI w), en, (nI n), op, co, onm, (nI os), (nI cd), (nI hc), (nI oh), (nI od), cu, (nI fu), (-1), ie, (-1), 0, re, li, da, rk, ra, rb, rc, nm, kd, ls, im, sr, st, we, ad, wo, tk, gv, io, ia, ck, ci, ce, ou, ox) := by
    intro post z0 hz K
    rcases hz with ⟨z1, z2⟩ | ⟨z1, z2, z3⟩ | ⟨z1, z2, z3⟩
    · subst z1; subst z2; exact br_t rfl K
    · subst z1; subst z2; subst z3; exact br_f (by decide) (br_t rfl K)
    · subst z1; subst z2; subst z3; exact br_f (by decide) (br_f (by decide) K)
  have hop : (∃ z0 : Int32, z0 = 0 ∧ ¬ oy = 2 ∧ ((op = 0 ∧ z0 = 0) ∨ (op = 1 ∧ co = 0 ∧ z0 = 0) ∨ (op = 1 ∧ co = 1 ∧ z0 = 1))) ∨ (op = 1 ∧ co = 1 ∧ oy = 2) := by
    rcases tf_opc C with ⟨o1, o2, _⟩ | ⟨o1, o2 | o2, _⟩
    · exact Or.inl ⟨0, rfl, by rw [o2]; decide, Or.inl ⟨o1, rfl⟩⟩
    · exact Or.inl ⟨0, rfl, by rw [o2.2]; decide, Or.inr (Or.inl ⟨o1, o2.1, rfl⟩)⟩
    · exact Or.inr ⟨o1, o2.1, o2.2⟩
  -- a word is executed
  have hrun : ∀ k, tf_fo ls nm w oz (tf_na li a b 8) od = some k → (∀ (post : SX → Prop), wX_interpretToken_55 post (nI k) k1 k2 k3 k4 k5 k6 k7 k8 k9 (nI md) (nI mr) (nI mu) (nI mf) (nI ll) (nI b) (nI a) (nI b) (tf_na li a b 8) (nI d) (nI 0) (nI w) en (nI n) op co onm (nI os) (nI cd) (nI hc) (nI oh) (nI od) cu (nI fu) (-1) ie (-1) 0 re li da rk ra rb rc nm kd ls im sr st we ad wo tk gv io ia ck ci ce ou ox → wpX_interpretToken post (k1, k2, k3, k4, k5, k6, k7, k8, k9, (nI md), (nI mr), (nI mu), (nI mf), (nI ll), (nI b), (nI a), (nI b), (tf_na li a b 8), (nI d), (nI 0), (nI w), en, (nI n), op, co, onm, (nI os), (nI cd), (nI hc), (nI oh), (nI od), cu, (nI fu), (-1), ie, (-1), 0, re, li, da, rk, ra, rb, rc, nm, kd, ls, im, sr, st, we, ad, wo, tk, gv, io, ia, ck, ci, ce, ou, ox)) → (∀ (post : SY → Prop) z v, wY_nextToken_173 post (nI k) z v (nI md) (nI mr) (nI mu) (nI mf) (nI ll) (nI b) (nI a) (nI d) (nI 0) (nI w) en (nI n) (nI hc) (nI od) cu oy onm (nI cd) (nI oh) (nI fu) (-1) re 0 li da yk ya yb nm kd ls im sr ad oo ol ao ap ik iv ow ce oz ck ou → wY_nextToken_143 post (nI k) z v (nI md) (nI mr) (nI mu) (nI mf) (nI ll) (nI b) (nI a) (nI d) (nI 0) (nI w) en (nI n) (nI hc) (nI od) cu oy onm (nI cd) (nI oh) (nI fu) (-1) re 0 li da yk ya yb nm kd ls im sr ad oo ol ao ap ik iv ow ce oz ck ou) → ∃ u' v' sy' p', (tf_M0 (lo + 1) p' u' v' ∨ tf_MD u' v') ∧ (sy' + p' ≤ sy + p ∧ p' < p) ∧ (∀ post : SX → Prop, post u' → wpX_interpretToken post (k1, k2, k3, k4, k5, k6, k7, k8, k9, (nI md), (nI mr), (nI mu), (nI mf), (nI ll), (nI b), (nI a), (nI b), (tf_na li a b 8), (nI d), (nI 0), (nI w), en, (nI n), op, co, onm, (nI os), (nI cd), (nI hc), (nI oh), (nI od), cu, (nI fu), (-1), ie, (-1), 0, re, li, da, rk, ra, rb, rc, nm, kd, ls, im, sr, st, we, ad, wo, tk, gv, io, ia, ck, ci, ce, ou, ox)) ∧ (∀ post : Int32 → SY → Prop, tf_YL post sy' v' → tf_YL post sy ((nI md), (nI mr), (nI mu), (nI mf), (nI ll), (nI lp), sv, (nI d), (nI 0), (nI w), en, (nI n), (nI hc), (nI od), cu, oy, onm, (nI cd), (nI oh), (nI fu), (-1), re, 0, li, da, yk, ya, yb, nm, kd, ls, im, sr, ad, oo, ol, ao, ap, ik, iv, ow, ce, oz, ck, ou)) := by
    intro k hk kx ky
    have hkw := tf_fo_lt hk
    have MP : tf_M (lo + 1) (p - 1) (k1, k2, k3, k4, k5, k6, k7, k8, k9, (nI md), (nI mr), (nI mu), (nI mf), (nI ll), (nI b), (nI a), (nI b), (tf_na li a b 8), (nI d), (nI 0), (nI w), en, (nI n), op, co, onm, (nI os), (nI cd), (nI hc), (nI oh), (nI od), cu, (nI fu), (-1), (-1), (nI k), 0, re, li, da, rk, ra, rb, rc, nm, kd, ls, im, sr, st, we, ad, wo, tk, gv, io, ia, ck, ci, ce, ou, ox) ((nI md), (nI mr), (nI mu), (nI mf), (nI ll), (nI b), (nI a), (nI d), (nI 0), (nI w), en, (nI n), (nI hc), (nI od), cu, oy, onm, (nI cd), (nI oh), (nI fu), (nI k), re, 0, li, da, yk, ya, yb, nm, kd, ls, im, sr, ad, oo, ol, ao, ap, ik, iv, ow, ce, oz, ck, ou) := by
      obtain ⟨C', g1, g2, g3, g4, g5⟩ := hFn
      exact Or.inr (Or.inl (tf_MP_in (q := p - 67) ⟨C', g1, g2, g3, g4, g5⟩ hkw (by omega)))
    obtain ⟨u', v', sy', p', q1, q2, q3, q4⟩ := ts_run p (p - 1) (by omega) _ _ MP 0 (sy + 1) (by omega) (by omega)
    refine ⟨u', v', sy', p', q1, by omega, fun post hp => kx post ?_, fun post K => hY post (fun post hp z v hz => ?_) (q4 post K)⟩
    · exact Exists.intro 4000001 (q3 _ hp)
    · rw [hk]
      exact ky post z v (br_f (nI_pos (by omega)) hp)
  cases ef : tf_fo ls nm w oz (tf_na li a b 8) od with
  | some k =>
    have hkw := tf_fo_lt ef
    have hik : vp_in (nI k) 75 := vp_in_nI (by omega) (by omega)
    have hk0 : ¬ nI k < 0 := nI_pos (by omega)
    have hcl : im (nI k).toNatClampNeg = im k := tf_rc (by omega)
    rcases hop with ⟨z0, hz0, hoy, hz⟩ | ⟨o1, o2, o3⟩
    · subst hz0
      refine hrun k ef (fun post K => hX post 0 hz (tx_find (by omega) (by omega) hox ?_)) (fun post z v K => br_f hk0 (br_f hoy K))
      rw [ef]
      exact br_f hk0 (br_t rfl K)
    · subst o1
      subst o2
      subst o3
      by_cases him : im k = 0
      · obtain ⟨u', v', h1, h2, h3⟩ := tl_item0 (xo := 1) (xk := 3) (v := nI k) hFn (Or.inr (Or.inl ⟨rfl, rfl, k, by omega, rfl⟩))
        refine ⟨u', v', sy + 1, p - 67, h1, by omega, fun post hp => hX post 1 (Or.inr (Or.inr ⟨rfl, rfl, rfl⟩)) (tx_find (by omega) (by omega) hox ?_), fun post K => hY post (fun post hp z v hz => ?_) K⟩
        · rw [ef]
          exact br_f hk0 (br_f (by decide) (And.intro hik (br_t (hcl.trans him) (h2 _ hp))))
        · rw [ef]
          exact br_f hk0 (br_t rfl (And.intro hik (br_t (hcl.trans him) (h3 _ hp))))
      · refine hrun k ef (fun post K => hX post 1 (Or.inr (Or.inr ⟨rfl, rfl, rfl⟩)) (tx_find (by omega) (by omega) hox ?_)) (fun post z v K => br_f hk0 (br_t rfl (And.intro hik (br_f (by rw [hcl]; exact him) K))))
        rw [ef]
        exact br_f hk0 (br_f (by decide) (And.intro hik (br_f (show ¬ im (nI k).toNatClampNeg = 0 by rw [hcl]; exact him) K)))
  | none =>
    by_cases hnum : tf_num li a b
    · rcases hop with ⟨z0, hz0, hoy, hz⟩ | ⟨o1, o2, o3⟩
      · subst hz0
        rcases Nat.lt_or_ge d md with hd | hd
        · refine ⟨(k1, k2, k3, k4, k5, k6, k7, k8, k9, (nI md), (nI mr), (nI mu), (nI mf), (nI ll), (nI b), (nI a), (nI b), (tf_na li a b 8), (nI (d+1)), (nI 0), (nI w), en, (nI n), op, co, onm, (nI os), (nI cd), (nI hc), (nI oh), (nI od), cu, (nI fu), (-1), ie, (-1), 0, re, li, (upd da d (tf_val li a b)), rk, ra, rb, rc, nm, kd, ls, im, sr, st, we, ad, wo, tk, gv, io, ia, ck, ci, ce, ou, ox), ((nI md), (nI mr), (nI mu), (nI mf), (nI ll), (nI b), (nI a), (nI (d+1)), (nI 0), (nI w), en, (nI n), (nI hc), (nI od), cu, oy, onm, (nI cd), (nI oh), (nI fu), (-1), re, 0, li, (upd da d (tf_val li a b)), yk, ya, yb, nm, kd, ls, im, sr, ad, oo, ol, ao, ap, ik, iv, ow, ce, oz, ck, ou), sy + 1, p - 67, Or.inl (tf_M0_in ⟨⟨tf_B_d hB (by omega), C.2⟩, hFn.2⟩), by omega, fun post hp => hX post 0 hz (tx_find (by omega) (by omega) hox ?_), fun post K => hY post (fun post hp z v hzv => ?_) K⟩
          · rw [ef]
            exact br_t (by decide) (tx_isn (by omega) hab (fun _ => br_f (by decide) (tx_tv (by omega) hab hnum (br_t rfl (br_t (nI_lt hd (by omega)) (tx_push hd (by omega) hp))))) (fun h => absurd hnum h))
          · rw [ef]
            rcases hzv with ⟨_, z1, z2⟩ | ⟨z1, _⟩
            · subst z1
              subst z2
              exact br_t (by decide) (br_t (by decide) (br_f (by decide) (br_f hoy (br_t (nI_lt hd (by omega)) (ty_push (by omega) hp)))))
            · exact absurd hnum z1
        · obtain ⟨u', v', h1, h2, h3⟩ := tl_abort hFn (-3) (fun t ht => absurd ht (by omega))
          refine ⟨u', v', sy + 1, p - 67, Or.inr h1, by omega, fun post hp => hX post 0 hz (tx_find (by omega) (by omega) hox ?_), fun post K => hY post (fun post hp z v hzv => ?_) K⟩
          · rw [ef]
            exact br_t (by decide) (tx_isn (by omega) hab (fun _ => br_f (by decide) (tx_tv (by omega) hab hnum (br_t rfl (br_f (nI_nlt hd (by omega)) (h2 _ hp))))) (fun h => absurd hnum h))
          · rw [ef]
            rcases hzv with ⟨_, z1, z2⟩ | ⟨z1, _⟩
            · subst z1
              exact br_t (by decide) (br_t (by decide) (br_f (by decide) (br_f hoy (br_f (nI_nlt hd (by omega)) (h3 _ hp)))))
            · exact absurd hnum z1
      · subst o1
        subst o2
        subst o3
        obtain ⟨u', v', h1, h2, h3⟩ := tl_item0 (xo := 0) (xk := 1) (v := tf_val li a b) hFn (Or.inl ⟨rfl, rfl⟩)
        refine ⟨u', v', sy + 1, p - 67, h1, by omega, fun post hp => hX post 1 (Or.inr (Or.inr ⟨rfl, rfl, rfl⟩)) (tx_find (by omega) (by omega) hox ?_), fun post K => hY post (fun post hp z v hzv => ?_) K⟩
        · rw [ef]
          exact br_t (by decide) (tx_isn (by omega) hab (fun _ => br_f (by decide) (tx_tv (by omega) hab hnum (br_f (by decide) (h2 _ hp)))) (fun h => absurd hnum h))
        · rw [ef]
          rcases hzv with ⟨_, z1, z2⟩ | ⟨z1, _⟩
          · subst z1
            subst z2
            exact br_t (by decide) (br_t (by decide) (br_f (by decide) (br_t rfl (h3 _ hp))))
          · exact absurd hnum z1
    · obtain ⟨u', v', h1, h2, h3⟩ := tl_abort hFn (-13) (fun t ht => absurd ht (by omega))
      have hz : ∃ z0 : Int32, ((op = 0 ∧ z0 = 0) ∨ (op = 1 ∧ co = 0 ∧ z0 = 0) ∨ (op = 1 ∧ co = 1 ∧ z0 = 1)) := by
        rcases hop with ⟨z0, _, _, hz⟩ | ⟨o1, o2, _⟩
        · exact ⟨z0, hz⟩
        · exact ⟨1, Or.inr (Or.inr ⟨o1, o2, rfl⟩)⟩
      obtain ⟨z0, hz⟩ := hz
      refine ⟨u', v', sy + 1, p - 67, Or.inr h1, by omega, fun post hp => hX post z0 hz (tx_find (by omega) (by omega) hox ?_), fun post K => hY post (fun post hp z v hzv => ?_) K⟩
      · rw [ef]
        exact br_t (by decide) (tx_isn (by omega) hab (fun h => absurd h hnum) (fun _ => br_t rfl (h2 _ hp)))
      · rw [ef]
        rcases hzv with ⟨z1, _⟩ | ⟨_, z1⟩
        · exact absurd z1 hnum
        · subst z1
          exact br_t (by decide) (br_t (by decide) (br_t rfl (h3 _ hp)))
theorem tf_C_end (C : (tf_C md mr mu mf ll d 0 w n os cd hc oh od op co oy onm li nm kd im ad st we wo oo ol ao ap tk gv io ia ik iv ow ck ci ox oz)) : (tf_C md mr mu mf 0 d 0 w n os cd hc oh od op co oy onm li nm kd im ad st we wo oo ol ao ap tk gv io ia ik iv ow ck ci ox oz) := by
  have hB := C.1
  unfold tf_B at hB
  exact ⟨by unfold tf_B; omega, fun i hi => absurd hi (by omega), C.2.2⟩
/-- the outcome of a line -/
def tf_IO (t sy : Nat) (u : SX) (v : SY) : Prop := ∃ res u' v', tf_TR u' v' ∧ (∀ post : Int32 → SX → Prop, post res u' → tf_XI post t u) ∧ (∀ post : Int32 → SY → Prop, post res v' → tf_YL post sy v)
theorem ts_dead {t sy : Nat} {u : SX} {v : SY} (ht : t ≤ 129) (hsy : sy < 10000000) (H : tf_MD u v) : tf_IO t sy u v := by
  refine tf_MD_el (P := fun u v => tf_IO t sy u v) ?_ H
  intro md mr mu mf ll lp d r w n os cd hc oh od fu k1 k2 k3 k4 k5 k6 k7 k8 k9 tS tE en op co cu ip ie pe ab re oy sv tN onm li da rk ra rb rc kd ls im sr st we ad wo tk gv io ia ck ci ce ou ox yk ya yb oo ol ao ap ik iv ow oz nm C
  refine ⟨re, (k1, k2, k3, k4, k5, k6, k7, k8, k9, (nI md), (nI mr), (nI mu), (nI mf), (nI 0), (nI 0), tS, tE, tN, (nI d), (nI 0), (nI w), en, (nI n), op, co, onm, (nI os), (nI cd), (nI hc), (nI oh), (nI od), cu, (nI fu), (-1), ie, (-1), 1, re, li, da, rk, ra, rb, rc, nm, kd, ls, im, sr, st, we, ad, wo, tk, gv, io, ia, ck, ci, ce, ou, ox), ((nI md), (nI mr), (nI mu), (nI mf), (nI 0), (nI lp), sv, (nI d), (nI 0), (nI w), en, (nI n), (nI hc), (nI od), cu, oy, onm, (nI cd), (nI oh), (nI fu), (-1), re, 1, li, da, yk, ya, yb, nm, kd, ls, im, sr, ad, oo, ol, ao, ap, ik, iv, ow, ce, oz, ck, ou), tf_TR_in (ll := 0) (lp := lp) (fv := fu) (y3 := -1) (y4 := re) (y5 := 1) C, fun post hp => ?_, fun post hp => ys_done hsy hp⟩
  have e : 130 - t = (129 - t) + 1 := by omega
  show wX_interpret_30 post (130 - t) (nI t) k1 k2 k3 k4 k5 k6 k7 k8 k9 (nI md) (nI mr) (nI mu) (nI mf) (nI 0) (nI 0) tS tE tN (nI d) (nI 0) (nI w) en (nI n) op co onm (nI os) (nI cd) (nI hc) (nI oh) (nI od) cu (nI fu) (-1) ie (-1) 1 re li da rk ra rb rc nm kd ls im sr st we ad wo tk gv io ia ck ci ce ou ox
  rw [e]
  exact pk_lt 128 t (fun _ => hp) (fun _ => br_f (by decide) hp)
theorem ts_int : ∀ m p, p < m → ∀ t u v sy, tf_M0 t p u v → sy + p + 1 < 4000000 → tf_IO t sy u v
  | 0, p, h, _, _, _, _, _ => absurd h (by omega)
  | m + 1, p, hm, t, u, v, sy, H => by
    refine tf_M0_el (P := fun u v => sy + p + 1 < 4000000 → tf_IO t sy u v) ?_ H
    intro md mr mu mf ll lp d r w n os cd hc oh od fu k1 k2 k3 k4 k5 k6 k7 k8 k9 tS tE en op co cu ip ie pe ab re oy sv tN onm li da rk ra rb rc kd ls im sr st we ad wo tk gv io ia ck ci ce ou ox yk ya yb oo ol ao ap ik iv ow oz nm F hs
    have hB := F.1.1
    unfold tf_B at hB
    have hlo : t ≤ lp ∧ lp ≤ ll := by
      obtain ⟨_, g1, _, _, _, g2⟩ := F
      omega
    have e : 130 - t = (130 - (t + 1)) + 1 := by omega
    obtain ⟨a, b, T⟩ := tf_Tok_ex li F.2.1
    have hT2 := T
    obtain ⟨t1, t2, t3, _⟩ := hT2
    rcases Nat.lt_or_ge a b with hab | hab
    · obtain ⟨u', v', sy', p', q1, q2, q3, q4⟩ := ts_tok (sy := sy) F T hab (by omega) (by omega)
      have K : tf_IO (t + 1) sy' u' v' := by
        rcases q1 with q1 | q1
        · exact ts_int m p' (by omega) (t + 1) u' v' sy' q1 (by omega)
        · exact ts_dead (by omega) (by omega) q1
      obtain ⟨res, u2, v2, k1', k2', k3'⟩ := K
      refine ⟨res, u2, v2, k1', fun post hp => ?_, fun post hp => q4 post (k3' post hp)⟩
      show wX_interpret_30 post (130 - t) (nI t) k1 k2 k3 k4 k5 k6 k7 k8 k9 (nI md) (nI mr) (nI mu) (nI mf) (nI ll) (nI lp) tS tE tN (nI d) (nI 0) (nI w) en (nI n) op co onm (nI os) (nI cd) (nI hc) (nI oh) (nI od) cu (nI fu) (-1) ie (-1) 0 re li da rk ra rb rc nm kd ls im sr st we ad wo tk gv io ia ck ci ce ou ox
      rw [e]
      refine br_f (nI_nlt (a := 128) (b := t) (by omega) (by omega)) (br_t rfl (tx_rt (by omega) hlo.2 T (fun _ => br_f (by decide) ?_) (fun z => by omega)))
      exact q3 _ (nm_r (nI_1 t) (k2' post hp))
    · refine ⟨re, (k1, k2, k3, k4, k5, k6, k7, k8, k9, (nI md), (nI mr), (nI mu), (nI mf), (nI 0), (nI 0), (nI a), (nI b), (tf_na li a b 8), (nI d), (nI 0), (nI w), en, (nI n), op, co, onm, (nI os), (nI cd), (nI hc), (nI oh), (nI od), cu, (nI fu), (-1), ie, (-1), 0, re, li, da, rk, ra, rb, rc, nm, kd, ls, im, sr, st, we, ad, wo, tk, gv, io, ia, ck, ci, ce, ou, ox), ((nI md), (nI mr), (nI mu), (nI mf), (nI 0), (nI b), (nI a), (nI d), (nI 0), (nI w), en, (nI n), (nI hc), (nI od), cu, oy, onm, (nI cd), (nI oh), (nI fu), (-1), re, 1, li, da, yk, ya, yb, nm, kd, ls, im, sr, ad, oo, ol, ao, ap, ik, iv, ow, ce, oz, ck, ou), tf_TR_in (ll := 0) (lp := b) (fv := fu) (y3 := -1) (y4 := re) (y5 := 1) (tf_C_end F.1), fun post hp => ?_, fun post hp => ?_⟩
      · show wX_interpret_30 post (130 - t) (nI t) k1 k2 k3 k4 k5 k6 k7 k8 k9 (nI md) (nI mr) (nI mu) (nI mf) (nI ll) (nI lp) tS tE tN (nI d) (nI 0) (nI w) en (nI n) op co onm (nI os) (nI cd) (nI hc) (nI oh) (nI od) cu (nI fu) (-1) ie (-1) 0 re li da rk ra rb rc nm kd ls im sr st we ad wo tk gv io ia ck ci ce ou ox
        rw [e]
        exact br_f (nI_nlt (a := 128) (b := t) (by omega) (by omega)) (br_t rfl (tx_rt (by omega) hlo.2 T (fun z => by omega) (fun _ => br_t rfl hp)))
      · refine ys_tok (by omega) (fun post hp => ty_rt (by omega) hlo.2 T (fun z => by omega) (fun _ => br_t rfl hp)) (ys_done (by omega) hp)
end
end
section
/-! bytes of longs -/
theorem tb_x {z : Int64} {i : Nat} (hi : i < 16) : (((z.toUInt64 >>> ((8 * (nI i &&& 7)).toInt64.toUInt64 &&& Int64.toUInt64 63)).toInt64) &&& 255).toInt32 = nI (tf_pb z (i % 8)) := by
  obtain ⟨v, hv, e⟩ := wb_of z
  subst e
  have e1 : nI i &&& 7 = nI (i % 2 ^ 3) := pk_andN (by omega) 3 (by decide)
  have e2 : (8 : Int32) * nI (i % 2 ^ 3) = nI (8 * (i % 2 ^ 3)) := pk_mul 8 (i % 2 ^ 3)
  have e3 : (255 : Int64) = lN (2 ^ 8 - 1) := by decide
  rw [e1, e2, wb_shr hv (by omega), e3, wb_mask (Nat.lt_of_le_of_lt (Nat.div_le_self _ _) hv) (by omega), lN_i, tf_pb_lN hv]
theorem tb_255 : ∀ i, i < 64 → (255 : Int64).toBitVec.getLsbD i = decide (i < 8) := by decide +kernel
theorem tb_y {z : Int64} {j : Nat} (hj : j < 8) : ((z >>> ((8 * nI j).toInt64 &&& 63)) &&& 255) = lN (tf_pb z j) := by
  have e1 : (8 : Int32) * nI j = nI (8 * j) := pk_mul 8 j
  rw [e1, wb_c (8 * j) (by omega)]
  apply wb_inj
  apply BitVec.eq_of_getLsbD_eq
  intro i hi
  have e2 : (z >>> lN (8 * j)).toBitVec = z.toBitVec.sshiftRight (8 * j) := by
    show z.toBitVec.sshiftRight' ((lN (8 * j)).toBitVec.smod 64) = _
    rw [wb_tb, wb_sm (8 * j) (by omega)]
    show z.toBitVec.sshiftRight (BitVec.ofNat 64 (8 * j)).toNat = _
    rw [BitVec.toNat_ofNat, Nat.mod_eq_of_lt (by omega)]
  have e3 : (lN (tf_pb z j)).toBitVec.getLsbD i = (decide (i < 8) && z.toBitVec.getLsbD (8 * j + i)) := by
    rw [wb_tb, BitVec.getLsbD_ofNat, decide_eq_true hi, Bool.true_and]
    unfold tf_pb
    have e5 : (256 : Nat) = 2 ^ 8 := rfl
    rw [e5, Nat.testBit_mod_two_pow, Nat.testBit_div_two_pow, BitVec.testBit_toNat, Nat.add_comm]
  rw [e3, Int64.toBitVec_and, e2, BitVec.getLsbD_and, tb_255 i hi, BitVec.getLsbD_sshiftRight]
  by_cases h8 : i < 8
  · rw [decide_eq_true h8, if_pos (by omega), decide_eq_false (show ¬ 64 ≤ i by omega)]
    simp
  · rw [decide_eq_false h8]
    simp
def tf_bs (a b : Int64) (i : Nat) : Nat := if i < 8 then tf_pb a i else tf_pb b (i - 8)
theorem tf_pb_lt (z : Int64) (i : Nat) : tf_pb z i < 256 := Nat.mod_lt _ (by omega)
theorem tf_bs_lt (a b : Int64) (i : Nat) : tf_bs a b i < 256 := by
  unfold tf_bs
  split
  · exact tf_pb_lt _ _
  · exact tf_pb_lt _ _
/-- how many of the first i bytes are not 0 -/
def tf_tn (f : Nat → Nat) : Nat → Nat
  | 0 => 0
  | i + 1 => if f i = 0 then tf_tn f i else tf_tn f i + 1
/-- the line behind the first i bytes -/
def tf_tl (f : Nat → Nat) (li : Nat → Int32) (ll : Nat) : Nat → Nat → Int32
  | 0 => li
  | i + 1 => if f i = 0 then tf_tl f li ll i else upd (tf_tl f li ll i) (ll + tf_tn f i) (nI (f i))
theorem tf_tn_le {f : Nat → Nat} : ∀ i, tf_tn f i ≤ i
  | 0 => Nat.le_refl _
  | i + 1 => by
    have := tf_tn_le (f := f) i
    show (if f i = 0 then _ else _) ≤ _
    split <;> omega
theorem tf_tn_mono {f : Nat → Nat} : ∀ m i, tf_tn f i ≤ tf_tn f (i + m)
  | 0, _ => Nat.le_refl _
  | m + 1, i => by
    have h := tf_tn_mono (f := f) m i
    have e : i + (m + 1) = (i + m) + 1 := by omega
    rw [e]
    show _ ≤ (if f (i + m) = 0 then _ else _)
    split <;> omega
theorem tf_tn_s {f : Nat → Nat} {i : Nat} (h : f i ≠ 0) : tf_tn f (i + 1) = tf_tn f i + 1 := if_neg h
theorem tf_tn_z {f : Nat → Nat} {i : Nat} (h : f i = 0) : tf_tn f (i + 1) = tf_tn f i := if_pos h
theorem tf_tl_s {f : Nat → Nat} {li : Nat → Int32} {ll i : Nat} (h : f i ≠ 0) : tf_tl f li ll (i + 1) = upd (tf_tl f li ll i) (ll + tf_tn f i) (nI (f i)) := if_neg h
theorem tf_tl_z {f : Nat → Nat} {li : Nat → Int32} {ll i : Nat} (h : f i = 0) : tf_tl f li ll (i + 1) = tf_tl f li ll i := if_pos h
theorem tf_L_app {ll : Nat} {li : Nat → Int32} {x : Int32} (hx : tf_Lc x) (h : tf_L ll li) : tf_L (ll + 1) (upd li ll x) := by
  intro i hi
  rcases Nat.lt_or_ge i ll with g | g
  · rw [pk_un (by omega)]; exact h i g
  · have e : i = ll := by omega
    rw [e, pk_us]; exact hx
theorem tf_L_tl {f : Nat → Nat} {ll : Nat} {li : Nat → Int32} (h : tf_L ll li) : ∀ i, (∀ t, t < i → f t = 0 ∨ (32 ≤ f t ∧ f t ≤ 126)) → tf_L (ll + tf_tn f i) (tf_tl f li ll i)
  | 0, _ => h
  | i + 1, hg => by
    have ih := tf_L_tl h i (fun t ht => hg t (by omega))
    by_cases z : f i = 0
    · rw [tf_tn_z z, tf_tl_z z]; exact ih
    · rw [tf_tn_s z, tf_tl_s z]
      have hx := hg i (by omega)
      exact tf_L_app ⟨f i, rfl, by omega, by omega⟩ ih
section
variable {md mr mu mf ll lp d r w n os cd hc oh od fu : Nat} {k1 k2 k3 k4 k5 k6 k7 k8 k9 tS tE en op co cu ip ie pe ab re oy sv : Int32} {tN onm : Int64} {li da rk ra rb rc kd ls im sr st we ad wo tk gv io ia ck ci ce ou ox yk ya yb oo ol ao ap ik iv ow oz : Nat → Int32} {nm : Nat → Int64} {lo : Nat}
theorem tx_by {post : Int32 → Prop} {a b : Int64} {i : Nat} (hi : i < 16) (k : post (nI (tf_bs a b i))) : wpX_byteOf post (k1, k2, k3, k4, k5, k6, k7, k8, k9, (nI md), (nI mr), (nI mu), (nI mf), (nI ll), (nI lp), tS, tE, tN, (nI d), (nI r), (nI w), en, (nI n), op, co, onm, (nI os), (nI cd), (nI hc), (nI oh), (nI od), cu, (nI fu), ip, ie, pe, ab, re, li, da, rk, ra, rb, rc, nm, kd, ls, im, sr, st, we, ad, wo, tk, gv, io, ia, ck, ci, ce, ou, ox) a b (nI i) := by
  unfold tf_bs at k
  rcases Nat.lt_or_ge i 8 with h | h
  · rw [if_pos h] at k
    refine br_f (nI_ge (b := 8) h (by decide)) ?_
    show post _
    rw [tb_x hi, Nat.mod_eq_of_lt h]
    exact k
  · rw [if_neg (by omega)] at k
    refine br_t (nI_le (a := 8) h (by omega)) ?_
    show post _
    have e : i % 8 = i - 8 := by omega
    rw [tb_x hi, e]
    exact k
theorem ty_by {post : Int32 → Prop} {a b : Int64} {i : Nat} (hi : i < 16) (k : post (nI (tf_bs a b i))) : wpY_byteAt post ((nI md), (nI mr), (nI mu), (nI mf), (nI ll), (nI lp), sv, (nI d), (nI r), (nI w), en, (nI n), (nI hc), (nI od), cu, oy, onm, (nI cd), (nI oh), (nI fu), pe, re, ab, li, da, yk, ya, yb, nm, kd, ls, im, sr, ad, oo, ol, ao, ap, ik, iv, ow, ce, oz, ck, ou) a b (nI i) := by
  unfold tf_bs at k
  rcases Nat.lt_or_ge i 8 with h | h
  · rw [if_pos h] at k
    refine br_f (nI_ge (b := 8) h (by decide)) (nm_e ?_)
    rw [tb_y h, lN_i]
    exact k
  · rw [if_neg (by omega)] at k
    refine br_t (nI_le (a := 8) h (by omega)) (nm_e ?_)
    have e : nI i - 8 = nI (i - 8) := pk_sub (a := i) (b := 8) h
    rw [e, tb_y (by omega), lN_i]
    exact k
theorem tx_t6 {post : Int32 → SX → Prop} {a b : Int64} (hll : ll ≤ 128) (hg : ∀ t, t < 16 → tf_bs a b t = 0 ∨ (32 ≤ tf_bs a b t ∧ tf_bs a b t ≤ 126)) (k : wX_text_6 post a b k1 k2 k3 k4 k5 k6 k7 k8 k9 (nI md) (nI mr) (nI mu) (nI mf) (nI ll) (nI lp) tS tE tN (nI d) (nI r) (nI w) en (nI n) op co onm (nI os) (nI cd) (nI hc) (nI oh) (nI od) cu (nI fu) ip ie pe ab re li da rk ra rb rc nm kd ls im sr st we ad wo tk gv io ia ck ci ce ou ox 1 (nI (tf_tn (tf_bs a b) 16)) (nI 16)) : ∀ m i, i + m = 16 → wX_text_6 post a b k1 k2 k3 k4 k5 k6 k7 k8 k9 (nI md) (nI mr) (nI mu) (nI mf) (nI ll) (nI lp) tS tE tN (nI d) (nI r) (nI w) en (nI n) op co onm (nI os) (nI cd) (nI hc) (nI oh) (nI od) cu (nI fu) ip ie pe ab re li da rk ra rb rc nm kd ls im sr st we ad wo tk gv io ia ck ci ce ou ox (m + 1) (nI (tf_tn (tf_bs a b) i)) (nI i)
  | 0, i, h => by
    have e : i = 16 := by omega
    subst e
    exact k
  | m + 1, i, h => by
    have ih := tx_t6 hll hg k m (i + 1) (by omega)
    have hlt := tf_bs_lt a b i
    refine br_f (nI_ge (b := 16) (by omega) (by decide)) (tx_by (by omega) ?_)
    rcases hg i (by omega) with z | z
    · rw [tf_tn_z z] at ih
      rw [z]
      exact br_t rfl (nm_r (nI_1 i) ih)
    · rw [tf_tn_s (by omega)] at ih
      exact br_f (nI_ne0 (by omega) (by omega)) (br_f (nI_nlt (b := 32) z.1 (by omega)) (br_t (nI_le (b := 126) z.2 (by omega)) (nm_r (nI_1 _) (nm_r (nI_1 i) ih))))
theorem tx_t6b {post : Int32 → SX → Prop} {a b : Int64} (k : post 0 (k1, k2, k3, k4, k5, k6, k7, k8, k9, (nI md), (nI mr), (nI mu), (nI mf), (nI ll), (nI lp), tS, tE, tN, (nI d), (nI r), (nI w), en, (nI n), op, co, onm, (nI os), (nI cd), (nI hc), (nI oh), (nI od), cu, (nI fu), ip, ie, pe, ab, re, li, da, rk, ra, rb, rc, nm, kd, ls, im, sr, st, we, ad, wo, tk, gv, io, ia, ck, ci, ce, ou, ox)) : ∀ m i x5, i + m = 16 → (∃ t, i ≤ t ∧ t < 16 ∧ ¬ (tf_bs a b t = 0 ∨ (32 ≤ tf_bs a b t ∧ tf_bs a b t ≤ 126))) → wX_text_6 post a b k1 k2 k3 k4 k5 k6 k7 k8 k9 (nI md) (nI mr) (nI mu) (nI mf) (nI ll) (nI lp) tS tE tN (nI d) (nI r) (nI w) en (nI n) op co onm (nI os) (nI cd) (nI hc) (nI oh) (nI od) cu (nI fu) ip ie pe ab re li da rk ra rb rc nm kd ls im sr st we ad wo tk gv io ia ck ci ce ou ox (m + 1) x5 (nI i)
  | 0, i, _, h, hb => by
    obtain ⟨t, t1, t2, _⟩ := hb
    omega
  | m + 1, i, x5, h, hb => by
    have hlt := tf_bs_lt a b i
    have ih : ∀ x5, (tf_bs a b i = 0 ∨ (32 ≤ tf_bs a b i ∧ tf_bs a b i ≤ 126)) → wX_text_6 post a b k1 k2 k3 k4 k5 k6 k7 k8 k9 (nI md) (nI mr) (nI mu) (nI mf) (nI ll) (nI lp) tS tE tN (nI d) (nI r) (nI w) en (nI n) op co onm (nI os) (nI cd) (nI hc) (nI oh) (nI od) cu (nI fu) ip ie pe ab re li da rk ra rb rc nm kd ls im sr st we ad wo tk gv io ia ck ci ce ou ox (m + 1) x5 (nI (i + 1)) := by
      intro x5 hi
      refine tx_t6b k m (i + 1) x5 (by omega) ?_
      obtain ⟨t, t1, t2, t3⟩ := hb
      rcases Nat.lt_or_ge i t with g | g
      · exact ⟨t, by omega, t2, t3⟩
      · have e : t = i := by omega
        subst e
        exact absurd hi t3
    refine br_f (nI_ge (b := 16) (by omega) (by decide)) (tx_by (by omega) ?_)
    by_cases z : tf_bs a b i = 0
    · have K := ih x5 (Or.inl z)
      rw [z]
      exact br_t rfl (nm_r (nI_1 i) K)
    · refine br_f (nI_ne0 (by omega) (by omega)) ?_
      rcases Nat.lt_or_ge (tf_bs a b i) 32 with g | g
      · exact br_t (nI_lt (b := 32) g (by decide)) k
      · refine br_f (nI_nlt (b := 32) g (by omega)) ?_
        rcases Nat.lt_or_ge 126 (tf_bs a b i) with g2 | g2
        · exact br_f (nI_ge (a := 126) g2 (by omega)) k
        · exact br_t (nI_le (b := 126) g2 (by omega)) (nm_e (nm_r (nI_1 i) (ih _ (Or.inr ⟨g, g2⟩))))
theorem tx_t71 {post : Int32 → SX → Prop} {a b : Int64} (hll : ll + tf_tn (tf_bs a b) 16 ≤ 128) (k : post 1 (k1, k2, k3, k4, k5, k6, k7, k8, k9, (nI md), (nI mr), (nI mu), (nI mf), (nI (ll + tf_tn (tf_bs a b) 16)), (nI lp), tS, tE, tN, (nI d), (nI r), (nI w), en, (nI n), op, co, onm, (nI os), (nI cd), (nI hc), (nI oh), (nI od), cu, (nI fu), ip, ie, pe, ab, re, (tf_tl (tf_bs a b) li ll 16), da, rk, ra, rb, rc, nm, kd, ls, im, sr, st, we, ad, wo, tk, gv, io, ia, ck, ci, ce, ou, ox)) : ∀ m i, i + m = 16 → wX_text_71 post a b (m + 1) (nI i) k1 k2 k3 k4 k5 k6 k7 k8 k9 (nI md) (nI mr) (nI mu) (nI mf) (nI (ll + tf_tn (tf_bs a b) i)) (nI lp) tS tE tN (nI d) (nI r) (nI w) en (nI n) op co onm (nI os) (nI cd) (nI hc) (nI oh) (nI od) cu (nI fu) ip ie pe ab re (tf_tl (tf_bs a b) li ll i) da rk ra rb rc nm kd ls im sr st we ad wo tk gv io ia ck ci ce ou ox
  | 0, i, h => by
    have e : i = 16 := by omega
    subst e
    exact br_t (by decide) k
  | m + 1, i, h => by
    have ih := tx_t71 hll k m (i + 1) (by omega)
    have hlt := tf_bs_lt a b i
    refine br_f (nI_ge (b := 16) (by omega) (by decide)) (tx_by (by omega) ?_)
    by_cases z : tf_bs a b i = 0
    · rw [tf_tn_z z, tf_tl_z z] at ih
      rw [z]
      exact br_t rfl (nm_r (nI_1 i) ih)
    · have hm := tf_tn_mono (f := tf_bs a b) m (i + 1)
      have e : i + 1 + m = 16 := by omega
      rw [e, tf_tn_s z] at hm
      rw [tf_tn_s z, tf_tl_s z] at ih
      exact br_f (nI_ne0 (by omega) (by omega)) (tx_append (by omega) (nm_r (nI_1 i) ih))
theorem ty_feed {post : Int32 → SY → Prop} {c : Nat} (h1 : 32 ≤ c) (h2 : c ≤ 126) (hll : ll < 128) (k : post 1 ((nI md), (nI mr), (nI mu), (nI mf), (nI (ll+1)), (nI lp), sv, (nI d), (nI r), (nI w), en, (nI n), (nI hc), (nI od), cu, oy, onm, (nI cd), (nI oh), (nI fu), pe, re, ab, (upd li ll (nI c)), da, yk, ya, yb, nm, kd, ls, im, sr, ad, oo, ol, ao, ap, ik, iv, ow, ce, oz, ck, ou)) : wpY_feed post ((nI md), (nI mr), (nI mu), (nI mf), (nI ll), (nI lp), sv, (nI d), (nI r), (nI w), en, (nI n), (nI hc), (nI od), cu, oy, onm, (nI cd), (nI oh), (nI fu), pe, re, ab, li, da, yk, ya, yb, nm, kd, ls, im, sr, ad, oo, ol, ao, ap, ik, iv, ow, ce, oz, ck, ou) (nI c) :=
  br_f (nI_nlt (b := 32) h1 (by omega)) (br_f (nI_nlt (a := 126) h2 (by omega)) (br_t (nI_lt (b := 128) hll (by decide)) (And.intro (vp_in_nI hll (by omega)) (nm_r (tf_uc (by omega)) (nm_r (nI_1 ll) k)))))
theorem ty_t6 {post : Int32 → SY → Prop} {a b : Int64} (hll : ll ≤ 128) (hg : ∀ t, t < 16 → tf_bs a b t = 0 ∨ (32 ≤ tf_bs a b t ∧ tf_bs a b t ≤ 126)) (k : wY_text_6 post a b (nI md) (nI mr) (nI mu) (nI mf) (nI ll) (nI lp) sv (nI d) (nI r) (nI w) en (nI n) (nI hc) (nI od) cu oy onm (nI cd) (nI oh) (nI fu) pe re ab li da yk ya yb nm kd ls im sr ad oo ol ao ap ik iv ow ce oz ck ou 1 (nI (tf_tn (tf_bs a b) 16)) (nI 16)) : ∀ m i, i + m = 16 → wY_text_6 post a b (nI md) (nI mr) (nI mu) (nI mf) (nI ll) (nI lp) sv (nI d) (nI r) (nI w) en (nI n) (nI hc) (nI od) cu oy onm (nI cd) (nI oh) (nI fu) pe re ab li da yk ya yb nm kd ls im sr ad oo ol ao ap ik iv ow ce oz ck ou (m + 1) (nI (tf_tn (tf_bs a b) i)) (nI i)
  | 0, i, h => by
    have e : i = 16 := by omega
    subst e
    exact k
  | m + 1, i, h => by
    have ih := ty_t6 hll hg k m (i + 1) (by omega)
    have hlt := tf_bs_lt a b i
    refine br_f (nI_ge (b := 16) (by omega) (by decide)) (ty_by (by omega) ?_)
    rcases hg i (by omega) with z | z
    · rw [tf_tn_z z] at ih
      rw [z]
      exact br_t rfl (br_t rfl (nm_r (nI_1 i) ih))
    · rw [tf_tn_s (by omega)] at ih
      have hne : ¬ nI (tf_bs a b i) = 0 := nI_ne0 (by omega) (by omega)
      exact br_f hne (br_f (nI_nlt (b := 32) z.1 (by omega)) (br_t (nI_le (b := 126) z.2 (by omega)) (br_f hne (nm_r (nI_1 _) (nm_r (nI_1 i) ih)))))
theorem ty_t6b {post : Int32 → SY → Prop} {a b : Int64} (k : post 0 ((nI md), (nI mr), (nI mu), (nI mf), (nI ll), (nI lp), sv, (nI d), (nI r), (nI w), en, (nI n), (nI hc), (nI od), cu, oy, onm, (nI cd), (nI oh), (nI fu), pe, re, ab, li, da, yk, ya, yb, nm, kd, ls, im, sr, ad, oo, ol, ao, ap, ik, iv, ow, ce, oz, ck, ou)) : ∀ m i x5, i + m = 16 → (∃ t, i ≤ t ∧ t < 16 ∧ ¬ (tf_bs a b t = 0 ∨ (32 ≤ tf_bs a b t ∧ tf_bs a b t ≤ 126))) → wY_text_6 post a b (nI md) (nI mr) (nI mu) (nI mf) (nI ll) (nI lp) sv (nI d) (nI r) (nI w) en (nI n) (nI hc) (nI od) cu oy onm (nI cd) (nI oh) (nI fu) pe re ab li da yk ya yb nm kd ls im sr ad oo ol ao ap ik iv ow ce oz ck ou (m + 1) x5 (nI i)
  | 0, i, _, h, hb => by
    obtain ⟨t, t1, t2, _⟩ := hb
    omega
  | m + 1, i, x5, h, hb => by
    have hlt := tf_bs_lt a b i
    have ih : ∀ x5, (tf_bs a b i = 0 ∨ (32 ≤ tf_bs a b i ∧ tf_bs a b i ≤ 126)) → wY_text_6 post a b (nI md) (nI mr) (nI mu) (nI mf) (nI ll) (nI lp) sv (nI d) (nI r) (nI w) en (nI n) (nI hc) (nI od) cu oy onm (nI cd) (nI oh) (nI fu) pe re ab li da yk ya yb nm kd ls im sr ad oo ol ao ap ik iv ow ce oz ck ou (m + 1) x5 (nI (i + 1)) := by
      intro x5 hi
      refine ty_t6b k m (i + 1) x5 (by omega) ?_
      obtain ⟨t, t1, t2, t3⟩ := hb
      rcases Nat.lt_or_ge i t with g | g
      · exact ⟨t, by omega, t2, t3⟩
      · have e : t = i := by omega
        subst e
        exact absurd hi t3
    refine br_f (nI_ge (b := 16) (by omega) (by decide)) (ty_by (by omega) ?_)
    by_cases z : tf_bs a b i = 0
    · have K := ih x5 (Or.inl z)
      rw [z]
      exact br_t rfl (br_t rfl (nm_r (nI_1 i) K))
    · have hne : ¬ nI (tf_bs a b i) = 0 := nI_ne0 (by omega) (by omega)
      refine br_f hne ?_
      rcases Nat.lt_or_ge (tf_bs a b i) 32 with g | g
      · exact br_t (nI_lt (b := 32) g (by decide)) k
      · refine br_f (nI_nlt (b := 32) g (by omega)) ?_
        rcases Nat.lt_or_ge 126 (tf_bs a b i) with g2 | g2
        · exact br_f (nI_ge (a := 126) g2 (by omega)) k
        · exact br_t (nI_le (b := 126) g2 (by omega)) (br_f hne (nm_e (nm_r (nI_1 i) (ih _ (Or.inr ⟨g, g2⟩)))))
theorem ty_t76 {post : Int32 → SY → Prop} {a b : Int64} (hll : ll + tf_tn (tf_bs a b) 16 ≤ 128) (hg : ∀ t, t < 16 → tf_bs a b t = 0 ∨ (32 ≤ tf_bs a b t ∧ tf_bs a b t ≤ 126)) (k : post 1 ((nI md), (nI mr), (nI mu), (nI mf), (nI (ll + tf_tn (tf_bs a b) 16)), (nI lp), sv, (nI d), (nI r), (nI w), en, (nI n), (nI hc), (nI od), cu, oy, onm, (nI cd), (nI oh), (nI fu), pe, re, ab, (tf_tl (tf_bs a b) li ll 16), da, yk, ya, yb, nm, kd, ls, im, sr, ad, oo, ol, ao, ap, ik, iv, ow, ce, oz, ck, ou)) : ∀ m i, i + m = 16 → wY_text_76 post a b (m + 1) (nI i) (nI md) (nI mr) (nI mu) (nI mf) (nI (ll + tf_tn (tf_bs a b) i)) (nI lp) sv (nI d) (nI r) (nI w) en (nI n) (nI hc) (nI od) cu oy onm (nI cd) (nI oh) (nI fu) pe re ab (tf_tl (tf_bs a b) li ll i) da yk ya yb nm kd ls im sr ad oo ol ao ap ik iv ow ce oz ck ou
  | 0, i, h => by
    have e : i = 16 := by omega
    subst e
    exact br_t (by decide) k
  | m + 1, i, h => by
    have ih := ty_t76 hll hg k m (i + 1) (by omega)
    have hlt := tf_bs_lt a b i
    refine br_f (nI_ge (b := 16) (by omega) (by decide)) (ty_by (by omega) ?_)
    by_cases z : tf_bs a b i = 0
    · rw [tf_tn_z z, tf_tl_z z] at ih
      rw [z]
      exact br_t rfl (nm_r (nI_1 i) ih)
    · have hm := tf_tn_mono (f := tf_bs a b) m (i + 1)
      have e : i + 1 + m = 16 := by omega
      rw [e, tf_tn_s z] at hm
      rw [tf_tn_s z, tf_tl_s z] at ih
      have hgi := hg i (by omega)
      exact br_f (nI_ne0 (by omega) (by omega)) (ty_feed (by omega) (by omega) (by omega) (nm_r (nI_1 i) ih))
/-- Y's text where all goes well -/
theorem ty_text {post : Int32 → SY → Prop} {a b : Int64} (hll : ll + tf_tn (tf_bs a b) 16 ≤ 128) (hg : ∀ t, t < 16 → tf_bs a b t = 0 ∨ (32 ≤ tf_bs a b t ∧ tf_bs a b t ≤ 126)) (k : post 1 ((nI md), (nI mr), (nI mu), (nI mf), (nI (ll + tf_tn (tf_bs a b) 16)), (nI lp), sv, (nI d), (nI r), (nI w), en, (nI n), (nI hc), (nI od), cu, oy, onm, (nI cd), (nI oh), (nI fu), pe, re, ab, (tf_tl (tf_bs a b) li ll 16), da, yk, ya, yb, nm, kd, ls, im, sr, ad, oo, ol, ao, ap, ik, iv, ow, ce, oz, ck, ou)) : wpY_text post ((nI md), (nI mr), (nI mu), (nI mf), (nI ll), (nI lp), sv, (nI d), (nI r), (nI w), en, (nI n), (nI hc), (nI od), cu, oy, onm, (nI cd), (nI oh), (nI fu), pe, re, ab, li, da, yk, ya, yb, nm, kd, ls, im, sr, ad, oo, ol, ao, ap, ik, iv, ow, ce, oz, ck, ou) a b := by
  refine Exists.intro 17 (ty_t6 (by omega) hg ?_ 16 0 (by omega))
  refine br_t (by decide) (br_t ?_ (Exists.intro 17 (ty_t76 hll hg k 16 0 (by omega))))
  rw [nI_add]
  exact nI_le (b := 128) hll (by decide)
end
end
section
/-! filling the line, in both -/
theorem tf_x_c {x : Int32} (h1 : ¬ x < 32) (h2 : ¬ 126 < x) : ∃ c : Nat, x = nI c ∧ 32 ≤ c ∧ c ≤ 126 := by
  have h0 : ¬ x < 0 := by
    intro z
    exact h1 (Int32.lt_of_lt_of_le z (by decide))
  obtain ⟨c, c1, c2⟩ := nI_of h0
  subst c2
  have a1 : ¬ c < 32 := fun z => h1 (nI_lt (b := 32) z (by decide))
  have a2 : ¬ 126 < c := fun z => h2 (nI_lt (a := 126) z c1)
  exact ⟨c, rfl, by omega, by omega⟩
theorem tf_pb0 (i : Nat) : tf_pb 0 i = 0 := by
  unfold tf_pb
  have e : (0 : Int64).toBitVec.toNat = 0 := rfl
  rw [e, Nat.zero_div]
theorem tf_tn_c {f : Nat → Nat} {c : Nat} (h : ∀ i, i < c → f i ≠ 0) : ∀ i, i ≤ c → tf_tn f i = i
  | 0, _ => rfl
  | i + 1, hi => by rw [tf_tn_s (h i (by omega)), tf_tn_c h i (by omega)]
theorem tf_tn_e {f : Nat → Nat} {c : Nat} (h : ∀ i, c ≤ i → f i = 0) : ∀ m, tf_tn f (c + m) = tf_tn f c
  | 0 => rfl
  | m + 1 => by
    have e : c + (m + 1) = (c + m) + 1 := by omega
    rw [e, tf_tn_z (h (c + m) (by omega)), tf_tn_e h m]
theorem tf_tl_e {f : Nat → Nat} {li : Nat → Int32} {ll c : Nat} (h : ∀ i, c ≤ i → f i = 0) : ∀ m, tf_tl f li ll (c + m) = tf_tl f li ll c
  | 0 => rfl
  | m + 1 => by
    have e : c + (m + 1) = (c + m) + 1 := by omega
    rw [e, tf_tl_z (h (c + m) (by omega)), tf_tl_e h m]
/-- a good name's bytes -/
theorem tf_GN_bs {x : Int64} (h : tf_GN x) : ∃ c, c ≤ 8 ∧ (∀ i, i < c → 33 ≤ tf_bs x 0 i ∧ tf_bs x 0 i ≤ 126) ∧ (∀ i, c ≤ i → tf_bs x 0 i = 0) := by
  obtain ⟨c, c1, c2⟩ := h
  refine ⟨c, c1, fun i hi => ?_, fun i hi => ?_⟩
  · unfold tf_bs
    rw [if_pos (by omega)]
    exact (c2 i (by omega)).1 hi
  · unfold tf_bs
    by_cases h8 : i < 8
    · rw [if_pos h8]; exact (c2 i h8).2 hi
    · rw [if_neg h8]; exact tf_pb0 _
def tf_MO (fX : (Int32 → SX → Prop) → SX → Prop) (fY : (Int32 → SY → Prop) → SY → Prop) (u : SX) (v : SY) : Prop := ∃ r u' v', tf_TR u' v' ∧ (∀ post : Int32 → SX → Prop, post r u' → fX post u) ∧ (∀ post : Int32 → SY → Prop, post r v' → fY post v)
section
variable {md mr mu mf ll lp d r w n os cd hc oh od fu : Nat} {k1 k2 k3 k4 k5 k6 k7 k8 k9 tS tE en op co cu ip ie pe ab re oy sv : Int32} {tN onm : Int64} {li da rk ra rb rc kd ls im sr st we ad wo tk gv io ia ck ci ce ou ox yk ya yb oo ol ao ap ik iv ow oz : Nat → Int32} {nm : Nat → Int64} {lo : Nat}
variable {fv : Nat} {y3 y4 y5 : Int32}
theorem tf_C_L {ll' : Nat} {li' : Nat → Int32} (C : (tf_C md mr mu mf ll d 0 w n os cd hc oh od op co oy onm li nm kd im ad st we wo oo ol ao ap tk gv io ia ik iv ow ck ci ox oz)) (h : ll' ≤ 128) (hL : tf_L ll' li') : (tf_C md mr mu mf ll' d 0 w n os cd hc oh od op co oy onm li' nm kd im ad st we wo oo ol ao ap tk gv io ia ik iv ow ck ci ox oz) := by
  have hB := C.1
  unfold tf_B at hB
  exact ⟨by unfold tf_B; omega, hL, C.2.2⟩
theorem tm_feed (C : (tf_C md mr mu mf ll d 0 w n os cd hc oh od op co oy onm li nm kd im ad st we wo oo ol ao ap tk gv io ia ik iv ow ck ci ox oz)) (x : Int32) : tf_MO (fun post u => wpX_feed post u x) (fun post v => wpY_feed post v x) (k1, k2, k3, k4, k5, k6, k7, k8, k9, (nI md), (nI mr), (nI mu), (nI mf), (nI ll), (nI 0), tS, tE, tN, (nI d), (nI 0), (nI w), en, (nI n), op, co, onm, (nI os), (nI cd), (nI hc), (nI oh), (nI od), cu, (nI fu), (-1), ie, (-1), ab, re, li, da, rk, ra, rb, rc, nm, kd, ls, im, sr, st, we, ad, wo, tk, gv, io, ia, ck, ci, ce, ou, ox) ((nI md), (nI mr), (nI mu), (nI mf), (nI ll), (nI lp), sv, (nI d), (nI 0), (nI w), en, (nI n), (nI hc), (nI od), cu, oy, onm, (nI cd), (nI oh), (nI fv), y3, y4, y5, li, da, yk, ya, yb, nm, kd, ls, im, sr, ad, oo, ol, ao, ap, ik, iv, ow, ce, oz, ck, ou) := by
  have hB := C.1
  unfold tf_B at hB
  by_cases h1 : x < 32
  · exact ⟨0, _, _, tf_TR_in C, fun post hp => br_t h1 hp, fun post hp => br_t h1 hp⟩
  · by_cases h2 : 126 < x
    · exact ⟨0, _, _, tf_TR_in C, fun post hp => br_f h1 (br_t h2 hp), fun post hp => br_f h1 (br_t h2 hp)⟩
    · obtain ⟨c, c1, c2, c3⟩ := tf_x_c h1 h2
      subst c1
      rcases Nat.lt_or_ge ll 128 with hl | hl
      · exact ⟨1, _, _, tf_TR_in (tf_C_L C (by omega) (tf_L_app ⟨c, rfl, c2, c3⟩ C.2.1)), fun post hp => br_f h1 (br_f h2 (br_t (nI_lt (b := 128) hl (by decide)) (tx_append hl hp))), fun post hp => ty_feed c2 c3 hl hp⟩
      · exact ⟨0, _, _, tf_TR_in C, fun post hp => br_f h1 (br_f h2 (br_f (nI_nlt (b := 128) hl (by omega)) hp)), fun post hp => br_f h1 (br_f h2 (br_f (nI_nlt (b := 128) hl (by omega)) hp))⟩
theorem tm_letter (C : (tf_C md mr mu mf ll d 0 w n os cd hc oh od op co oy onm li nm kd im ad st we wo oo ol ao ap tk gv io ia ik iv ow ck ci ox oz)) (x : Int32) : tf_MO (fun post u => wpX_letter post u x) (fun post v => wpY_letter post v x) (k1, k2, k3, k4, k5, k6, k7, k8, k9, (nI md), (nI mr), (nI mu), (nI mf), (nI ll), (nI 0), tS, tE, tN, (nI d), (nI 0), (nI w), en, (nI n), op, co, onm, (nI os), (nI cd), (nI hc), (nI oh), (nI od), cu, (nI fu), (-1), ie, (-1), ab, re, li, da, rk, ra, rb, rc, nm, kd, ls, im, sr, st, we, ad, wo, tk, gv, io, ia, ck, ci, ce, ou, ox) ((nI md), (nI mr), (nI mu), (nI mf), (nI ll), (nI lp), sv, (nI d), (nI 0), (nI w), en, (nI n), (nI hc), (nI od), cu, oy, onm, (nI cd), (nI oh), (nI fv), y3, y4, y5, li, da, yk, ya, yb, nm, kd, ls, im, sr, ad, oo, ol, ao, ap, ik, iv, ow, ce, oz, ck, ou) := by
  have hB := C.1
  unfold tf_B at hB
  by_cases h1 : x < 0
  · exact ⟨0, _, _, tf_TR_in C, fun post hp => br_t h1 hp, fun post hp => br_t h1 hp⟩
  · by_cases h2 : 25 < x
    · exact ⟨0, _, _, tf_TR_in C, fun post hp => br_f h1 (br_t h2 hp), fun post hp => br_f h1 (br_t h2 hp)⟩
    · obtain ⟨c, c1, c2⟩ := nI_of h1
      subst c2
      have c3 : c ≤ 25 := by
        rcases Nat.lt_or_ge 25 c with z | z
        · exact absurd (nI_lt (a := 25) z c1) h2
        · exact z
      have e97 : 97 + nI c = nI (97 + c) := nI_add 97 c
      have e2 : nI ll + 2 = nI (ll + 2) := nI_add ll 2
      rcases Nat.lt_or_ge 126 ll with hl | hl
      · have hn : ¬ nI ll + 2 ≤ 128 := by rw [e2]; exact nI_ge (a := 128) (by omega) (by omega)
        exact ⟨0, _, _, tf_TR_in C, fun post hp => br_f h1 (br_f h2 (br_f hn hp)), fun post hp => br_f h1 (br_f h2 (br_f hn hp))⟩
      · have hn : nI ll + 2 ≤ 128 := by rw [e2]; exact nI_le (b := 128) (by omega) (by omega)
        refine ⟨1, (k1, k2, k3, k4, k5, k6, k7, k8, k9, (nI md), (nI mr), (nI mu), (nI mf), (nI (ll + 1 + 1)), (nI 0), tS, tE, tN, (nI d), (nI 0), (nI w), en, (nI n), op, co, onm, (nI os), (nI cd), (nI hc), (nI oh), (nI od), cu, (nI fu), (-1), ie, (-1), ab, re, (upd (upd li ll (nI (97 + c))) (ll + 1) (nI 32)), da, rk, ra, rb, rc, nm, kd, ls, im, sr, st, we, ad, wo, tk, gv, io, ia, ck, ci, ce, ou, ox), ((nI md), (nI mr), (nI mu), (nI mf), (nI (ll + 1 + 1)), (nI lp), sv, (nI d), (nI 0), (nI w), en, (nI n), (nI hc), (nI od), cu, oy, onm, (nI cd), (nI oh), (nI fv), y3, y4, y5, (upd (upd li ll (nI (97 + c))) (ll + 1) (nI 32)), da, yk, ya, yb, nm, kd, ls, im, sr, ad, oo, ol, ao, ap, ik, iv, ow, ce, oz, ck, ou), tf_TR_in (tf_C_L C (by omega) (tf_L_app ⟨32, rfl, by omega, by omega⟩ (tf_L_app ⟨97 + c, rfl, by omega, by omega⟩ C.2.1))), fun post hp => br_f h1 (br_f h2 (br_t hn ?_)), fun post hp => br_f h1 (br_f h2 (br_t hn ?_))⟩
        · rw [e97]
          exact tx_append (by omega) (tx_append (by omega) hp)
        · rw [e97]
          exact ty_feed (by omega) (by omega) (by omega) (ty_feed (c := 32) (by omega) (by omega) (by omega) (And.intro rfl hp))
theorem tm_text (C : (tf_C md mr mu mf ll d 0 w n os cd hc oh od op co oy onm li nm kd im ad st we wo oo ol ao ap tk gv io ia ik iv ow ck ci ox oz)) (a b : Int64) : tf_MO (fun post u => wpX_text post u a b) (fun post v => wpY_text post v a b) (k1, k2, k3, k4, k5, k6, k7, k8, k9, (nI md), (nI mr), (nI mu), (nI mf), (nI ll), (nI 0), tS, tE, tN, (nI d), (nI 0), (nI w), en, (nI n), op, co, onm, (nI os), (nI cd), (nI hc), (nI oh), (nI od), cu, (nI fu), (-1), ie, (-1), ab, re, li, da, rk, ra, rb, rc, nm, kd, ls, im, sr, st, we, ad, wo, tk, gv, io, ia, ck, ci, ce, ou, ox) ((nI md), (nI mr), (nI mu), (nI mf), (nI ll), (nI lp), sv, (nI d), (nI 0), (nI w), en, (nI n), (nI hc), (nI od), cu, oy, onm, (nI cd), (nI oh), (nI fv), y3, y4, y5, li, da, yk, ya, yb, nm, kd, ls, im, sr, ad, oo, ol, ao, ap, ik, iv, ow, ce, oz, ck, ou) := by
  have hB := C.1
  unfold tf_B at hB
  have h16 := tf_tn_le (f := tf_bs a b) 16
  by_cases hg : ∀ t, t < 16 → tf_bs a b t = 0 ∨ (32 ≤ tf_bs a b t ∧ tf_bs a b t ≤ 126)
  · rcases Nat.lt_or_ge 128 (ll + tf_tn (tf_bs a b) 16) with hl | hl
    · have hn : ¬ nI ll + nI (tf_tn (tf_bs a b) 16) ≤ 128 := by rw [nI_add]; exact nI_ge (a := 128) hl (by omega)
      exact ⟨0, _, _, tf_TR_in C, fun post hp => Exists.intro 17 (tx_t6 (by omega) hg (br_t (by decide) (br_f hn hp)) 16 0 (by omega)), fun post hp => Exists.intro 17 (ty_t6 (by omega) hg (br_t (by decide) (br_f hn hp)) 16 0 (by omega))⟩
    · have hn : nI ll + nI (tf_tn (tf_bs a b) 16) ≤ 128 := by rw [nI_add]; exact nI_le (b := 128) hl (by omega)
      exact ⟨1, _, _, tf_TR_in (tf_C_L C hl (tf_L_tl C.2.1 16 hg)), fun post hp => Exists.intro 17 (tx_t6 (by omega) hg (br_t (by decide) (br_t hn (Exists.intro 17 (tx_t71 hl hp 16 0 (by omega))))) 16 0 (by omega)), fun post hp => ty_text hl hg hp⟩
  · have hb : ∃ t, 0 ≤ t ∧ t < 16 ∧ ¬ (tf_bs a b t = 0 ∨ (32 ≤ tf_bs a b t ∧ tf_bs a b t ≤ 126)) :=
      Classical.byContradiction (fun z => hg (fun t t1 => Classical.byContradiction (fun y => z ⟨t, by omega, t1, y⟩)))
    exact ⟨0, _, _, tf_TR_in C, fun post hp => Exists.intro 17 (tx_t6b hp 16 0 0 (by omega) hb), fun post hp => Exists.intro 17 (ty_t6b hp 16 0 0 (by omega) hb)⟩
/-- X counts a name's bytes -/
theorem tx_w27 {post : Int32 → SX → Prop} {x : Int64} (k : wX_word_27 post x k1 k2 k3 k4 k5 k6 k7 k8 k9 (nI md) (nI mr) (nI mu) (nI mf) (nI ll) (nI lp) tS tE tN (nI d) (nI r) (nI w) en (nI n) op co onm (nI os) (nI cd) (nI hc) (nI oh) (nI od) cu (nI fu) ip ie pe ab re li da rk ra rb rc nm kd ls im sr st we ad wo tk gv io ia ck ci ce ou ox 1 (nI (tf_tn (tf_bs x 0) 8)) (nI 8)) : ∀ m i, i + m = 8 → wX_word_27 post x k1 k2 k3 k4 k5 k6 k7 k8 k9 (nI md) (nI mr) (nI mu) (nI mf) (nI ll) (nI lp) tS tE tN (nI d) (nI r) (nI w) en (nI n) op co onm (nI os) (nI cd) (nI hc) (nI oh) (nI od) cu (nI fu) ip ie pe ab re li da rk ra rb rc nm kd ls im sr st we ad wo tk gv io ia ck ci ce ou ox (m + 1) (nI (tf_tn (tf_bs x 0) i)) (nI i)
  | 0, i, h => by
    have e : i = 8 := by omega
    subst e
    exact k
  | m + 1, i, h => by
    have ih := tx_w27 k m (i + 1) (by omega)
    have hlt := tf_bs_lt x 0 i
    refine br_f (nI_ge (b := 8) (by omega) (by decide)) (tx_by (by omega) ?_)
    by_cases z : tf_bs x 0 i = 0
    · rw [tf_tn_z z] at ih
      rw [z]
      exact br_t rfl (nm_r (nI_1 i) ih)
    · rw [tf_tn_s z] at ih
      exact br_f (nI_ne0 (by omega) (by omega)) (nm_r (nI_1 _) (nm_r (nI_1 i) ih))
theorem tx_w78 {post : Int32 → SX → Prop} {x : Int64} {c : Nat} (hc' : c ≤ 8) (hll : ll + c + 1 ≤ 128) (hne : ∀ i, i < c → tf_bs x 0 i ≠ 0) (k : post 1 (k1, k2, k3, k4, k5, k6, k7, k8, k9, (nI md), (nI mr), (nI mu), (nI mf), (nI (ll + c + 1)), (nI lp), tS, tE, tN, (nI d), (nI r), (nI w), en, (nI n), op, co, onm, (nI os), (nI cd), (nI hc), (nI oh), (nI od), cu, (nI fu), ip, ie, pe, ab, re, (upd (tf_tl (tf_bs x 0) li ll c) (ll + c) (nI 32)), da, rk, ra, rb, rc, nm, kd, ls, im, sr, st, we, ad, wo, tk, gv, io, ia, ck, ci, ce, ou, ox)) : ∀ m i, i + m = c → wX_word_78 post x (nI c) (m + 1) (nI i) k1 k2 k3 k4 k5 k6 k7 k8 k9 (nI md) (nI mr) (nI mu) (nI mf) (nI (ll + i)) (nI lp) tS tE tN (nI d) (nI r) (nI w) en (nI n) op co onm (nI os) (nI cd) (nI hc) (nI oh) (nI od) cu (nI fu) ip ie pe ab re (tf_tl (tf_bs x 0) li ll i) da rk ra rb rc nm kd ls im sr st we ad wo tk gv io ia ck ci ce ou ox
  | 0, i, h => by
    have e : i = c := by omega
    subst e
    exact br_t (nI_le (Nat.le_refl _) (by omega)) (tx_append (by omega) k)
  | m + 1, i, h => by
    have ih := tx_w78 hc' hll hne k m (i + 1) (by omega)
    rw [tf_tl_s (hne i (by omega)), tf_tn_c hne i (by omega)] at ih
    exact br_f (nI_ge (by omega) (by omega)) (tx_by (by omega) (tx_append (by omega) (nm_r (nI_1 i) ih)))
theorem ty_w18 {post : Int32 → SY → Prop} {q : Nat} (hq : q < 75) (k : wY_word_18 post (nI q) (nI md) (nI mr) (nI mu) (nI mf) (nI ll) (nI lp) sv (nI d) (nI r) (nI w) en (nI n) (nI hc) (nI od) cu oy onm (nI cd) (nI oh) (nI fu) pe re ab li da yk ya yb nm kd ls im sr ad oo ol ao ap ik iv ow ce oz ck ou 1 (nI (tf_tn (tf_bs (nm q) 0) 8)) (nI 8)) : ∀ m i, i + m = 8 → wY_word_18 post (nI q) (nI md) (nI mr) (nI mu) (nI mf) (nI ll) (nI lp) sv (nI d) (nI r) (nI w) en (nI n) (nI hc) (nI od) cu oy onm (nI cd) (nI oh) (nI fu) pe re ab li da yk ya yb nm kd ls im sr ad oo ol ao ap ik iv ow ce oz ck ou (m + 1) (nI (tf_tn (tf_bs (nm q) 0) i)) (nI i)
  | 0, i, h => by
    have e : i = 8 := by omega
    subst e
    exact k
  | m + 1, i, h => by
    have ih := ty_w18 hq k m (i + 1) (by omega)
    have e1 : tf_bs (nm q) 0 i = tf_pb (nm q) i := if_pos (by omega)
    have hlt := tf_pb_lt (nm q) i
    refine br_f (nI_ge (b := 8) (by omega) (by decide)) (And.intro (vp_in_nI hq (by omega)) ?_)
    rw [nI_clamp (show q < 2 ^ 31 by omega), tb_y (show i < 8 by omega)]
    by_cases z : tf_pb (nm q) i = 0
    · rw [tf_tn_z (e1.trans z)] at ih
      rw [z]
      exact br_t rfl (nm_r (nI_1 i) ih)
    · rw [tf_tn_s (by rw [e1]; exact z)] at ih
      exact br_f (fun y => z ((lN_eq (b := 0) (by omega) (by omega)).mp y)) (nm_r (nI_1 _) (nm_r (nI_1 i) ih))
theorem tm_word (C : (tf_C md mr mu mf ll d 0 w n os cd hc oh od op co oy onm li nm kd im ad st we wo oo ol ao ap tk gv io ia ik iv ow ck ci ox oz)) (x : Int32) : tf_MO (fun post u => wpX_word post u x) (fun post v => wpY_word post v x) (k1, k2, k3, k4, k5, k6, k7, k8, k9, (nI md), (nI mr), (nI mu), (nI mf), (nI ll), (nI 0), tS, tE, tN, (nI d), (nI 0), (nI w), en, (nI n), op, co, onm, (nI os), (nI cd), (nI hc), (nI oh), (nI od), cu, (nI fu), (-1), ie, (-1), ab, re, li, da, rk, ra, rb, rc, nm, kd, ls, im, sr, st, we, ad, wo, tk, gv, io, ia, ck, ci, ce, ou, ox) ((nI md), (nI mr), (nI mu), (nI mf), (nI ll), (nI lp), sv, (nI d), (nI 0), (nI w), en, (nI n), (nI hc), (nI od), cu, oy, onm, (nI cd), (nI oh), (nI fv), y3, y4, y5, li, da, yk, ya, yb, nm, kd, ls, im, sr, ad, oo, ol, ao, ap, ik, iv, ow, ce, oz, ck, ou) := by
  have hB := C.1
  unfold tf_B at hB
  by_cases h1 : x < 0
  · exact ⟨0, _, _, tf_TR_in C, fun post hp => br_t h1 hp, fun post hp => br_t h1 hp⟩
  · by_cases h2 : x < nI w
    · obtain ⟨q, q1, q2⟩ := nI_of h1
      subst q2
      rw [nI_ltI q1 (by omega)] at h2
      have h2' : nI q < nI w := nI_lt h2 (by omega)
      obtain ⟨c, c1, c2, c3⟩ := tf_GN_bs (C.2.2.2.2.1.1 q h2)
      have hne : ∀ i, i < c → tf_bs (nm q) 0 i ≠ 0 := fun i hi => by have := c2 i hi; omega
      have t8 : tf_tn (tf_bs (nm q) 0) 8 = c := by
        have e := tf_tn_e c3 (8 - c)
        have e2 : c + (8 - c) = 8 := by omega
        rw [e2, tf_tn_c hne c (Nat.le_refl _)] at e
        exact e
      have t16 : tf_tn (tf_bs (nm q) 0) 16 = c := by
        have e := tf_tn_e c3 (16 - c)
        have e2 : c + (16 - c) = 16 := by omega
        rw [e2, tf_tn_c hne c (Nat.le_refl _)] at e
        exact e
      have l16 : tf_tl (tf_bs (nm q) 0) li ll 16 = tf_tl (tf_bs (nm q) 0) li ll c := by
        have e := tf_tl_e (li := li) (ll := ll) c3 (16 - c)
        have e2 : c + (16 - c) = 16 := by omega
        rw [e2] at e
        exact e
      have hg : ∀ t, t < 16 → tf_bs (nm q) 0 t = 0 ∨ (32 ≤ tf_bs (nm q) 0 t ∧ tf_bs (nm q) 0 t ≤ 126) := by
        intro t _
        rcases Nat.lt_or_ge t c with z | z
        · have := c2 t z
          exact Or.inr (by omega)
        · exact Or.inl (c3 t z)
      have e1 : nI ll + nI c + 1 = nI (ll + c + 1) := by rw [nI_add, nI_1]
      have hcl : nm (nI q).toNatClampNeg = nm q := tf_rcL (by omega)
      rcases Nat.lt_or_ge 128 (ll + c + 1) with hl | hl
      · have hn : ¬ nI ll + nI c + 1 ≤ 128 := by rw [e1]; exact nI_ge (a := 128) hl (by omega)
        refine ⟨0, (k1, k2, k3, k4, k5, k6, k7, k8, k9, (nI md), (nI mr), (nI mu), (nI mf), (nI ll), (nI 0), tS, tE, tN, (nI d), (nI 0), (nI w), en, (nI n), op, co, onm, (nI os), (nI cd), (nI hc), (nI oh), (nI od), cu, (nI fu), (-1), ie, (-1), ab, re, li, da, rk, ra, rb, rc, nm, kd, ls, im, sr, st, we, ad, wo, tk, gv, io, ia, ck, ci, ce, ou, ox), ((nI md), (nI mr), (nI mu), (nI mf), (nI ll), (nI lp), sv, (nI d), (nI 0), (nI w), en, (nI n), (nI hc), (nI od), cu, oy, onm, (nI cd), (nI oh), (nI fv), y3, y4, y5, li, da, yk, ya, yb, nm, kd, ls, im, sr, ad, oo, ol, ao, ap, ik, iv, ow, ce, oz, ck, ou), tf_TR_in C, fun post hp => br_f h1 (br_t h2' (And.intro (vp_in_nI (by omega) (by omega)) (nm_r hcl (Exists.intro 9 (tx_w27 ?_ 8 0 (by omega)))))), fun post hp => br_f h1 (br_t h2' (Exists.intro 9 (ty_w18 (by omega) ?_ 8 0 (by omega))))⟩
        · rw [t8]
          exact br_t (by decide) (br_f hn hp)
        · rw [t8]
          exact br_t (by decide) (br_f hn hp)
      · have hn : nI ll + nI c + 1 ≤ 128 := by rw [e1]; exact nI_le (b := 128) hl (by omega)
        have hL := tf_L_tl C.2.1 16 hg
        rw [t16, l16] at hL
        refine ⟨1, (k1, k2, k3, k4, k5, k6, k7, k8, k9, (nI md), (nI mr), (nI mu), (nI mf), (nI (ll + c + 1)), (nI 0), tS, tE, tN, (nI d), (nI 0), (nI w), en, (nI n), op, co, onm, (nI os), (nI cd), (nI hc), (nI oh), (nI od), cu, (nI fu), (-1), ie, (-1), ab, re, (upd (tf_tl (tf_bs (nm q) 0) li ll c) (ll + c) (nI 32)), da, rk, ra, rb, rc, nm, kd, ls, im, sr, st, we, ad, wo, tk, gv, io, ia, ck, ci, ce, ou, ox), ((nI md), (nI mr), (nI mu), (nI mf), (nI (ll + c + 1)), (nI lp), sv, (nI d), (nI 0), (nI w), en, (nI n), (nI hc), (nI od), cu, oy, onm, (nI cd), (nI oh), (nI fv), y3, y4, y5, (upd (tf_tl (tf_bs (nm q) 0) li ll c) (ll + c) (nI 32)), da, yk, ya, yb, nm, kd, ls, im, sr, ad, oo, ol, ao, ap, ik, iv, ow, ce, oz, ck, ou), tf_TR_in (tf_C_L C hl (tf_L_app ⟨32, rfl, by omega, by omega⟩ hL)), fun post hp => br_f h1 (br_t h2' (And.intro (vp_in_nI (by omega) (by omega)) (nm_r hcl (Exists.intro 9 (tx_w27 ?_ 8 0 (by omega)))))), fun post hp => br_f h1 (br_t h2' (Exists.intro 9 (ty_w18 (by omega) ?_ 8 0 (by omega))))⟩
        · rw [t8]
          exact br_t (by decide) (br_t hn (Exists.intro (c + 1) (tx_w78 c1 hl hne hp c 0 (by omega))))
        · rw [t8]
          refine br_t (by decide) (br_t hn (And.intro (vp_in_nI (by omega) (by omega)) ?_))
          rw [hcl]
          refine ty_text (by rw [t16]; omega) hg ?_
          rw [t16, l16]
          exact ty_feed (c := 32) (by omega) (by omega) (by omega) (And.intro rfl hp)
    · exact ⟨0, _, _, tf_TR_in C, fun post hp => br_f h1 (br_f h2 hp), fun post hp => br_f h1 (br_f h2 hp)⟩
end
end
section
/-! the decimal spelling, in both -/
/-- the digits counted after j steps -/
def tf_dc (v : Nat) : Nat → Nat
  | 0 => 1
  | j + 1 => if v / 10 ^ (j + 1) = 0 then tf_dc v j else tf_dc v j + 1
theorem tf_dc_z {v j : Nat} (h : v / 10 ^ (j + 1) = 0) : tf_dc v (j + 1) = tf_dc v j := if_pos h
theorem tf_dc_s {v j : Nat} (h : ¬ v / 10 ^ (j + 1) = 0) : tf_dc v (j + 1) = tf_dc v j + 1 := if_neg h
theorem tf_dc_le {v : Nat} : ∀ j, 1 ≤ tf_dc v j ∧ tf_dc v j ≤ j + 1
  | 0 => ⟨Nat.le_refl _, Nat.le_refl _⟩
  | j + 1 => by
    have := tf_dc_le (v := v) j
    show 1 ≤ (if v / 10 ^ (j + 1) = 0 then _ else _) ∧ (if v / 10 ^ (j + 1) = 0 then _ else _) ≤ _
    split <;> omega
theorem tf_d10 (v j : Nat) : v / 10 ^ j / 10 = v / 10 ^ (j + 1) := by
  rw [Nat.div_div_eq_div_mul, ← Nat.pow_succ]
theorem tf_dc_e {v j : Nat} (h : v / 10 ^ (j + 1) = 0) : ∀ m, tf_dc v (j + m) = tf_dc v j
  | 0 => rfl
  | m + 1 => by
    have e : j + (m + 1) = (j + m) + 1 := by omega
    have z : v / 10 ^ (j + m + 1) = 0 := by
      have e2 : j + m + 1 = (j + 1) + m := by omega
      rw [e2, Nat.pow_add, ← Nat.div_div_eq_div_mul, h, Nat.zero_div]
    rw [e, tf_dc_z z, tf_dc_e h m]
/-- X's line with m digits still to write -/
def tf_dl (li : Nat → Int32) (F D v m : Nat) : Nat → Int32 := fun j => if F + m ≤ j ∧ j < F + D then nI (48 + v / 10 ^ (D - 1 - (j - F)) % 10) else li j
theorem tf_dl_D {li : Nat → Int32} {F D v : Nat} : tf_dl li F D v D = li := by
  funext j
  unfold tf_dl
  rw [if_neg (by omega)]
theorem tf_dl_s {li : Nat → Int32} {F D v m : Nat} (h : m < D) : upd (tf_dl li F D v (m + 1)) (F + m) (nI (48 + v / 10 ^ (D - 1 - m) % 10)) = tf_dl li F D v m := by
  funext j
  by_cases e : j = F + m
  · subst e
    rw [pk_us]
    unfold tf_dl
    have e2 : F + m - F = m := by omega
    rw [if_pos (by omega), e2]
  · rw [pk_un e]
    unfold tf_dl
    by_cases z : F + m ≤ j ∧ j < F + D
    · rw [if_pos z, if_pos (by omega)]
    · rw [if_neg z, if_neg (by omega)]
/-- Y's line with q digits written -/
def tf_yl (li : Nat → Int32) (F D v q : Nat) : Nat → Int32 := fun j => if F ≤ j ∧ j < F + q then nI (48 + v / 10 ^ (D - 1 - (j - F)) % 10) else li j
theorem tf_yl_0 {li : Nat → Int32} {F D v : Nat} : tf_yl li F D v 0 = li := by
  funext j
  unfold tf_yl
  rw [if_neg (by omega)]
theorem tf_yl_D {li : Nat → Int32} {F D v : Nat} : tf_yl li F D v D = tf_dl li F D v 0 := by
  funext j
  rfl
theorem tf_yl_s {li : Nat → Int32} {F D v q : Nat} : upd (tf_yl li F D v q) (F + q) (nI (48 + v / 10 ^ (D - 1 - q) % 10)) = tf_yl li F D v (q + 1) := by
  funext j
  by_cases e : j = F + q
  · subst e
    rw [pk_us]
    unfold tf_yl
    have e2 : F + q - F = q := by omega
    rw [if_pos (by omega), e2]
  · rw [pk_un e]
    unfold tf_yl
    by_cases z : F ≤ j ∧ j < F + q
    · rw [if_pos z, if_pos (by omega)]
    · rw [if_neg z, if_neg (by omega)]
theorem tf_L_dl {li : Nat → Int32} {F D v : Nat} (h : tf_L F li) : tf_L (F + D) (tf_dl li F D v 0) := by
  intro i hi
  unfold tf_dl
  by_cases z : F + 0 ≤ i ∧ i < F + D
  · rw [if_pos z]
    exact ⟨48 + v / 10 ^ (D - 1 - (i - F)) % 10, rfl, by omega, by omega⟩
  · rw [if_neg z]
    exact h i (by omega)
theorem tf_lz {n : Nat} (h : n < 2 ^ 63) : lN n ≤ 0 ↔ n = 0 := by
  have e := pk_lLE (a := n) (b := 0) h (by omega)
  exact e.trans (by omega)
theorem tf_l10 : ¬ (10 : Int64) = 0 := by decide
theorem tf_ldiv {n : Nat} (h : n < 2 ^ 63) : lN n / 10 = lN (n / 10) := pk_lDiv (b := 10) h (by omega) (by omega)
theorem tf_lrem {n : Nat} (h : n < 2 ^ 63) : lN n - lN n / 10 * 10 = lN (n % 10) := pk_lRem (b := 10) h (by omega) (by omega)
theorem tf_vd {v j : Nat} (h : v < 2 ^ 32) : v / 10 ^ j < 2 ^ 63 := Nat.lt_of_le_of_lt (Nat.div_le_self _ _) (by omega)
section
variable {md mr mu mf ll lp d r w n os cd hc oh od fu : Nat} {k1 k2 k3 k4 k5 k6 k7 k8 k9 tS tE en op co cu ip ie pe ab re oy sv : Int32} {tN onm : Int64} {li da rk ra rb rc kd ls im sr st we ad wo tk gv io ia ck ci ce ou ox yk ya yb oo ol ao ap ik iv ow oz : Nat → Int32} {nm : Nat → Int64} {lo : Nat}
variable {fv : Nat} {y3 y4 y5 : Int32}
theorem tx_n31 {post : Int32 → SX → Prop} {v : Nat} {x2 : Int64} {x4 : Int32} (hv : v < 2 ^ 32) (k : wX_number_62 post x2 x4 (nI (tf_dc v 10)) k1 k2 k3 k4 k5 k6 k7 k8 k9 (nI md) (nI mr) (nI mu) (nI mf) (nI ll) (nI lp) tS tE tN (nI d) (nI r) (nI w) en (nI n) op co onm (nI os) (nI cd) (nI hc) (nI oh) (nI od) cu (nI fu) ip ie pe ab re li da rk ra rb rc nm kd ls im sr st we ad wo tk gv io ia ck ci ce ou ox) : ∀ m i, i + m = 10 → wX_number_31 post x2 x4 k1 k2 k3 k4 k5 k6 k7 k8 k9 (nI md) (nI mr) (nI mu) (nI mf) (nI ll) (nI lp) tS tE tN (nI d) (nI r) (nI w) en (nI n) op co onm (nI os) (nI cd) (nI hc) (nI oh) (nI od) cu (nI fu) ip ie pe ab re li da rk ra rb rc nm kd ls im sr st we ad wo tk gv io ia ck ci ce ou ox (m + 1) (nI (tf_dc v i)) (lN (v / 10 ^ (i + 1))) (nI i)
  | 0, i, h => by
    have e : i = 10 := by omega
    subst e
    exact br_t (by decide) k
  | m + 1, i, h => by
    refine br_f (nI_ge (b := 10) (by omega) (by decide)) ?_
    by_cases z : v / 10 ^ (i + 1) = 0
    · have e := tf_dc_e z (m + 1)
      have e2 : i + (m + 1) = 10 := by omega
      rw [e2] at e
      rw [e] at k
      exact br_t ((tf_lz (tf_vd hv)).mpr z) k
    · have ih := tx_n31 hv k m (i + 1) (by omega)
      rw [tf_dc_s z] at ih
      exact br_f (fun y => z ((tf_lz (tf_vd hv)).mp y)) (nm_r (nI_1 _) (And.intro tf_l10 (nm_r ((tf_ldiv (tf_vd hv)).trans (by rw [tf_d10])) (nm_r (nI_1 i) ih))))
theorem tx_n110 {post : Int32 → SX → Prop} {v F D : Nat} (hv : v < 2 ^ 32) (hD : F + D < 128) (k : post 1 (k1, k2, k3, k4, k5, k6, k7, k8, k9, (nI md), (nI mr), (nI mu), (nI mf), (nI (F + D + 1)), (nI lp), tS, tE, tN, (nI d), (nI r), (nI w), en, (nI n), op, co, onm, (nI os), (nI cd), (nI hc), (nI oh), (nI od), cu, (nI fu), ip, ie, pe, ab, re, (upd (tf_dl li F D v 0) (F + D) (nI 32)), da, rk, ra, rb, rc, nm, kd, ls, im, sr, st, we, ad, wo, tk, gv, io, ia, ck, ci, ce, ou, ox)) : ∀ m, m ≤ D → wX_number_110 post (nI D) (nI F) k1 k2 k3 k4 k5 k6 k7 k8 k9 (nI md) (nI mr) (nI mu) (nI mf) (nI F) (nI lp) tS tE tN (nI d) (nI r) (nI w) en (nI n) op co onm (nI os) (nI cd) (nI hc) (nI oh) (nI od) cu (nI fu) ip ie pe ab re (m + 1) (lN (v / 10 ^ (D - m))) (nI m - 1) (tf_dl li F D v m) da rk ra rb rc nm kd ls im sr st we ad wo tk gv io ia ck ci ce ou ox
  | 0, _ => by
    rw [tf_m0]
    exact br_t tf_neg1 (nm_r (nI_add F D) (tx_append hD k))
  | m + 1, hm => by
    have ih := tx_n110 hv hD k m (by omega)
    rw [nI_pred]
    have e1 : nI F + nI m = nI (F + m) := nI_add F m
    have e2 : D - m = (D - (m + 1)) + 1 := by omega
    have e3 : D - 1 - m = D - (m + 1) := by omega
    have hd : (48 + (lN (v / 10 ^ (D - (m + 1))) - lN (v / 10 ^ (D - (m + 1))) / 10 * 10)).toInt32 = nI (48 + v / 10 ^ (D - 1 - m) % 10) := by
      have e4 : (48 : Int64) + lN (v / 10 ^ (D - (m + 1)) % 10) = lN (48 + v / 10 ^ (D - (m + 1)) % 10) := lN_add 48 _
      rw [tf_lrem (tf_vd hv), e4, lN_i, e3]
    rw [e2] at ih
    refine br_f (nI_pos (by omega)) (And.intro tf_l10 (And.intro (by rw [e1]; exact vp_in_nI (by omega) (by omega)) (nm_r (e' := tf_dl li F D v m) ?_ (And.intro tf_l10 (nm_r ((tf_ldiv (tf_vd hv)).trans (by rw [tf_d10])) (nm_r (tf_am _) ih))))))
    rw [e1, nI_clamp (show F + m < 2 ^ 31 by omega), hd, tf_dl_s (by omega)]
theorem ty_n21 {post : Int32 → SY → Prop} {v : Nat} {x1 : Int32} {x2 : Int64} (hv : v < 2 ^ 32) (k : wY_number_21 post x1 x2 (nI md) (nI mr) (nI mu) (nI mf) (nI ll) (nI lp) sv (nI d) (nI r) (nI w) en (nI n) (nI hc) (nI od) cu oy onm (nI cd) (nI oh) (nI fu) pe re ab li da yk ya yb nm kd ls im sr ad oo ol ao ap ik iv ow ce oz ck ou 1 (nI (tf_dc v 10)) (lN (v / 10 ^ 10)) (nI 10)) : ∀ m i, i + m = 10 → wY_number_21 post x1 x2 (nI md) (nI mr) (nI mu) (nI mf) (nI ll) (nI lp) sv (nI d) (nI r) (nI w) en (nI n) (nI hc) (nI od) cu oy onm (nI cd) (nI oh) (nI fu) pe re ab li da yk ya yb nm kd ls im sr ad oo ol ao ap ik iv ow ce oz ck ou (m + 1) (nI (tf_dc v i)) (lN (v / 10 ^ i)) (nI i)
  | 0, i, h => by
    have e : i = 10 := by omega
    subst e
    exact k
  | m + 1, i, h => by
    have ih := ty_n21 hv k m (i + 1) (by omega)
    refine br_f (nI_ge (b := 10) (by omega) (by decide)) (And.intro tf_l10 (nm_r ((tf_ldiv (tf_vd hv)).trans (by rw [tf_d10])) ?_))
    by_cases z : v / 10 ^ (i + 1) = 0
    · rw [tf_dc_z z] at ih
      exact br_t ((tf_lz (tf_vd hv)).mpr z) (nm_r (nI_1 i) ih)
    · rw [tf_dc_s z] at ih
      exact br_f (fun y => z ((tf_lz (tf_vd hv)).mp y)) (nm_r (nI_1 _) (nm_r (nI_1 i) ih))
theorem ty_n107 {post : Int32 → SY → Prop} {J} {v q : Nat} {x2 : Int64} (hv : v < 2 ^ 32) (hq : q ≤ 20) (k : wY_number_107 post J x2 (nI q) (nI md) (nI mr) (nI mu) (nI mf) (nI ll) (nI lp) sv (nI d) (nI r) (nI w) en (nI n) (nI hc) (nI od) cu oy onm (nI cd) (nI oh) (nI fu) pe re ab li da yk ya yb nm kd ls im sr ad oo ol ao ap ik iv ow ce oz ck ou 1 (lN (v / 10 ^ q)) (nI q)) : ∀ m i, i + m = q → wY_number_107 post J x2 (nI q) (nI md) (nI mr) (nI mu) (nI mf) (nI ll) (nI lp) sv (nI d) (nI r) (nI w) en (nI n) (nI hc) (nI od) cu oy onm (nI cd) (nI oh) (nI fu) pe re ab li da yk ya yb nm kd ls im sr ad oo ol ao ap ik iv ow ce oz ck ou (m + 1) (lN (v / 10 ^ i)) (nI i)
  | 0, i, h => by
    have e : i = q := by omega
    subst e
    exact k
  | m + 1, i, h => by
    have ih := ty_n107 hv hq k m (i + 1) (by omega)
    exact br_f (nI_ge (by omega) (by omega)) (And.intro tf_l10 (nm_r ((tf_ldiv (tf_vd hv)).trans (by rw [tf_d10])) (nm_r (nI_1 i) ih)))
theorem ty_n96 {post : Int32 → SY → Prop} {v F D : Nat} (hv : v < 2 ^ 32) (hD20 : D ≤ 20) (hD : F + D < 128) (k : post 1 ((nI md), (nI mr), (nI mu), (nI mf), (nI (F + D + 1)), (nI lp), sv, (nI d), (nI r), (nI w), en, (nI n), (nI hc), (nI od), cu, oy, onm, (nI cd), (nI oh), (nI fu), pe, re, ab, (upd (tf_dl li F D v 0) (F + D) (nI 32)), da, yk, ya, yb, nm, kd, ls, im, sr, ad, oo, ol, ao, ap, ik, iv, ow, ce, oz, ck, ou)) : ∀ m q, q + m = D → wY_number_96 post (lN v) (m + 1) (nI m - 1) (nI md) (nI mr) (nI mu) (nI mf) (nI (F + q)) (nI lp) sv (nI d) (nI r) (nI w) en (nI n) (nI hc) (nI od) cu oy onm (nI cd) (nI oh) (nI fu) pe re ab (tf_yl li F D v q) da yk ya yb nm kd ls im sr ad oo ol ao ap ik iv ow ce oz ck ou
  | 0, q, h => by
    have e : q = D := by omega
    subst e
    rw [tf_m0, tf_yl_D]
    exact br_t tf_neg1 (ty_feed (c := 32) (by omega) (by omega) hD (And.intro rfl k))
  | m + 1, q, h => by
    have ih := ty_n96 hv hD20 hD k m (q + 1) (by omega)
    rw [nI_pred]
    have em : m = D - 1 - q := by omega
    refine br_f (nI_pos (by omega)) (Exists.intro (m + 1) ?_)
    have K := ty_n107 (post := post) (J := wY_number_96 post (lN v) (m + 1)) (v := v) (q := m) (x2 := lN v) (ll := F + q) (li := tf_yl li F D v q) (md := md) (mr := mr) (mu := mu) (mf := mf) (lp := lp) (d := d) (r := r) (w := w) (n := n) (cd := cd) (hc := hc) (oh := oh) (od := od) (fu := fu) (en := en) (cu := cu) (pe := pe) (ab := ab) (re := re) (oy := oy) (sv := sv) (onm := onm) (da := da) (kd := kd) (ls := ls) (im := im) (sr := sr) (ad := ad) (ck := ck) (ce := ce) (ou := ou) (yk := yk) (ya := ya) (yb := yb) (oo := oo) (ol := ol) (ao := ao) (ap := ap) (ik := ik) (iv := iv) (ow := ow) (oz := oz) (nm := nm) hv (by omega) ?_ m 0 (by omega)
    · rw [Nat.pow_zero, Nat.div_one] at K
      exact K
    · have hd : 48 + (lN (v / 10 ^ m) - lN (v / 10 ^ m) / 10 * 10).toInt32 = nI (48 + v / 10 ^ (D - 1 - q) % 10) := by
        have e4 : (48 : Int32) + nI (v / 10 ^ m % 10) = nI (48 + v / 10 ^ m % 10) := nI_add 48 _
        rw [tf_lrem (tf_vd hv), lN_i, e4, em]
      refine br_t (nI_le (Nat.le_refl _) (by omega)) (And.intro tf_l10 (nm_e ?_))
      rw [hd]
      refine ty_feed (by omega) (by omega) (by omega) ?_
      rw [tf_yl_s]
      exact nm_r (tf_am _) ih
/-- an int's size -/
theorem tf_abs (x : Int32) : (∃ v, v < 2 ^ 31 ∧ x = nI v ∧ 0 ≤ x ∧ x.toInt64 = lN v ∧ 0 ≤ x.toInt64) ∨ (∃ v, v < 2 ^ 32 ∧ ¬ 0 ≤ x ∧ -x.toInt64 = lN v ∧ ¬ 0 ≤ x.toInt64) := by
  by_cases h : x < 0
  · right
    have hx : x.toInt < 0 := Int32.lt_iff_toInt_lt.mp h
    have h1 := x.le_toInt
    have h64 : x.toInt64.toInt = x.toInt := Int32.toInt_toInt64 x
    refine ⟨(-x.toInt).toNat, by omega, fun z => ?_, ?_, fun z => ?_⟩
    · have := Int32.le_iff_toInt_le.mp z
      have e0 : (0 : Int32).toInt = 0 := rfl
      omega
    · apply Int64.toInt_inj.mp
      rw [pk_lT (by omega), Int64.toInt_neg, h64]
      rw [Int.bmod_eq_of_le (by omega) (by omega)]
      omega
    · have := Int64.le_iff_toInt_le.mp z
      have e0 : (0 : Int64).toInt = 0 := rfl
      omega
  · left
    obtain ⟨v, hv, e⟩ := nI_of h
    subst e
    refine ⟨v, hv, rfl, nI_pos' hv, nI_l hv, ?_⟩
    rw [nI_l hv]
    exact (lN_le (a := 0) (b := v) (by omega) hv).mpr (by omega)
theorem tm_number (C : (tf_C md mr mu mf ll d 0 w n os cd hc oh od op co oy onm li nm kd im ad st we wo oo ol ao ap tk gv io ia ik iv ow ck ci ox oz)) (x : Int32) : tf_MO (fun post u => wpX_number post u x) (fun post v => wpY_number post v x) (k1, k2, k3, k4, k5, k6, k7, k8, k9, (nI md), (nI mr), (nI mu), (nI mf), (nI ll), (nI 0), tS, tE, tN, (nI d), (nI 0), (nI w), en, (nI n), op, co, onm, (nI os), (nI cd), (nI hc), (nI oh), (nI od), cu, (nI fu), (-1), ie, (-1), ab, re, li, da, rk, ra, rb, rc, nm, kd, ls, im, sr, st, we, ad, wo, tk, gv, io, ia, ck, ci, ce, ou, ox) ((nI md), (nI mr), (nI mu), (nI mf), (nI ll), (nI lp), sv, (nI d), (nI 0), (nI w), en, (nI n), (nI hc), (nI od), cu, oy, onm, (nI cd), (nI oh), (nI fv), y3, y4, y5, li, da, yk, ya, yb, nm, kd, ls, im, sr, ad, oo, ol, ao, ap, ik, iv, ow, ce, oz, ck, ou) := by
  have hB := C.1
  unfold tf_B at hB
  rcases tf_abs x with ⟨v, hv, hx, hx0, hx64, hx640⟩ | ⟨v, hv, hx0, hx64, hx640⟩
  · have hv' : v < 2 ^ 32 := by omega
    have hD := tf_dc_le (v := v) 10
    have eD : nI (tf_dc v 10) - 1 = nI (tf_dc v 10) - 1 := rfl
    have ex : nI ll + (0 + nI (tf_dc v 10) + 1) = nI (ll + (0 + tf_dc v 10 + 1)) := by
      have e1 : (0 : Int32) + nI (tf_dc v 10) = nI (0 + tf_dc v 10) := nI_add 0 _
      rw [e1, nI_1, nI_add]
    have ey : nI ll + 0 + nI (tf_dc v 10) + 1 = nI (ll + 0 + tf_dc v 10 + 1) := by
      have e1 : nI ll + 0 = nI (ll + 0) := nI_add ll 0
      rw [e1, nI_add, nI_1]
    rcases Nat.lt_or_ge 128 (ll + tf_dc v 10 + 1) with hl | hl
    · have hnx : ¬ nI ll + (0 + nI (tf_dc v 10) + 1) ≤ 128 := by rw [ex]; exact nI_ge (a := 128) (by omega) (by omega)
      have hny : ¬ nI ll + 0 + nI (tf_dc v 10) + 1 ≤ 128 := by rw [ey]; exact nI_ge (a := 128) (by omega) (by omega)
      refine ⟨0, (k1, k2, k3, k4, k5, k6, k7, k8, k9, (nI md), (nI mr), (nI mu), (nI mf), (nI ll), (nI 0), tS, tE, tN, (nI d), (nI 0), (nI w), en, (nI n), op, co, onm, (nI os), (nI cd), (nI hc), (nI oh), (nI od), cu, (nI fu), (-1), ie, (-1), ab, re, li, da, rk, ra, rb, rc, nm, kd, ls, im, sr, st, we, ad, wo, tk, gv, io, ia, ck, ci, ce, ou, ox), ((nI md), (nI mr), (nI mu), (nI mf), (nI ll), (nI lp), sv, (nI d), (nI 0), (nI w), en, (nI n), (nI hc), (nI od), cu, oy, onm, (nI cd), (nI oh), (nI fv), y3, y4, y5, li, da, yk, ya, yb, nm, kd, ls, im, sr, ad, oo, ol, ao, ap, ik, iv, ow, ce, oz, ck, ou), tf_TR_in C, fun post hp => ?_, fun post hp => ?_⟩
      · refine br_t hx640 ?_
        rw [hx64]
        refine And.intro tf_l10 (nm_r (e' := lN (v / 10 ^ (0 + 1))) (tf_ldiv (by omega)) (Exists.intro 11 (tx_n31 hv' ?_ 10 0 (by omega))))
        exact nm_e (br_f hnx hp)
      · refine br_t hx640 ?_
        rw [hx64]
        have K := ty_n21 (post := post) (x1 := x) (x2 := lN v) (ll := ll) (li := li) (md := md) (mr := mr) (mu := mu) (mf := mf) (lp := lp) (d := d) (r := 0) (w := w) (n := n) (cd := cd) (hc := hc) (oh := oh) (od := od) (fu := fv) (en := en) (cu := cu) (pe := y3) (ab := y5) (re := y4) (oy := oy) (sv := sv) (onm := onm) (da := da) (kd := kd) (ls := ls) (im := im) (sr := sr) (ad := ad) (ck := ck) (ce := ce) (ou := ou) (yk := yk) (ya := ya) (yb := yb) (oo := oo) (ol := ol) (ao := ao) (ap := ap) (ik := ik) (iv := iv) (ow := ow) (oz := oz) (nm := nm) hv' (br_t (by decide) (br_t hx0 (br_f hny hp))) 10 0 (by omega)
        rw [Nat.pow_zero, Nat.div_one] at K
        exact Exists.intro 11 K
    · have hnx : nI ll + (0 + nI (tf_dc v 10) + 1) ≤ 128 := by rw [ex]; exact nI_le (b := 128) (by omega) (by omega)
      have hny : nI ll + 0 + nI (tf_dc v 10) + 1 ≤ 128 := by rw [ey]; exact nI_le (b := 128) (by omega) (by omega)
      refine ⟨1, (k1, k2, k3, k4, k5, k6, k7, k8, k9, (nI md), (nI mr), (nI mu), (nI mf), (nI (ll + tf_dc v 10 + 1)), (nI 0), tS, tE, tN, (nI d), (nI 0), (nI w), en, (nI n), op, co, onm, (nI os), (nI cd), (nI hc), (nI oh), (nI od), cu, (nI fu), (-1), ie, (-1), ab, re, (upd (tf_dl li ll (tf_dc v 10) v 0) (ll + tf_dc v 10) (nI 32)), da, rk, ra, rb, rc, nm, kd, ls, im, sr, st, we, ad, wo, tk, gv, io, ia, ck, ci, ce, ou, ox), ((nI md), (nI mr), (nI mu), (nI mf), (nI (ll + tf_dc v 10 + 1)), (nI lp), sv, (nI d), (nI 0), (nI w), en, (nI n), (nI hc), (nI od), cu, oy, onm, (nI cd), (nI oh), (nI fv), y3, y4, y5, (upd (tf_dl li ll (tf_dc v 10) v 0) (ll + tf_dc v 10) (nI 32)), da, yk, ya, yb, nm, kd, ls, im, sr, ad, oo, ol, ao, ap, ik, iv, ow, ce, oz, ck, ou), tf_TR_in (tf_C_L C hl (tf_L_app ⟨32, rfl, by omega, by omega⟩ (tf_L_dl C.2.1))), fun post hp => ?_, fun post hp => ?_⟩
      · refine br_t hx640 ?_
        rw [hx64]
        refine And.intro tf_l10 (nm_r (e' := lN (v / 10 ^ (0 + 1))) (tf_ldiv (by omega)) (Exists.intro 11 (tx_n31 hv' ?_ 10 0 (by omega))))
        refine nm_e (br_t hnx (br_f (by decide) (nm_e (Exists.intro (tf_dc v 10 + 1) ?_))))
        have K := tx_n110 (post := post) (F := ll) (D := tf_dc v 10) (k1 := k1) (k2 := k2) (k3 := k3) (k4 := k4) (k5 := k5) (k6 := k6) (k7 := k7) (k8 := k8) (k9 := k9) (li := li) (md := md) (mr := mr) (mu := mu) (mf := mf) (lp := 0) (tS := tS) (tE := tE) (tN := tN) (d := d) (r := 0) (w := w) (en := en) (n := n) (op := op) (co := co) (onm := onm) (os := os) (cd := cd) (hc := hc) (oh := oh) (od := od) (cu := cu) (fu := fu) (ip := -1) (ie := ie) (pe := -1) (ab := ab) (re := re) (da := da) (rk := rk) (ra := ra) (rb := rb) (rc := rc) (nm := nm) (kd := kd) (ls := ls) (im := im) (sr := sr) (st := st) (we := we) (ad := ad) (wo := wo) (tk := tk) (gv := gv) (io := io) (ia := ia) (ck := ck) (ci := ci) (ce := ce) (ou := ou) (ox := ox) hv' (by omega) hp (tf_dc v 10) (Nat.le_refl _)
        rw [tf_dl_D, Nat.sub_self, Nat.pow_zero, Nat.div_one] at K
        exact K
      · refine br_t hx640 ?_
        rw [hx64]
        have K96 := ty_n96 (post := post) (v := v) (F := ll) (D := tf_dc v 10) (li := li) (md := md) (mr := mr) (mu := mu) (mf := mf) (lp := lp) (d := d) (r := 0) (w := w) (n := n) (cd := cd) (hc := hc) (oh := oh) (od := od) (fu := fv) (en := en) (cu := cu) (pe := y3) (ab := y5) (re := y4) (oy := oy) (sv := sv) (onm := onm) (da := da) (kd := kd) (ls := ls) (im := im) (sr := sr) (ad := ad) (ck := ck) (ce := ce) (ou := ou) (yk := yk) (ya := ya) (yb := yb) (oo := oo) (ol := ol) (ao := ao) (ap := ap) (ik := ik) (iv := iv) (ow := ow) (oz := oz) (nm := nm) hv' (by omega) (by omega) hp (tf_dc v 10) 0 (by omega)
        rw [tf_yl_0] at K96
        have K := ty_n21 (post := post) (x1 := x) (x2 := lN v) (ll := ll) (li := li) (md := md) (mr := mr) (mu := mu) (mf := mf) (lp := lp) (d := d) (r := 0) (w := w) (n := n) (cd := cd) (hc := hc) (oh := oh) (od := od) (fu := fv) (en := en) (cu := cu) (pe := y3) (ab := y5) (re := y4) (oy := oy) (sv := sv) (onm := onm) (da := da) (kd := kd) (ls := ls) (im := im) (sr := sr) (ad := ad) (ck := ck) (ce := ce) (ou := ou) (yk := yk) (ya := ya) (yb := yb) (oo := oo) (ol := ol) (ao := ao) (ap := ap) (ik := ik) (iv := iv) (ow := ow) (oz := oz) (nm := nm) hv' (br_t (by decide) (br_t hx0 (br_t hny (br_t hx0 (nm_e (Exists.intro _ K96)))))) 10 0 (by omega)
        rw [Nat.pow_zero, Nat.div_one] at K
        exact Exists.intro 11 K
  · have hD := tf_dc_le (v := v) 10
    have ex : nI ll + (1 + nI (tf_dc v 10) + 1) = nI (ll + (1 + tf_dc v 10 + 1)) := by
      have e1 : (1 : Int32) + nI (tf_dc v 10) = nI (1 + tf_dc v 10) := nI_add 1 _
      rw [e1, nI_1, nI_add]
    have ey : nI ll + 1 + nI (tf_dc v 10) + 1 = nI (ll + 1 + tf_dc v 10 + 1) := by rw [nI_1, nI_add, nI_1]
    rcases Nat.lt_or_ge 128 (ll + 1 + tf_dc v 10 + 1) with hl | hl
    · have hnx : ¬ nI ll + (1 + nI (tf_dc v 10) + 1) ≤ 128 := by rw [ex]; exact nI_ge (a := 128) (by omega) (by omega)
      have hny : ¬ nI ll + 1 + nI (tf_dc v 10) + 1 ≤ 128 := by rw [ey]; exact nI_ge (a := 128) (by omega) (by omega)
      refine ⟨0, (k1, k2, k3, k4, k5, k6, k7, k8, k9, (nI md), (nI mr), (nI mu), (nI mf), (nI ll), (nI 0), tS, tE, tN, (nI d), (nI 0), (nI w), en, (nI n), op, co, onm, (nI os), (nI cd), (nI hc), (nI oh), (nI od), cu, (nI fu), (-1), ie, (-1), ab, re, li, da, rk, ra, rb, rc, nm, kd, ls, im, sr, st, we, ad, wo, tk, gv, io, ia, ck, ci, ce, ou, ox), ((nI md), (nI mr), (nI mu), (nI mf), (nI ll), (nI lp), sv, (nI d), (nI 0), (nI w), en, (nI n), (nI hc), (nI od), cu, oy, onm, (nI cd), (nI oh), (nI fv), y3, y4, y5, li, da, yk, ya, yb, nm, kd, ls, im, sr, ad, oo, ol, ao, ap, ik, iv, ow, ce, oz, ck, ou), tf_TR_in C, fun post hp => ?_, fun post hp => ?_⟩
      · refine br_f hx640 (nm_r hx64 ?_)
        refine And.intro tf_l10 (nm_r (e' := lN (v / 10 ^ (0 + 1))) (tf_ldiv (by omega)) (Exists.intro 11 (tx_n31 hv ?_ 10 0 (by omega))))
        exact nm_e (br_f hnx hp)
      · refine br_f hx640 (nm_r hx64 ?_)
        have K := ty_n21 (post := post) (x1 := x) (x2 := lN v) (ll := ll) (li := li) (md := md) (mr := mr) (mu := mu) (mf := mf) (lp := lp) (d := d) (r := 0) (w := w) (n := n) (cd := cd) (hc := hc) (oh := oh) (od := od) (fu := fv) (en := en) (cu := cu) (pe := y3) (ab := y5) (re := y4) (oy := oy) (sv := sv) (onm := onm) (da := da) (kd := kd) (ls := ls) (im := im) (sr := sr) (ad := ad) (ck := ck) (ce := ce) (ou := ou) (yk := yk) (ya := ya) (yb := yb) (oo := oo) (ol := ol) (ao := ao) (ap := ap) (ik := ik) (iv := iv) (ow := ow) (oz := oz) (nm := nm) hv (br_t (by decide) (br_f hx0 (br_f hny hp))) 10 0 (by omega)
        rw [Nat.pow_zero, Nat.div_one] at K
        exact Exists.intro 11 K
    · have hnx : nI ll + (1 + nI (tf_dc v 10) + 1) ≤ 128 := by rw [ex]; exact nI_le (b := 128) (by omega) (by omega)
      have hny : nI ll + 1 + nI (tf_dc v 10) + 1 ≤ 128 := by rw [ey]; exact nI_le (b := 128) (by omega) (by omega)
      refine ⟨1, (k1, k2, k3, k4, k5, k6, k7, k8, k9, (nI md), (nI mr), (nI mu), (nI mf), (nI (ll + 1 + tf_dc v 10 + 1)), (nI 0), tS, tE, tN, (nI d), (nI 0), (nI w), en, (nI n), op, co, onm, (nI os), (nI cd), (nI hc), (nI oh), (nI od), cu, (nI fu), (-1), ie, (-1), ab, re, (upd (tf_dl (upd li ll (nI 45)) (ll + 1) (tf_dc v 10) v 0) (ll + 1 + tf_dc v 10) (nI 32)), da, rk, ra, rb, rc, nm, kd, ls, im, sr, st, we, ad, wo, tk, gv, io, ia, ck, ci, ce, ou, ox), ((nI md), (nI mr), (nI mu), (nI mf), (nI (ll + 1 + tf_dc v 10 + 1)), (nI lp), sv, (nI d), (nI 0), (nI w), en, (nI n), (nI hc), (nI od), cu, oy, onm, (nI cd), (nI oh), (nI fv), y3, y4, y5, (upd (tf_dl (upd li ll (nI 45)) (ll + 1) (tf_dc v 10) v 0) (ll + 1 + tf_dc v 10) (nI 32)), da, yk, ya, yb, nm, kd, ls, im, sr, ad, oo, ol, ao, ap, ik, iv, ow, ce, oz, ck, ou), tf_TR_in (tf_C_L C hl (tf_L_app ⟨32, rfl, by omega, by omega⟩ (tf_L_dl (tf_L_app ⟨45, rfl, by omega, by omega⟩ C.2.1)))), fun post hp => ?_, fun post hp => ?_⟩
      · refine br_f hx640 (nm_r hx64 ?_)
        refine And.intro tf_l10 (nm_r (e' := lN (v / 10 ^ (0 + 1))) (tf_ldiv (by omega)) (Exists.intro 11 (tx_n31 hv ?_ 10 0 (by omega))))
        refine nm_e (br_t hnx (br_t rfl (tx_append (by omega) (nm_e (Exists.intro (tf_dc v 10 + 1) ?_)))))
        have K := tx_n110 (post := post) (F := ll + 1) (D := tf_dc v 10) (k1 := k1) (k2 := k2) (k3 := k3) (k4 := k4) (k5 := k5) (k6 := k6) (k7 := k7) (k8 := k8) (k9 := k9) (li := upd li ll (nI 45)) (md := md) (mr := mr) (mu := mu) (mf := mf) (lp := 0) (tS := tS) (tE := tE) (tN := tN) (d := d) (r := 0) (w := w) (en := en) (n := n) (op := op) (co := co) (onm := onm) (os := os) (cd := cd) (hc := hc) (oh := oh) (od := od) (cu := cu) (fu := fu) (ip := -1) (ie := ie) (pe := -1) (ab := ab) (re := re) (da := da) (rk := rk) (ra := ra) (rb := rb) (rc := rc) (nm := nm) (kd := kd) (ls := ls) (im := im) (sr := sr) (st := st) (we := we) (ad := ad) (wo := wo) (tk := tk) (gv := gv) (io := io) (ia := ia) (ck := ck) (ci := ci) (ce := ce) (ou := ou) (ox := ox) hv (by omega) hp (tf_dc v 10) (Nat.le_refl _)
        rw [tf_dl_D, Nat.sub_self, Nat.pow_zero, Nat.div_one] at K
        exact K
      · refine br_f hx640 (nm_r hx64 ?_)
        have K96 := ty_n96 (post := post) (v := v) (F := ll + 1) (D := tf_dc v 10) (li := upd li ll (nI 45)) (md := md) (mr := mr) (mu := mu) (mf := mf) (lp := lp) (d := d) (r := 0) (w := w) (n := n) (cd := cd) (hc := hc) (oh := oh) (od := od) (fu := fv) (en := en) (cu := cu) (pe := y3) (ab := y5) (re := y4) (oy := oy) (sv := sv) (onm := onm) (da := da) (kd := kd) (ls := ls) (im := im) (sr := sr) (ad := ad) (ck := ck) (ce := ce) (ou := ou) (yk := yk) (ya := ya) (yb := yb) (oo := oo) (ol := ol) (ao := ao) (ap := ap) (ik := ik) (iv := iv) (ow := ow) (oz := oz) (nm := nm) hv (by omega) (by omega) hp (tf_dc v 10) 0 (by omega)
        rw [tf_yl_0] at K96
        have K := ty_n21 (post := post) (x1 := x) (x2 := lN v) (ll := ll) (li := li) (md := md) (mr := mr) (mu := mu) (mf := mf) (lp := lp) (d := d) (r := 0) (w := w) (n := n) (cd := cd) (hc := hc) (oh := oh) (od := od) (fu := fv) (en := en) (cu := cu) (pe := y3) (ab := y5) (re := y4) (oy := oy) (sv := sv) (onm := onm) (da := da) (kd := kd) (ls := ls) (im := im) (sr := sr) (ad := ad) (ck := ck) (ce := ce) (ou := ou) (yk := yk) (ya := ya) (yb := yb) (oo := oo) (ol := ol) (ao := ao) (ap := ap) (ik := ik) (iv := iv) (ow := ow) (oz := oz) (nm := nm) hv (br_t (by decide) (br_f hx0 (br_t hny (br_f hx0 (ty_feed (c := 45) (by omega) (by omega) (by omega) (nm_e (Exists.intro _ K96))))))) 10 0 (by omega)
        rw [Nat.pow_zero, Nat.div_one] at K
        exact Exists.intro 11 K
end
end
section
/-! the constructors -/
def tf_pw (a b c e : Int32) : Int64 := (((a ||| (b <<< ((8 : Int32) &&& 31))) ||| (c <<< ((16 : Int32) &&& 31))) ||| (e <<< ((24 : Int32) &&& 31))).toInt64
def tf_ut : List (Nat × Int32) → (Nat → Int32) → Nat → Int32
  | [], f => f
  | x :: l, f => tf_ut l (upd f x.1 x.2)
def tf_un : List (Nat × Bool × Int32 × Int32 × Int32 × Int32) → (Nat → Int64) → Nat → Int64
  | [], f => f
  | x :: l, f => tf_un l (vp_updL f x.1 (if x.2.1 = true then f x.1 ||| (tf_pw x.2.2.1 x.2.2.2.1 x.2.2.2.2.1 x.2.2.2.2.2 <<< ((32 : Int32).toInt64 &&& 63)) else tf_pw x.2.2.1 x.2.2.2.1 x.2.2.2.2.1 x.2.2.2.2.2))
/-- what a spelling makes of a name -/
def tf_sp (z : Int64) : Nat → Nat → Int64 → Int64
  | 0, _, acc => acc
  | m + 1, j, acc => if (z >>> ((8 * nI m).toInt64 &&& 63)) &&& 255 = 0 then tf_sp z m j acc else tf_sp z m (j + 1) (acc ||| (((z >>> ((8 * nI m).toInt64 &&& 63)) &&& 255) <<< ((8 * nI j).toInt64 &&& 63)))
def tf_uy : List (Nat × Int64) → (Nat → Int64) → Nat → Int64
  | [], f => f
  | x :: l, f => tf_uy l (vp_updL f x.1 (tf_sp x.2 8 0 (f x.1)))
def tf_lt : List (Nat × Int32) := [(0, 1), (1, 1), (2, 2), (3, 2), (4, 2), (5, 2), (6, 2), (7, 2), (8, 2), (9, 2), (10, 2), (11, 0), (12, 1), (13, 0), (14, 0), (15, 0), (16, 1), (17, 2), (18, 1), (19, 0), (20, 1), (21, 1), (22, 1), (23, 1), (24, 0), (25, 0), (26, 0), (27, 0), (28, 0), (29, 0), (30, 1), (31, 1), (32, 0), (33, 0), (34, 0), (35, 0), (36, 0), (37, 0), (38, 0), (39, 0), (40, 0), (41, 0), (42, 0), (43, 0), (44, 0), (45, 0), (46, 0), (47, 0), (48, 1), (49, 0), (50, 0)]
def tf_lg : List (Nat × Int32) := [(0, 2), (1, 0), (2, 2), (3, 3), (4, 1), (5, 1), (6, 1), (7, 1), (8, 1), (9, 1), (10, 1), (11, 1), (12, 0), (13, 1), (14, 1), (15, 1), (16, 1), (17, 0), (18, 0), (19, 1), (20, 0), (21, 0), (22, 1), (23, 0), (24, 1), (25, 0), (26, 0), (27, 0), (28, 0), (29, 0), (30, 0), (31, 0), (32, 0), (33, 0), (34, 0), (35, 0), (36, 0), (37, 0), (38, 0), (39, 0), (40, 0), (41, 0), (42, 0), (43, 0), (44, 0), (45, 0), (46, 0), (47, 0), (48, 0), (49, 0), (50, 0)]
def tf_l1 : List (Nat × Bool × Int32 × Int32 × Int32 × Int32) := [(0, false, 68, 85, 80, 0), (1, false, 68, 82, 79, 80), (2, false, 83, 87, 65, 80), (3, false, 79, 86, 69, 82), (4, false, 43, 0, 0, 0), (5, false, 45, 0, 0, 0), (6, false, 42, 0, 0, 0), (7, false, 47, 0, 0, 0), (8, false, 60, 0, 0, 0), (9, false, 61, 0, 0, 0), (10, false, 65, 78, 68, 0), (11, false, 68, 69, 80, 84), (11, true, 72, 0, 0, 0), (12, false, 62, 82, 0, 0), (13, false, 82, 62, 0, 0), (14, false, 82, 64, 0, 0), (15, false, 73, 0, 0, 0), (16, false, 64, 0, 0, 0), (17, false, 33, 0, 0, 0), (18, false, 44, 0, 0, 0), (19, false, 72, 69, 82, 69), (20, false, 46, 0, 0, 0)]
def tf_l2 : List (Nat × Bool × Int32 × Int32 × Int32 × Int32) := [(21, false, 69, 88, 69, 67), (21, true, 85, 84, 69, 0), (22, false, 67, 65, 84, 67), (22, true, 72, 0, 0, 0), (23, false, 84, 72, 82, 79), (23, true, 87, 0, 0, 0), (24, false, 39, 0, 0, 0), (25, false, 58, 0, 0, 0), (26, false, 67, 82, 69, 65), (26, true, 84, 69, 0, 0), (27, false, 77, 65, 82, 75), (27, true, 69, 82, 0, 0), (28, false, 73, 77, 77, 69), (28, true, 68, 73, 65, 84), (29, false, 93, 0, 0, 0), (30, false, 67, 79, 77, 80), (30, true, 73, 76, 69, 44), (31, false, 65, 76, 83, 79), (32, false, 80, 82, 69, 86), (32, true, 73, 79, 85, 83), (33, false, 68, 69, 70, 73), (33, true, 78, 73, 84, 73)]
def tf_l3 : List (Nat × Bool × Int32 × Int32 × Int32 × Int32) := [(34, false, 91, 0, 0, 0), (35, false, 59, 0, 0, 0), (36, false, 73, 70, 0, 0), (37, false, 69, 76, 83, 69), (38, false, 84, 72, 69, 78), (39, false, 66, 69, 71, 73), (39, true, 78, 0, 0, 0), (40, false, 85, 78, 84, 73), (40, true, 76, 0, 0, 0), (41, false, 87, 72, 73, 76), (41, true, 69, 0, 0, 0), (42, false, 82, 69, 80, 69), (42, true, 65, 84, 0, 0), (43, false, 68, 79, 0, 0), (44, false, 76, 79, 79, 80), (45, false, 76, 69, 65, 86), (45, true, 69, 0, 0, 0), (46, false, 69, 88, 73, 84), (47, false, 82, 69, 67, 85), (47, true, 82, 83, 69, 0), (48, false, 76, 73, 84, 69), (48, true, 82, 65, 76, 0), (49, false, 80, 79, 83, 84), (49, true, 80, 79, 78, 69), (50, false, 68, 79, 69, 83), (50, true, 62, 0, 0, 0)]
def tf_ly : List (Nat × Int64) := [(0, 4478288), (1, 1146244944), (2, 1398227280), (3, 1331053906), (4, 43), (5, 45), (6, 42), (7, 47), (8, 60), (9, 61), (10, 4279876), (11, 293220668488), (12, 15954), (13, 21054), (14, 21056), (15, 73), (16, 64), (17, 33), (18, 44), (19, 1212502597), (20, 46), (21, 19518827898688581), (22, 288858850120), (23, 361990606679), (24, 39), (25, 58), (26, 74020628288581), (27, 84942948877650), (28, 5281962897869193556), (29, 93), (30, 4850180330923771180), (31, 1095521103), (32, 5787764708023948627), (33, 4919415448632120393), (34, 91), (35, 59), (36, 18758), (37, 1162629957), (38, 1414022478), (39, 284630141262), (40, 366386366796), (41, 374874917957), (42, 90457652937044), (43, 17487), (44, 1280266064), (45, 327579424325), (46, 1163413844), (47, 23157103586857797), (48, 21472724519108940), (49, 5786935667784109637), (50, 293387719486)]
theorem tf_un_out {j : Nat} : ∀ (l : List (Nat × Bool × Int32 × Int32 × Int32 × Int32)) (f : Nat → Int64), (l.all (fun x => decide (x.1 < 51))) = true → 51 ≤ j → tf_un l f j = f j
  | [], _, _, _ => rfl
  | x :: l, f, h, hj => by
    rw [List.all_cons, Bool.and_eq_true] at h
    have h1 : x.1 < 51 := of_decide_eq_true h.1
    show tf_un l _ j = f j
    rw [tf_un_out l _ h.2 hj, pk_uLn (by omega)]
theorem tf_uy_out {j : Nat} : ∀ (l : List (Nat × Int64)) (f : Nat → Int64), (l.all (fun x => decide (x.1 < 51))) = true → 51 ≤ j → tf_uy l f j = f j
  | [], _, _, _ => rfl
  | x :: l, f, h, hj => by
    rw [List.all_cons, Bool.and_eq_true] at h
    have h1 : x.1 < 51 := of_decide_eq_true h.1
    show tf_uy l _ j = f j
    rw [tf_uy_out l _ h.2 hj, pk_uLn (by omega)]
def tf_nx : Nat → Int64 := tf_un tf_l3 (tf_un tf_l2 (tf_un tf_l1 (fun _ => 0)))
def tf_ny : Nat → Int64 := tf_uy tf_ly (fun _ => 0)
theorem tf_nxy_in : ∀ j, j < 51 → tf_nx j = tf_ny j := by decide +kernel
theorem tf_nxy : tf_nx = tf_ny := by
  funext j
  rcases Nat.lt_or_ge j 51 with h | h
  · exact tf_nxy_in j h
  · unfold tf_nx tf_ny
    rw [tf_un_out _ _ (by decide) h, tf_un_out _ _ (by decide) h, tf_un_out _ _ (by decide) h, tf_uy_out _ _ (by decide) h]
def tf_gnb (x : Int64) : Bool := (List.range 9).any (fun c => (List.range 8).all (fun i => decide ((i < c → 33 ≤ tf_pb x i ∧ tf_pb x i ≤ 126) ∧ (c ≤ i → tf_pb x i = 0))))
theorem tf_gnb_ok {x : Int64} (h : tf_gnb x = true) : tf_GN x := by
  unfold tf_gnb at h
  rw [List.any_eq_true] at h
  obtain ⟨c, c1, c2⟩ := h
  rw [List.mem_range] at c1
  rw [List.all_eq_true] at c2
  refine ⟨c, by omega, fun i hi => ?_⟩
  exact of_decide_eq_true (c2 i (List.mem_range.mpr hi))
theorem tf_ny_gn : ∀ j, j < 51 → tf_gnb (tf_ny j) = true := by decide +kernel
theorem tf_tt : ∀ k, k < 51 → tf_ut tf_lt (fun _ => 0) k = nI (tf_tk k) ∧ tf_ut tf_lg (fun _ => 0) k = nI (tf_gv k) := by decide +kernel
def tf_im (m : Nat) : Nat → Int32 := fun j => if 34 ≤ j ∧ j < m then 1 else 0
theorem tf_im_0 : tf_im 34 = fun _ => 0 := by
  funext j
  unfold tf_im
  rw [if_neg (by omega)]
theorem tf_im_s {m : Nat} (h : 34 ≤ m) : upd (tf_im m) m 1 = tf_im (m + 1) := by
  funext j
  by_cases e : j = m
  · subst e
    rw [pk_us]
    unfold tf_im
    rw [if_pos (by omega)]
  · rw [pk_un e]
    unfold tf_im
    by_cases z : 34 ≤ j ∧ j < m
    · rw [if_pos z, if_pos (by omega)]
    · rw [if_neg z, if_neg (by omega)]
theorem tf_clx (p0 : Int32) (a b : Nat) (hab : a ≤ b) (hb : b < 2 ^ 31) : ∃ m : Nat, a ≤ m ∧ m ≤ b ∧ (∀ (post : Int32 → Prop) (u : SX), post (nI m) → wpX_clamp post u p0 (nI a) (nI b)) ∧ (∀ (post : Int32 → Prop) (v : SY), post (nI m) → wpY_clamp post v p0 (nI a) (nI b)) := by
  by_cases h1 : nI a ≤ p0
  · by_cases h2 : p0 ≤ nI b
    · have h0 : ¬ p0 < 0 := fun z => absurd (Int32.lt_of_le_of_lt h1 z) (nI_pos (by omega))
      obtain ⟨m, hm, e⟩ := nI_of h0
      subst e
      rw [nI_leI (by omega) hm] at h1
      rw [nI_leI hm hb] at h2
      exact ⟨m, h1, h2, fun post u k => br_t (nI_le h1 hm) (br_t (nI_le h2 hb) k), fun post u k => br_t (nI_le h1 hm) (br_t (nI_le h2 hb) k)⟩
    · exact ⟨b, hab, Nat.le_refl _, fun post u k => br_t h1 (br_f h2 k), fun post u k => br_t h1 (br_f h2 k)⟩
  · exact ⟨a, Nat.le_refl _, hab, fun post u k => br_f h1 k, fun post u k => br_f h1 k⟩
section
variable {md mr mu mf ll lp d r w n os cd hc oh od fu : Nat} {k1 k2 k3 k4 k5 k6 k7 k8 k9 tS tE en op co cu ip ie pe ab re oy sv : Int32} {tN onm : Int64} {li da rk ra rb rc kd ls im sr st we ad wo tk gv io ia ck ci ce ou ox yk ya yb oo ol ao ap ik iv ow oz : Nat → Int32} {nm : Nat → Int64} {lo : Nat}
variable {q : Nat}
theorem tx_define {post : SX → Prop} {x y a b c e : Int32} (hq : q < 51) (k : post (k1, k2, k3, k4, k5, k6, k7, k8, k9, (nI md), (nI mr), (nI mu), (nI mf), (nI ll), (nI lp), tS, tE, tN, (nI d), (nI r), (nI w), en, (nI n), op, co, onm, (nI os), (nI cd), (nI hc), (nI oh), (nI od), cu, (nI fu), ip, ie, pe, ab, re, li, da, rk, ra, rb, rc, (vp_updL nm q (tf_pw a b c e)), kd, ls, im, sr, st, we, ad, wo, (upd tk q x), (upd gv q y), io, ia, ck, ci, ce, ou, ox)) : wpX_define post (k1, k2, k3, k4, k5, k6, k7, k8, k9, (nI md), (nI mr), (nI mu), (nI mf), (nI ll), (nI lp), tS, tE, tN, (nI d), (nI r), (nI w), en, (nI n), op, co, onm, (nI os), (nI cd), (nI hc), (nI oh), (nI od), cu, (nI fu), ip, ie, pe, ab, re, li, da, rk, ra, rb, rc, nm, kd, ls, im, sr, st, we, ad, wo, tk, gv, io, ia, ck, ci, ce, ou, ox) (nI q) x y a b c e :=
  And.intro (vp_in_nI hq (by omega)) (nm_r (tf_uc (by omega)) (And.intro (vp_in_nI hq (by omega)) (nm_r (tf_uc (by omega)) (nm_e (And.intro (vp_in_nI (by omega) (by omega)) (nm_r (tf_ucL (by omega)) k))))))
theorem tx_extend {post : SX → Prop} {a b c e : Int32} (hq : q < 51) (k : post (k1, k2, k3, k4, k5, k6, k7, k8, k9, (nI md), (nI mr), (nI mu), (nI mf), (nI ll), (nI lp), tS, tE, tN, (nI d), (nI r), (nI w), en, (nI n), op, co, onm, (nI os), (nI cd), (nI hc), (nI oh), (nI od), cu, (nI fu), ip, ie, pe, ab, re, li, da, rk, ra, rb, rc, (vp_updL nm q (nm q ||| (tf_pw a b c e <<< ((32 : Int32).toInt64 &&& 63)))), kd, ls, im, sr, st, we, ad, wo, tk, gv, io, ia, ck, ci, ce, ou, ox)) : wpX_extend post (k1, k2, k3, k4, k5, k6, k7, k8, k9, (nI md), (nI mr), (nI mu), (nI mf), (nI ll), (nI lp), tS, tE, tN, (nI d), (nI r), (nI w), en, (nI n), op, co, onm, (nI os), (nI cd), (nI hc), (nI oh), (nI od), cu, (nI fu), ip, ie, pe, ab, re, li, da, rk, ra, rb, rc, nm, kd, ls, im, sr, st, we, ad, wo, tk, gv, io, ia, ck, ci, ce, ou, ox) (nI q) a b c e :=
  nm_e (And.intro (vp_in_nI (by omega) (by omega)) (And.intro (vp_in_nI (by omega) (by omega)) (nm_r ((tf_ucL (by omega)).trans (by rw [nI_clamp (show q < 2 ^ 31 by omega)]; rfl)) k)))
theorem tx_imm {post : SX → Prop} (k : post (k1, k2, k3, k4, k5, k6, k7, k8, k9, (nI md), (nI mr), (nI mu), (nI mf), (nI ll), (nI lp), tS, tE, tN, (nI d), (nI r), (nI w), en, (nI n), op, co, onm, (nI os), (nI cd), (nI hc), (nI oh), (nI od), cu, (nI fu), ip, ie, pe, ab, re, li, da, rk, ra, rb, rc, nm, kd, ls, (tf_im 51), sr, st, we, ad, wo, tk, gv, io, ia, ck, ci, ce, ou, ox)) : ∀ m i, i + m = 51 → 34 ≤ i → wX_defineImmediateWords_372 post k1 k2 k3 k4 k5 k6 k7 k8 k9 (nI md) (nI mr) (nI mu) (nI mf) (nI ll) (nI lp) tS tE tN (nI d) (nI r) (nI w) en (nI n) op co onm (nI os) (nI cd) (nI hc) (nI oh) (nI od) cu (nI fu) ip ie pe ab re (m + 1) (nI i) li da rk ra rb rc nm kd ls (tf_im i) sr st we ad wo tk gv io ia ck ci ce ou ox
  | 0, i, h, _ => by
    have e : i = 51 := by omega
    subst e
    exact br_t (by decide) k
  | m + 1, i, h, h2 => by
    have ih := tx_imm k m (i + 1) (by omega) (by omega)
    refine br_f (nI_ge (b := 51) (by omega) (by decide)) (And.intro (vp_in_nI (by omega) (by omega)) (nm_r ((tf_uc (by omega)).trans ?_) (nm_r (nI_1 i) ih)))
    rw [tf_nb1]
    exact tf_im_s h2
theorem tx_plain {post : SX → Prop} (k : post (k1, k2, k3, k4, k5, k6, k7, k8, k9, (nI md), (nI mr), (nI mu), (nI mf), (nI ll), (nI lp), tS, tE, tN, (nI d), (nI r), (nI w), en, (nI n), op, co, onm, (nI os), (nI cd), (nI hc), (nI oh), (nI od), cu, (nI fu), ip, ie, pe, ab, re, li, da, rk, ra, rb, rc, (tf_un tf_l1 nm), kd, ls, im, sr, st, we, ad, wo, (tf_ut (tf_lt.take 21) tk), (tf_ut (tf_lg.take 21) gv), io, ia, ck, ci, ce, ou, ox)) : wpX_definePlainWords post (k1, k2, k3, k4, k5, k6, k7, k8, k9, (nI md), (nI mr), (nI mu), (nI mf), (nI ll), (nI lp), tS, tE, tN, (nI d), (nI r), (nI w), en, (nI n), op, co, onm, (nI os), (nI cd), (nI hc), (nI oh), (nI od), cu, (nI fu), ip, ie, pe, ab, re, li, da, rk, ra, rb, rc, nm, kd, ls, im, sr, st, we, ad, wo, tk, gv, io, ia, ck, ci, ce, ou, ox) := by
  unfold wpX_definePlainWords
  refine tx_define (q := 0) (by decide) ?_
  refine tx_define (q := 1) (by decide) ?_
  refine tx_define (q := 2) (by decide) ?_
  refine tx_define (q := 3) (by decide) ?_
  refine tx_define (q := 4) (by decide) ?_
  refine tx_define (q := 5) (by decide) ?_
  refine tx_define (q := 6) (by decide) ?_
  refine tx_define (q := 7) (by decide) ?_
  refine tx_define (q := 8) (by decide) ?_
  refine tx_define (q := 9) (by decide) ?_
  refine tx_define (q := 10) (by decide) ?_
  refine tx_define (q := 11) (by decide) ?_
  refine tx_extend (q := 11) (by decide) ?_
  refine tx_define (q := 12) (by decide) ?_
  refine tx_define (q := 13) (by decide) ?_
  refine tx_define (q := 14) (by decide) ?_
  refine tx_define (q := 15) (by decide) ?_
  refine tx_define (q := 16) (by decide) ?_
  refine tx_define (q := 17) (by decide) ?_
  refine tx_define (q := 18) (by decide) ?_
  refine tx_define (q := 19) (by decide) ?_
  refine tx_define (q := 20) (by decide) ?_
  exact k
theorem tx_system {post : SX → Prop} (k : post (k1, k2, k3, k4, k5, k6, k7, k8, k9, (nI md), (nI mr), (nI mu), (nI mf), (nI ll), (nI lp), tS, tE, tN, (nI d), (nI r), (nI w), en, (nI n), op, co, onm, (nI os), (nI cd), (nI hc), (nI oh), (nI od), cu, (nI fu), ip, ie, pe, ab, re, li, da, rk, ra, rb, rc, (tf_un tf_l2 nm), kd, ls, im, sr, st, we, ad, wo, (tf_ut ((tf_lt.drop 21).take 13) tk), (tf_ut ((tf_lg.drop 21).take 13) gv), io, ia, ck, ci, ce, ou, ox)) : wpX_defineSystemWords post (k1, k2, k3, k4, k5, k6, k7, k8, k9, (nI md), (nI mr), (nI mu), (nI mf), (nI ll), (nI lp), tS, tE, tN, (nI d), (nI r), (nI w), en, (nI n), op, co, onm, (nI os), (nI cd), (nI hc), (nI oh), (nI od), cu, (nI fu), ip, ie, pe, ab, re, li, da, rk, ra, rb, rc, nm, kd, ls, im, sr, st, we, ad, wo, tk, gv, io, ia, ck, ci, ce, ou, ox) := by
  unfold wpX_defineSystemWords
  refine tx_define (q := 21) (by decide) ?_
  refine tx_extend (q := 21) (by decide) ?_
  refine tx_define (q := 22) (by decide) ?_
  refine tx_extend (q := 22) (by decide) ?_
  refine tx_define (q := 23) (by decide) ?_
  refine tx_extend (q := 23) (by decide) ?_
  refine tx_define (q := 24) (by decide) ?_
  refine tx_define (q := 25) (by decide) ?_
  refine tx_define (q := 26) (by decide) ?_
  refine tx_extend (q := 26) (by decide) ?_
  refine tx_define (q := 27) (by decide) ?_
  refine tx_extend (q := 27) (by decide) ?_
  refine tx_define (q := 28) (by decide) ?_
  refine tx_extend (q := 28) (by decide) ?_
  refine tx_define (q := 29) (by decide) ?_
  refine tx_define (q := 30) (by decide) ?_
  refine tx_extend (q := 30) (by decide) ?_
  refine tx_define (q := 31) (by decide) ?_
  refine tx_define (q := 32) (by decide) ?_
  refine tx_extend (q := 32) (by decide) ?_
  refine tx_define (q := 33) (by decide) ?_
  refine tx_extend (q := 33) (by decide) ?_
  exact k
theorem tx_immed {post : SX → Prop} (k : post (k1, k2, k3, k4, k5, k6, k7, k8, k9, (nI md), (nI mr), (nI mu), (nI mf), (nI ll), (nI lp), tS, tE, tN, (nI d), (nI r), (nI w), en, (nI n), op, co, onm, (nI os), (nI cd), (nI hc), (nI oh), (nI od), cu, (nI fu), ip, ie, pe, ab, re, li, da, rk, ra, rb, rc, (tf_un tf_l3 nm), kd, ls, (tf_im 51), sr, st, we, ad, wo, (tf_ut (tf_lt.drop 34) tk), (tf_ut (tf_lg.drop 34) gv), io, ia, ck, ci, ce, ou, ox)) : wpX_defineImmediateWords post (k1, k2, k3, k4, k5, k6, k7, k8, k9, (nI md), (nI mr), (nI mu), (nI mf), (nI ll), (nI lp), tS, tE, tN, (nI d), (nI r), (nI w), en, (nI n), op, co, onm, (nI os), (nI cd), (nI hc), (nI oh), (nI od), cu, (nI fu), ip, ie, pe, ab, re, li, da, rk, ra, rb, rc, nm, kd, ls, (fun _ => 0), sr, st, we, ad, wo, tk, gv, io, ia, ck, ci, ce, ou, ox) := by
  unfold wpX_defineImmediateWords
  refine tx_define (q := 34) (by decide) ?_
  refine tx_define (q := 35) (by decide) ?_
  refine tx_define (q := 36) (by decide) ?_
  refine tx_define (q := 37) (by decide) ?_
  refine tx_define (q := 38) (by decide) ?_
  refine tx_define (q := 39) (by decide) ?_
  refine tx_extend (q := 39) (by decide) ?_
  refine tx_define (q := 40) (by decide) ?_
  refine tx_extend (q := 40) (by decide) ?_
  refine tx_define (q := 41) (by decide) ?_
  refine tx_extend (q := 41) (by decide) ?_
  refine tx_define (q := 42) (by decide) ?_
  refine tx_extend (q := 42) (by decide) ?_
  refine tx_define (q := 43) (by decide) ?_
  refine tx_define (q := 44) (by decide) ?_
  refine tx_define (q := 45) (by decide) ?_
  refine tx_extend (q := 45) (by decide) ?_
  refine tx_define (q := 46) (by decide) ?_
  refine tx_define (q := 47) (by decide) ?_
  refine tx_extend (q := 47) (by decide) ?_
  refine tx_define (q := 48) (by decide) ?_
  refine tx_extend (q := 48) (by decide) ?_
  refine tx_define (q := 49) (by decide) ?_
  refine tx_extend (q := 49) (by decide) ?_
  refine tx_define (q := 50) (by decide) ?_
  refine tx_extend (q := 50) (by decide) ?_
  rw [← tf_im_0]
  exact Exists.intro 18 (tx_imm k 17 34 (by omega) (by omega))
theorem tf_updL2 {f : Nat → Int64} {k : Nat} {x y : Int64} : vp_updL (vp_updL f k x) k y = vp_updL f k y := by
  funext j
  by_cases h : j = k
  · rw [h, pk_uLs, pk_uLs]
  · rw [pk_uLn h, pk_uLn h, pk_uLn h]
theorem tf_updLi {f : Nat → Int64} {k : Nat} : vp_updL f k (f k) = f := by
  funext j
  by_cases h : j = k
  · rw [h, pk_uLs]
  · rw [pk_uLn h]
theorem ty_sp7 {post : SY → Prop} {z : Int64} (hq : q < 75) : ∀ m j acc, m ≤ 8 → post ((nI md), (nI mr), (nI mu), (nI mf), (nI ll), (nI lp), sv, (nI d), (nI r), (nI w), en, (nI n), (nI hc), (nI od), cu, oy, onm, (nI cd), (nI oh), (nI fu), pe, re, ab, li, da, yk, ya, yb, (vp_updL nm q (tf_sp z m j acc)), kd, ls, im, sr, ad, oo, ol, ao, ap, ik, iv, ow, ce, oz, ck, ou) → wY_spell_7 post (nI q) z (nI md) (nI mr) (nI mu) (nI mf) (nI ll) (nI lp) sv (nI d) (nI r) (nI w) en (nI n) (nI hc) (nI od) cu oy onm (nI cd) (nI oh) (nI fu) pe re ab (m + 1) (nI j) (nI m - 1) li da yk ya yb (vp_updL nm q acc) kd ls im sr ad oo ol ao ap ik iv ow ce oz ck ou
  | 0, j, acc, _, k => by
    rw [tf_m0]
    exact br_t tf_neg1 k
  | m + 1, j, acc, hm, k => by
    rw [nI_pred]
    have hi : vp_in (nI q) 75 := vp_in_nI hq (by omega)
    refine br_f (nI_pos (by omega)) (nm_e ?_)
    by_cases hz : (z >>> ((8 * nI m).toInt64 &&& 63)) &&& 255 = 0
    · unfold tf_sp at k
      rw [if_pos hz] at k
      exact br_t hz (nm_r (tf_am _) (ty_sp7 hq m j acc (by omega) k))
    · unfold tf_sp at k
      rw [if_neg hz] at k
      refine br_f hz (And.intro hi (And.intro hi (nm_r (e' := vp_updL nm q (acc ||| (((z >>> ((8 * nI m).toInt64 &&& 63)) &&& 255) <<< ((8 * nI j).toInt64 &&& 63)))) ?_ (nm_r (nI_1 j) (nm_r (tf_am _) (ty_sp7 hq m (j + 1) _ (by omega) k))))))
      rw [nI_clamp (show q < 2 ^ 31 by omega), pk_uLs, tf_updL2]
theorem ty_spell {post : SY → Prop} {z : Int64} (hq : q < 51) (k : post ((nI md), (nI mr), (nI mu), (nI mf), (nI ll), (nI lp), sv, (nI d), (nI r), (nI w), en, (nI n), (nI hc), (nI od), cu, oy, onm, (nI cd), (nI oh), (nI fu), pe, re, ab, li, da, yk, ya, yb, (vp_updL nm q (tf_sp z 8 0 (nm q))), kd, ls, im, sr, ad, oo, ol, ao, ap, ik, iv, ow, ce, oz, ck, ou)) : wpY_spell post ((nI md), (nI mr), (nI mu), (nI mf), (nI ll), (nI lp), sv, (nI d), (nI r), (nI w), en, (nI n), (nI hc), (nI od), cu, oy, onm, (nI cd), (nI oh), (nI fu), pe, re, ab, li, da, yk, ya, yb, nm, kd, ls, im, sr, ad, oo, ol, ao, ap, ik, iv, ow, ce, oz, ck, ou) (nI q) z := by
  have K := ty_sp7 (by omega) 8 0 (nm q) (Nat.le_refl _) k
  rw [tf_updLi] at K
  exact Exists.intro 9 K
theorem ty_i245 {post : SY → Prop} (k : post ((nI md), (nI mr), (nI mu), (nI mf), (nI ll), (nI lp), sv, (nI d), (nI r), (nI w), en, (nI n), (nI hc), (nI od), cu, oy, onm, (nI cd), (nI oh), (nI fu), pe, re, ab, li, da, yk, ya, yb, (tf_uy tf_ly nm), kd, ls, (tf_im 51), sr, ad, oo, ol, ao, ap, ik, iv, ow, ce, oz, ck, ou)) : ∀ m i, i + m = 51 → 34 ≤ i → wY_init_245 post (nI md) (nI mr) (nI mu) (nI mf) (nI ll) (nI lp) sv (nI d) (nI r) (nI w) en (nI n) (nI hc) (nI od) cu oy onm (nI cd) (nI oh) (nI fu) pe re ab (m + 1) (nI i) li da yk ya yb nm kd ls (tf_im i) sr ad oo ol ao ap ik iv ow ce oz ck ou
  | 0, i, h, _ => by
    have e : i = 51 := by omega
    subst e
    refine br_t (by decide) ?_
    refine ty_spell (q := 0) (by decide) ?_
    refine ty_spell (q := 1) (by decide) ?_
    refine ty_spell (q := 2) (by decide) ?_
    refine ty_spell (q := 3) (by decide) ?_
    refine ty_spell (q := 4) (by decide) ?_
    refine ty_spell (q := 5) (by decide) ?_
    refine ty_spell (q := 6) (by decide) ?_
    refine ty_spell (q := 7) (by decide) ?_
    refine ty_spell (q := 8) (by decide) ?_
    refine ty_spell (q := 9) (by decide) ?_
    refine ty_spell (q := 10) (by decide) ?_
    refine ty_spell (q := 11) (by decide) ?_
    refine ty_spell (q := 12) (by decide) ?_
    refine ty_spell (q := 13) (by decide) ?_
    refine ty_spell (q := 14) (by decide) ?_
    refine ty_spell (q := 15) (by decide) ?_
    refine ty_spell (q := 16) (by decide) ?_
    refine ty_spell (q := 17) (by decide) ?_
    refine ty_spell (q := 18) (by decide) ?_
    refine ty_spell (q := 19) (by decide) ?_
    refine ty_spell (q := 20) (by decide) ?_
    refine ty_spell (q := 21) (by decide) ?_
    refine ty_spell (q := 22) (by decide) ?_
    refine ty_spell (q := 23) (by decide) ?_
    refine ty_spell (q := 24) (by decide) ?_
    refine ty_spell (q := 25) (by decide) ?_
    refine ty_spell (q := 26) (by decide) ?_
    refine ty_spell (q := 27) (by decide) ?_
    refine ty_spell (q := 28) (by decide) ?_
    refine ty_spell (q := 29) (by decide) ?_
    refine ty_spell (q := 30) (by decide) ?_
    refine ty_spell (q := 31) (by decide) ?_
    refine ty_spell (q := 32) (by decide) ?_
    refine ty_spell (q := 33) (by decide) ?_
    refine ty_spell (q := 34) (by decide) ?_
    refine ty_spell (q := 35) (by decide) ?_
    refine ty_spell (q := 36) (by decide) ?_
    refine ty_spell (q := 37) (by decide) ?_
    refine ty_spell (q := 38) (by decide) ?_
    refine ty_spell (q := 39) (by decide) ?_
    refine ty_spell (q := 40) (by decide) ?_
    refine ty_spell (q := 41) (by decide) ?_
    refine ty_spell (q := 42) (by decide) ?_
    refine ty_spell (q := 43) (by decide) ?_
    refine ty_spell (q := 44) (by decide) ?_
    refine ty_spell (q := 45) (by decide) ?_
    refine ty_spell (q := 46) (by decide) ?_
    refine ty_spell (q := 47) (by decide) ?_
    refine ty_spell (q := 48) (by decide) ?_
    refine ty_spell (q := 49) (by decide) ?_
    refine ty_spell (q := 50) (by decide) ?_
    exact k
  | m + 1, i, h, h2 => by
    have ih := ty_i245 k m (i + 1) (by omega) (by omega)
    refine br_f (nI_nlt (a := 50) (by omega) (by omega)) (And.intro (vp_in_nI (by omega) (by omega)) (nm_r ((tf_uc (by omega)).trans ?_) (nm_r (nI_1 i) ih)))
    rw [tf_nb1]
    exact tf_im_s h2
theorem ty_i0 {post : SY → Prop} (k : post ((nI md), (nI mr), (nI mu), (nI mf), (nI ll), (nI lp), sv, (nI d), (nI r), (nI w), en, (nI n), (nI hc), (nI od), cu, oy, onm, (nI cd), (nI oh), (nI fu), pe, re, ab, li, da, yk, ya, yb, (tf_uy tf_ly nm), kd, ls, (tf_im 51), sr, ad, oo, ol, ao, ap, ik, iv, ow, ce, oz, ck, ou)) : wY_init_245 post (nI md) (nI mr) (nI mu) (nI mf) (nI ll) (nI lp) sv (nI d) (nI r) (nI w) en (nI n) (nI hc) (nI od) cu oy onm (nI cd) (nI oh) (nI fu) pe re ab 18 (nI 34) li da yk ya yb nm kd ls (fun _ => 0) sr ad oo ol ao ap ik iv ow ce oz ck ou := by
  have K := ty_i245 k 17 34 (by omega) (by omega)
  rw [tf_im_0] at K
  exact K
theorem tf_C_init (h1 : 4 ≤ md ∧ md ≤ 32) (h2 : 2 ≤ mr ∧ mr ≤ 32) (h3 : 1 ≤ mu ∧ mu ≤ 24) (h4 : 1 ≤ mf ∧ mf ≤ 100) : (tf_C md mr mu mf 0 0 0 51 0 0 0 0 0 1 0 0 0 0 (fun _ => 0) tf_nx (fun _ => 0) (tf_im 51) (fun _ => 0) (fun _ => 0) (fun _ => 0) (fun _ => 0) (fun _ => 0) (fun _ => 0) (fun _ => 0) (fun _ => 0) (tf_ut tf_lt (fun _ => 0)) (tf_ut tf_lg (fun _ => 0)) (fun _ => 0) (fun _ => 0) (fun _ => 0) (fun _ => 0) (fun _ => 0) (fun _ => 0) (fun _ => 0) (fun _ => 0) (fun _ => 0)) := by
  refine ⟨by unfold tf_B; omega, fun i hi => absurd hi (by omega), tf_tt, fun i hi => ?_, ⟨fun k hk => ?_, fun k hk => ?_, fun k hk => rfl, fun k k1' k2' => absurd k2' (by omega)⟩, fun k k1' k2' => absurd k2' (by omega), fun k k1' k2' => absurd k2' (by omega), fun i hi => absurd hi (by omega), Or.inl ⟨rfl, rfl, rfl, fun i hi => absurd hi (by omega)⟩, ⟨fun j hj => absurd hj (by omega), fun i j hi _ _ => absurd hi (by omega)⟩, fun i hi => absurd hi (by omega)⟩
  · exact ⟨rfl, 0, by omega, rfl⟩
  · rw [tf_nxy]
    exact tf_gnb_ok (tf_ny_gn k hk)
  · unfold tf_im
    split
    · exact Or.inr rfl
    · exact Or.inl rfl
end
end
section
/-! a line and the questions, from the relation -/
section
variable {md mr mu mf ll lp d r w n os cd hc oh od fu : Nat} {k1 k2 k3 k4 k5 k6 k7 k8 k9 tS tE en op co cu ip ie pe ab re oy sv : Int32} {tN onm : Int64} {li da rk ra rb rc kd ls im sr st we ad wo tk gv io ia ck ci ce ou ox yk ya yb oo ol ao ap ik iv ow oz : Nat → Int32} {nm : Nat → Int64} {lo : Nat}
variable {fv : Nat} {y3 y4 y5 : Int32}
theorem tm_interpret (C : (tf_C md mr mu mf ll d 0 w n os cd hc oh od op co oy onm li nm kd im ad st we wo oo ol ao ap tk gv io ia ik iv ow ck ci ox oz)) : tf_MO (fun post u => wpX_interpret post u) (fun post v => wpY_interpret post v) (k1, k2, k3, k4, k5, k6, k7, k8, k9, (nI md), (nI mr), (nI mu), (nI mf), (nI ll), (nI 0), tS, tE, tN, (nI d), (nI 0), (nI w), en, (nI n), op, co, onm, (nI os), (nI cd), (nI hc), (nI oh), (nI od), cu, (nI fu), (-1), ie, (-1), ab, re, li, da, rk, ra, rb, rc, nm, kd, ls, im, sr, st, we, ad, wo, tk, gv, io, ia, ck, ci, ce, ou, ox) ((nI md), (nI mr), (nI mu), (nI mf), (nI ll), (nI lp), sv, (nI d), (nI 0), (nI w), en, (nI n), (nI hc), (nI od), cu, oy, onm, (nI cd), (nI oh), (nI fv), y3, y4, y5, li, da, yk, ya, yb, nm, kd, ls, im, sr, ad, oo, ol, ao, ap, ik, iv, ow, ce, oz, ck, ou) := by
  have hB := C.1
  unfold tf_B at hB
  have M : tf_M0 0 (6433 * mf + 67 * ll) (k1, k2, k3, k4, k5, k6, k7, k8, k9, (nI md), (nI mr), (nI mu), (nI mf), (nI ll), (nI 0), tS, tE, tN, (nI d), (nI 0), (nI w), en, (nI n), op, co, onm, (nI os), (nI cd), (nI hc), (nI 0), (nI od), cu, (nI mf), (-1), ie, (-1), 0, 0, li, da, rk, ra, rb, rc, nm, kd, ls, im, sr, st, we, ad, wo, tk, gv, io, ia, ck, ci, ce, ou, ox) ((nI md), (nI mr), (nI mu), (nI mf), (nI ll), (nI 0), sv, (nI d), (nI 0), (nI w), en, (nI n), (nI hc), (nI od), cu, oy, onm, (nI cd), (nI 0), (nI mf), (-1), 0, 0, li, da, yk, ya, yb, nm, kd, ls, im, sr, ad, oo, ol, ao, ap, ik, iv, ow, ce, oz, ck, ou) := tf_M0_in ⟨⟨by unfold tf_B; omega, C.2⟩, by omega, by omega, 0, rfl, by omega⟩
  obtain ⟨res, u', v', h1, h2, h3⟩ := ts_int (6433 * mf + 67 * ll + 1) (6433 * mf + 67 * ll) (by omega) 0 _ _ 0 M (by omega)
  exact ⟨res, u', v', h1, fun post hp => Exists.intro 130 (h2 post hp), fun post hp => Exists.intro 10000001 (h3 post hp)⟩
/-- what a question says in both -/
def tf_QO {α : Type} (fX : (α → Prop) → SX → Prop) (fY : (α → Prop) → SY → Prop) (u : SX) (v : SY) : Prop := ∃ r, (∀ post : α → Prop, post r → fX post u) ∧ (∀ post : α → Prop, post r → fY post v)
theorem tq_depth (C : (tf_C md mr mu mf ll d 0 w n os cd hc oh od op co oy onm li nm kd im ad st we wo oo ol ao ap tk gv io ia ik iv ow ck ci ox oz)) : tf_QO (α := Int32) (fun post u => wpX_depth post u) (fun post v => wpY_depth post v) (k1, k2, k3, k4, k5, k6, k7, k8, k9, (nI md), (nI mr), (nI mu), (nI mf), (nI ll), (nI 0), tS, tE, tN, (nI d), (nI 0), (nI w), en, (nI n), op, co, onm, (nI os), (nI cd), (nI hc), (nI oh), (nI od), cu, (nI fu), (-1), ie, (-1), ab, re, li, da, rk, ra, rb, rc, nm, kd, ls, im, sr, st, we, ad, wo, tk, gv, io, ia, ck, ci, ce, ou, ox) ((nI md), (nI mr), (nI mu), (nI mf), (nI ll), (nI lp), sv, (nI d), (nI 0), (nI w), en, (nI n), (nI hc), (nI od), cu, oy, onm, (nI cd), (nI oh), (nI fv), y3, y4, y5, li, da, yk, ya, yb, nm, kd, ls, im, sr, ad, oo, ol, ao, ap, ik, iv, ow, ce, oz, ck, ou) := by
  exact ⟨nI d, fun post hp => hp, fun post hp => hp⟩
theorem tq_outCount (C : (tf_C md mr mu mf ll d 0 w n os cd hc oh od op co oy onm li nm kd im ad st we wo oo ol ao ap tk gv io ia ik iv ow ck ci ox oz)) : tf_QO (α := Int32) (fun post u => wpX_outCount post u) (fun post v => wpY_outCount post v) (k1, k2, k3, k4, k5, k6, k7, k8, k9, (nI md), (nI mr), (nI mu), (nI mf), (nI ll), (nI 0), tS, tE, tN, (nI d), (nI 0), (nI w), en, (nI n), op, co, onm, (nI os), (nI cd), (nI hc), (nI oh), (nI od), cu, (nI fu), (-1), ie, (-1), ab, re, li, da, rk, ra, rb, rc, nm, kd, ls, im, sr, st, we, ad, wo, tk, gv, io, ia, ck, ci, ce, ou, ox) ((nI md), (nI mr), (nI mu), (nI mf), (nI ll), (nI lp), sv, (nI d), (nI 0), (nI w), en, (nI n), (nI hc), (nI od), cu, oy, onm, (nI cd), (nI oh), (nI fv), y3, y4, y5, li, da, yk, ya, yb, nm, kd, ls, im, sr, ad, oo, ol, ao, ap, ik, iv, ow, ce, oz, ck, ou) := by
  exact ⟨nI oh, fun post hp => hp, fun post hp => hp⟩
theorem tq_wordCount (C : (tf_C md mr mu mf ll d 0 w n os cd hc oh od op co oy onm li nm kd im ad st we wo oo ol ao ap tk gv io ia ik iv ow ck ci ox oz)) : tf_QO (α := Int32) (fun post u => wpX_wordCount post u) (fun post v => wpY_wordCount post v) (k1, k2, k3, k4, k5, k6, k7, k8, k9, (nI md), (nI mr), (nI mu), (nI mf), (nI ll), (nI 0), tS, tE, tN, (nI d), (nI 0), (nI w), en, (nI n), op, co, onm, (nI os), (nI cd), (nI hc), (nI oh), (nI od), cu, (nI fu), (-1), ie, (-1), ab, re, li, da, rk, ra, rb, rc, nm, kd, ls, im, sr, st, we, ad, wo, tk, gv, io, ia, ck, ci, ce, ou, ox) ((nI md), (nI mr), (nI mu), (nI mf), (nI ll), (nI lp), sv, (nI d), (nI 0), (nI w), en, (nI n), (nI hc), (nI od), cu, oy, onm, (nI cd), (nI oh), (nI fv), y3, y4, y5, li, da, yk, ya, yb, nm, kd, ls, im, sr, ad, oo, ol, ao, ap, ik, iv, ow, ce, oz, ck, ou) := by
  exact ⟨nI w, fun post hp => hp, fun post hp => hp⟩
theorem tq_here (C : (tf_C md mr mu mf ll d 0 w n os cd hc oh od op co oy onm li nm kd im ad st we wo oo ol ao ap tk gv io ia ik iv ow ck ci ox oz)) : tf_QO (α := Int32) (fun post u => wpX_here post u) (fun post v => wpY_here post v) (k1, k2, k3, k4, k5, k6, k7, k8, k9, (nI md), (nI mr), (nI mu), (nI mf), (nI ll), (nI 0), tS, tE, tN, (nI d), (nI 0), (nI w), en, (nI n), op, co, onm, (nI os), (nI cd), (nI hc), (nI oh), (nI od), cu, (nI fu), (-1), ie, (-1), ab, re, li, da, rk, ra, rb, rc, nm, kd, ls, im, sr, st, we, ad, wo, tk, gv, io, ia, ck, ci, ce, ou, ox) ((nI md), (nI mr), (nI mu), (nI mf), (nI ll), (nI lp), sv, (nI d), (nI 0), (nI w), en, (nI n), (nI hc), (nI od), cu, oy, onm, (nI cd), (nI oh), (nI fv), y3, y4, y5, li, da, yk, ya, yb, nm, kd, ls, im, sr, ad, oo, ol, ao, ap, ik, iv, ow, ce, oz, ck, ou) := by
  exact ⟨nI hc, fun post hp => hp, fun post hp => hp⟩
theorem tq_current (C : (tf_C md mr mu mf ll d 0 w n os cd hc oh od op co oy onm li nm kd im ad st we wo oo ol ao ap tk gv io ia ik iv ow ck ci ox oz)) : tf_QO (α := Int32) (fun post u => wpX_current post u) (fun post v => wpY_current post v) (k1, k2, k3, k4, k5, k6, k7, k8, k9, (nI md), (nI mr), (nI mu), (nI mf), (nI ll), (nI 0), tS, tE, tN, (nI d), (nI 0), (nI w), en, (nI n), op, co, onm, (nI os), (nI cd), (nI hc), (nI oh), (nI od), cu, (nI fu), (-1), ie, (-1), ab, re, li, da, rk, ra, rb, rc, nm, kd, ls, im, sr, st, we, ad, wo, tk, gv, io, ia, ck, ci, ce, ou, ox) ((nI md), (nI mr), (nI mu), (nI mf), (nI ll), (nI lp), sv, (nI d), (nI 0), (nI w), en, (nI n), (nI hc), (nI od), cu, oy, onm, (nI cd), (nI oh), (nI fv), y3, y4, y5, li, da, yk, ya, yb, nm, kd, ls, im, sr, ad, oo, ol, ao, ap, ik, iv, ow, ce, oz, ck, ou) := by
  exact ⟨cu, fun post hp => hp, fun post hp => hp⟩
theorem tq_itemsUsed (C : (tf_C md mr mu mf ll d 0 w n os cd hc oh od op co oy onm li nm kd im ad st we wo oo ol ao ap tk gv io ia ik iv ow ck ci ox oz)) : tf_QO (α := Int32) (fun post u => wpX_itemsUsed post u) (fun post v => wpY_itemsUsed post v) (k1, k2, k3, k4, k5, k6, k7, k8, k9, (nI md), (nI mr), (nI mu), (nI mf), (nI ll), (nI 0), tS, tE, tN, (nI d), (nI 0), (nI w), en, (nI n), op, co, onm, (nI os), (nI cd), (nI hc), (nI oh), (nI od), cu, (nI fu), (-1), ie, (-1), ab, re, li, da, rk, ra, rb, rc, nm, kd, ls, im, sr, st, we, ad, wo, tk, gv, io, ia, ck, ci, ce, ou, ox) ((nI md), (nI mr), (nI mu), (nI mf), (nI ll), (nI lp), sv, (nI d), (nI 0), (nI w), en, (nI n), (nI hc), (nI od), cu, oy, onm, (nI cd), (nI oh), (nI fv), y3, y4, y5, li, da, yk, ya, yb, nm, kd, ls, im, sr, ad, oo, ol, ao, ap, ik, iv, ow, ce, oz, ck, ou) := by
  exact ⟨nI n, fun post hp => hp, fun post hp => hp⟩
theorem tq_out (C : (tf_C md mr mu mf ll d 0 w n os cd hc oh od op co oy onm li nm kd im ad st we wo oo ol ao ap tk gv io ia ik iv ow ck ci ox oz)) (x : Int32) : tf_QO (α := Int32) (fun post u => wpX_out post u x) (fun post v => wpY_out post v x) (k1, k2, k3, k4, k5, k6, k7, k8, k9, (nI md), (nI mr), (nI mu), (nI mf), (nI ll), (nI 0), tS, tE, tN, (nI d), (nI 0), (nI w), en, (nI n), op, co, onm, (nI os), (nI cd), (nI hc), (nI oh), (nI od), cu, (nI fu), (-1), ie, (-1), ab, re, li, da, rk, ra, rb, rc, nm, kd, ls, im, sr, st, we, ad, wo, tk, gv, io, ia, ck, ci, ce, ou, ox) ((nI md), (nI mr), (nI mu), (nI mf), (nI ll), (nI lp), sv, (nI d), (nI 0), (nI w), en, (nI n), (nI hc), (nI od), cu, oy, onm, (nI cd), (nI oh), (nI fv), y3, y4, y5, li, da, yk, ya, yb, nm, kd, ls, im, sr, ad, oo, ol, ao, ap, ik, iv, ow, ce, oz, ck, ou) := by
  have hB := C.1
  unfold tf_B at hB
  by_cases hin : tf_in oh x
  · have hi := hin
    obtain ⟨c, hc1, rfl⟩ := hin
    obtain ⟨q1, q2, _⟩ := tf_in_lt (by omega) hi
    refine ⟨ou c, fun post hp => br_f q1 (br_t q2 (And.intro (vp_in_nI (by omega) (by omega)) ?_)), fun post hp => br_f q1 (br_t q2 (And.intro (vp_in_nI (by omega) (by omega)) ?_))⟩
    · rw [nI_clamp (show c < 2 ^ 31 by omega)]; exact hp
    · rw [nI_clamp (show c < 2 ^ 31 by omega)]; exact hp
  · rcases tf_nin (show oh < 2 ^ 31 by omega) hin with z | ⟨z, z2⟩
    · exact ⟨0, fun post hp => br_t z hp, fun post hp => br_t z hp⟩
    · exact ⟨0, fun post hp => br_f z (br_f z2 hp), fun post hp => br_f z (br_f z2 hp)⟩
theorem tq_wordKind (C : (tf_C md mr mu mf ll d 0 w n os cd hc oh od op co oy onm li nm kd im ad st we wo oo ol ao ap tk gv io ia ik iv ow ck ci ox oz)) (x : Int32) : tf_QO (α := Int32) (fun post u => wpX_wordKind post u x) (fun post v => wpY_wordKind post v x) (k1, k2, k3, k4, k5, k6, k7, k8, k9, (nI md), (nI mr), (nI mu), (nI mf), (nI ll), (nI 0), tS, tE, tN, (nI d), (nI 0), (nI w), en, (nI n), op, co, onm, (nI os), (nI cd), (nI hc), (nI oh), (nI od), cu, (nI fu), (-1), ie, (-1), ab, re, li, da, rk, ra, rb, rc, nm, kd, ls, im, sr, st, we, ad, wo, tk, gv, io, ia, ck, ci, ce, ou, ox) ((nI md), (nI mr), (nI mu), (nI mf), (nI ll), (nI lp), sv, (nI d), (nI 0), (nI w), en, (nI n), (nI hc), (nI od), cu, oy, onm, (nI cd), (nI oh), (nI fv), y3, y4, y5, li, da, yk, ya, yb, nm, kd, ls, im, sr, ad, oo, ol, ao, ap, ik, iv, ow, ce, oz, ck, ou) := by
  have hB := C.1
  unfold tf_B at hB
  by_cases hin : tf_in w x
  · have hi := hin
    obtain ⟨c, hc1, rfl⟩ := hin
    obtain ⟨q1, q2, _⟩ := tf_in_lt (by omega) hi
    refine ⟨kd c, fun post hp => br_f q1 (br_t q2 (And.intro (vp_in_nI (by omega) (by omega)) ?_)), fun post hp => br_f q1 (br_t q2 (And.intro (vp_in_nI (by omega) (by omega)) ?_))⟩
    · rw [nI_clamp (show c < 2 ^ 31 by omega)]; exact hp
    · rw [nI_clamp (show c < 2 ^ 31 by omega)]; exact hp
  · rcases tf_nin (show w < 2 ^ 31 by omega) hin with z | ⟨z, z2⟩
    · exact ⟨-1, fun post hp => br_t z hp, fun post hp => br_t z hp⟩
    · exact ⟨-1, fun post hp => br_f z (br_f z2 hp), fun post hp => br_f z (br_f z2 hp)⟩
theorem tq_wordList (C : (tf_C md mr mu mf ll d 0 w n os cd hc oh od op co oy onm li nm kd im ad st we wo oo ol ao ap tk gv io ia ik iv ow ck ci ox oz)) (x : Int32) : tf_QO (α := Int32) (fun post u => wpX_wordList post u x) (fun post v => wpY_wordList post v x) (k1, k2, k3, k4, k5, k6, k7, k8, k9, (nI md), (nI mr), (nI mu), (nI mf), (nI ll), (nI 0), tS, tE, tN, (nI d), (nI 0), (nI w), en, (nI n), op, co, onm, (nI os), (nI cd), (nI hc), (nI oh), (nI od), cu, (nI fu), (-1), ie, (-1), ab, re, li, da, rk, ra, rb, rc, nm, kd, ls, im, sr, st, we, ad, wo, tk, gv, io, ia, ck, ci, ce, ou, ox) ((nI md), (nI mr), (nI mu), (nI mf), (nI ll), (nI lp), sv, (nI d), (nI 0), (nI w), en, (nI n), (nI hc), (nI od), cu, oy, onm, (nI cd), (nI oh), (nI fv), y3, y4, y5, li, da, yk, ya, yb, nm, kd, ls, im, sr, ad, oo, ol, ao, ap, ik, iv, ow, ce, oz, ck, ou) := by
  have hB := C.1
  unfold tf_B at hB
  by_cases hin : tf_in w x
  · have hi := hin
    obtain ⟨c, hc1, rfl⟩ := hin
    obtain ⟨q1, q2, _⟩ := tf_in_lt (by omega) hi
    refine ⟨ls c, fun post hp => br_f q1 (br_t q2 (And.intro (vp_in_nI (by omega) (by omega)) ?_)), fun post hp => br_f q1 (br_t q2 (And.intro (vp_in_nI (by omega) (by omega)) ?_))⟩
    · rw [nI_clamp (show c < 2 ^ 31 by omega)]; exact hp
    · rw [nI_clamp (show c < 2 ^ 31 by omega)]; exact hp
  · rcases tf_nin (show w < 2 ^ 31 by omega) hin with z | ⟨z, z2⟩
    · exact ⟨-1, fun post hp => br_t z hp, fun post hp => br_t z hp⟩
    · exact ⟨-1, fun post hp => br_f z (br_f z2 hp), fun post hp => br_f z (br_f z2 hp)⟩
theorem tq_wordSerial (C : (tf_C md mr mu mf ll d 0 w n os cd hc oh od op co oy onm li nm kd im ad st we wo oo ol ao ap tk gv io ia ik iv ow ck ci ox oz)) (x : Int32) : tf_QO (α := Int32) (fun post u => wpX_wordSerial post u x) (fun post v => wpY_wordSerial post v x) (k1, k2, k3, k4, k5, k6, k7, k8, k9, (nI md), (nI mr), (nI mu), (nI mf), (nI ll), (nI 0), tS, tE, tN, (nI d), (nI 0), (nI w), en, (nI n), op, co, onm, (nI os), (nI cd), (nI hc), (nI oh), (nI od), cu, (nI fu), (-1), ie, (-1), ab, re, li, da, rk, ra, rb, rc, nm, kd, ls, im, sr, st, we, ad, wo, tk, gv, io, ia, ck, ci, ce, ou, ox) ((nI md), (nI mr), (nI mu), (nI mf), (nI ll), (nI lp), sv, (nI d), (nI 0), (nI w), en, (nI n), (nI hc), (nI od), cu, oy, onm, (nI cd), (nI oh), (nI fv), y3, y4, y5, li, da, yk, ya, yb, nm, kd, ls, im, sr, ad, oo, ol, ao, ap, ik, iv, ow, ce, oz, ck, ou) := by
  have hB := C.1
  unfold tf_B at hB
  by_cases hin : tf_in w x
  · have hi := hin
    obtain ⟨c, hc1, rfl⟩ := hin
    obtain ⟨q1, q2, _⟩ := tf_in_lt (by omega) hi
    refine ⟨sr c, fun post hp => br_f q1 (br_t q2 (And.intro (vp_in_nI (by omega) (by omega)) ?_)), fun post hp => br_f q1 (br_t q2 (And.intro (vp_in_nI (by omega) (by omega)) ?_))⟩
    · rw [nI_clamp (show c < 2 ^ 31 by omega)]; exact hp
    · rw [nI_clamp (show c < 2 ^ 31 by omega)]; exact hp
  · rcases tf_nin (show w < 2 ^ 31 by omega) hin with z | ⟨z, z2⟩
    · exact ⟨-1, fun post hp => br_t z hp, fun post hp => br_t z hp⟩
    · exact ⟨-1, fun post hp => br_f z (br_f z2 hp), fun post hp => br_f z (br_f z2 hp)⟩
theorem tq_cell (C : (tf_C md mr mu mf ll d 0 w n os cd hc oh od op co oy onm li nm kd im ad st we wo oo ol ao ap tk gv io ia ik iv ow ck ci ox oz)) (x : Int32) : tf_QO (α := Int32) (fun post u => wpX_cell post u x) (fun post v => wpY_cell post v x) (k1, k2, k3, k4, k5, k6, k7, k8, k9, (nI md), (nI mr), (nI mu), (nI mf), (nI ll), (nI 0), tS, tE, tN, (nI d), (nI 0), (nI w), en, (nI n), op, co, onm, (nI os), (nI cd), (nI hc), (nI oh), (nI od), cu, (nI fu), (-1), ie, (-1), ab, re, li, da, rk, ra, rb, rc, nm, kd, ls, im, sr, st, we, ad, wo, tk, gv, io, ia, ck, ci, ce, ou, ox) ((nI md), (nI mr), (nI mu), (nI mf), (nI ll), (nI lp), sv, (nI d), (nI 0), (nI w), en, (nI n), (nI hc), (nI od), cu, oy, onm, (nI cd), (nI oh), (nI fv), y3, y4, y5, li, da, yk, ya, yb, nm, kd, ls, im, sr, ad, oo, ol, ao, ap, ik, iv, ow, ce, oz, ck, ou) := by
  have hB := C.1
  unfold tf_B at hB
  by_cases hin : tf_in hc x
  · have hi := hin
    obtain ⟨c, hc1, rfl⟩ := hin
    obtain ⟨q1, q2, _⟩ := tf_in_lt (by omega) hi
    refine ⟨ce c, fun post hp => br_f q1 (br_t q2 (And.intro (vp_in_nI (by omega) (by omega)) ?_)), fun post hp => br_f q1 (br_t q2 (And.intro (vp_in_nI (by omega) (by omega)) ?_))⟩
    · rw [nI_clamp (show c < 2 ^ 31 by omega)]; exact hp
    · rw [nI_clamp (show c < 2 ^ 31 by omega)]; exact hp
  · rcases tf_nin (show hc < 2 ^ 31 by omega) hin with z | ⟨z, z2⟩
    · exact ⟨0, fun post hp => br_t z hp, fun post hp => br_t z hp⟩
    · exact ⟨0, fun post hp => br_f z (br_f z2 hp), fun post hp => br_f z (br_f z2 hp)⟩
theorem tq_lineChar (C : (tf_C md mr mu mf ll d 0 w n os cd hc oh od op co oy onm li nm kd im ad st we wo oo ol ao ap tk gv io ia ik iv ow ck ci ox oz)) (x : Int32) : tf_QO (α := Int32) (fun post u => wpX_lineChar post u x) (fun post v => wpY_lineChar post v x) (k1, k2, k3, k4, k5, k6, k7, k8, k9, (nI md), (nI mr), (nI mu), (nI mf), (nI ll), (nI 0), tS, tE, tN, (nI d), (nI 0), (nI w), en, (nI n), op, co, onm, (nI os), (nI cd), (nI hc), (nI oh), (nI od), cu, (nI fu), (-1), ie, (-1), ab, re, li, da, rk, ra, rb, rc, nm, kd, ls, im, sr, st, we, ad, wo, tk, gv, io, ia, ck, ci, ce, ou, ox) ((nI md), (nI mr), (nI mu), (nI mf), (nI ll), (nI lp), sv, (nI d), (nI 0), (nI w), en, (nI n), (nI hc), (nI od), cu, oy, onm, (nI cd), (nI oh), (nI fv), y3, y4, y5, li, da, yk, ya, yb, nm, kd, ls, im, sr, ad, oo, ol, ao, ap, ik, iv, ow, ce, oz, ck, ou) := by
  have hB := C.1
  unfold tf_B at hB
  by_cases hin : tf_in ll x
  · have hi := hin
    obtain ⟨c, hc1, rfl⟩ := hin
    obtain ⟨q1, q2, _⟩ := tf_in_lt (by omega) hi
    refine ⟨li c, fun post hp => br_f q1 (br_t q2 (And.intro (vp_in_nI (by omega) (by omega)) ?_)), fun post hp => br_f q1 (br_t q2 (And.intro (vp_in_nI (by omega) (by omega)) ?_))⟩
    · rw [nI_clamp (show c < 2 ^ 31 by omega)]; exact hp
    · rw [nI_clamp (show c < 2 ^ 31 by omega)]; exact hp
  · rcases tf_nin (show ll < 2 ^ 31 by omega) hin with z | ⟨z, z2⟩
    · exact ⟨-1, fun post hp => br_t z hp, fun post hp => br_t z hp⟩
    · exact ⟨-1, fun post hp => br_f z (br_f z2 hp), fun post hp => br_f z (br_f z2 hp)⟩
theorem tq_stack (C : (tf_C md mr mu mf ll d 0 w n os cd hc oh od op co oy onm li nm kd im ad st we wo oo ol ao ap tk gv io ia ik iv ow ck ci ox oz)) (x : Int32) : tf_QO (α := Int32) (fun post u => wpX_stack post u x) (fun post v => wpY_stack post v x) (k1, k2, k3, k4, k5, k6, k7, k8, k9, (nI md), (nI mr), (nI mu), (nI mf), (nI ll), (nI 0), tS, tE, tN, (nI d), (nI 0), (nI w), en, (nI n), op, co, onm, (nI os), (nI cd), (nI hc), (nI oh), (nI od), cu, (nI fu), (-1), ie, (-1), ab, re, li, da, rk, ra, rb, rc, nm, kd, ls, im, sr, st, we, ad, wo, tk, gv, io, ia, ck, ci, ce, ou, ox) ((nI md), (nI mr), (nI mu), (nI mf), (nI ll), (nI lp), sv, (nI d), (nI 0), (nI w), en, (nI n), (nI hc), (nI od), cu, oy, onm, (nI cd), (nI oh), (nI fv), y3, y4, y5, li, da, yk, ya, yb, nm, kd, ls, im, sr, ad, oo, ol, ao, ap, ik, iv, ow, ce, oz, ck, ou) := by
  have hB := C.1
  unfold tf_B at hB
  by_cases hin : tf_in d x
  · have hi := hin
    obtain ⟨c, hc1, rfl⟩ := hin
    obtain ⟨q1, q2, _⟩ := tf_in_lt (by omega) hi
    have e1 : nI d - 1 - nI c = nI (d - 1 - c) := by
      have e2 : nI d - 1 = nI (d - 1) := pk_sub (a := d) (b := 1) (by omega)
      rw [e2, pk_sub (by omega)]
    refine ⟨da (d - 1 - c), fun post hp => br_f q1 (br_t q2 ?_), fun post hp => br_f q1 (br_t q2 ?_)⟩
    · rw [e1, nI_clamp (show d - 1 - c < 2 ^ 31 by omega)]
      exact And.intro (vp_in_nI (by omega) (by omega)) hp
    · rw [e1, nI_clamp (show d - 1 - c < 2 ^ 31 by omega)]
      exact And.intro (vp_in_nI (by omega) (by omega)) hp
  · rcases tf_nin (show d < 2 ^ 31 by omega) hin with z | ⟨z, z2⟩
    · exact ⟨0, fun post hp => br_t z hp, fun post hp => br_t z hp⟩
    · exact ⟨0, fun post hp => br_f z (br_f z2 hp), fun post hp => br_f z (br_f z2 hp)⟩
theorem tq_orderAt (C : (tf_C md mr mu mf ll d 0 w n os cd hc oh od op co oy onm li nm kd im ad st we wo oo ol ao ap tk gv io ia ik iv ow ck ci ox oz)) (x : Int32) : tf_QO (α := Int32) (fun post u => wpX_orderAt post u x) (fun post v => wpY_orderAt post v x) (k1, k2, k3, k4, k5, k6, k7, k8, k9, (nI md), (nI mr), (nI mu), (nI mf), (nI ll), (nI 0), tS, tE, tN, (nI d), (nI 0), (nI w), en, (nI n), op, co, onm, (nI os), (nI cd), (nI hc), (nI oh), (nI od), cu, (nI fu), (-1), ie, (-1), ab, re, li, da, rk, ra, rb, rc, nm, kd, ls, im, sr, st, we, ad, wo, tk, gv, io, ia, ck, ci, ce, ou, ox) ((nI md), (nI mr), (nI mu), (nI mf), (nI ll), (nI lp), sv, (nI d), (nI 0), (nI w), en, (nI n), (nI hc), (nI od), cu, oy, onm, (nI cd), (nI oh), (nI fv), y3, y4, y5, li, da, yk, ya, yb, nm, kd, ls, im, sr, ad, oo, ol, ao, ap, ik, iv, ow, ce, oz, ck, ou) := by
  have hB := C.1
  unfold tf_B at hB
  by_cases hin : tf_in od x
  · have hi := hin
    obtain ⟨c, hc1, rfl⟩ := hin
    obtain ⟨q1, q2, _⟩ := tf_in_lt (by omega) hi
    have e1 : nI od - 1 - nI c = nI (od - 1 - c) := by
      have e2 : nI od - 1 = nI (od - 1) := pk_sub (a := od) (b := 1) (by omega)
      rw [e2, pk_sub (by omega)]
    have hO := (C.2.2.2.1 (od - 1 - c) (by omega)).1
    refine ⟨oz (od - 1 - c), fun post hp => br_f q1 (br_t q2 ?_), fun post hp => br_f q1 (br_t q2 ?_)⟩
    · rw [e1, nI_clamp (show od - 1 - c < 2 ^ 31 by omega), hO]
      exact And.intro (vp_in_nI (by omega) (by omega)) hp
    · rw [e1, nI_clamp (show od - 1 - c < 2 ^ 31 by omega)]
      exact And.intro (vp_in_nI (by omega) (by omega)) hp
  · rcases tf_nin (show od < 2 ^ 31 by omega) hin with z | ⟨z, z2⟩
    · exact ⟨-1, fun post hp => br_t z hp, fun post hp => br_t z hp⟩
    · exact ⟨-1, fun post hp => br_f z (br_f z2 hp), fun post hp => br_f z (br_f z2 hp)⟩
theorem tq_isImmediate (C : (tf_C md mr mu mf ll d 0 w n os cd hc oh od op co oy onm li nm kd im ad st we wo oo ol ao ap tk gv io ia ik iv ow ck ci ox oz)) (x : Int32) : tf_QO (α := Int32) (fun post u => wpX_isImmediate post u x) (fun post v => wpY_isImmediate post v x) (k1, k2, k3, k4, k5, k6, k7, k8, k9, (nI md), (nI mr), (nI mu), (nI mf), (nI ll), (nI 0), tS, tE, tN, (nI d), (nI 0), (nI w), en, (nI n), op, co, onm, (nI os), (nI cd), (nI hc), (nI oh), (nI od), cu, (nI fu), (-1), ie, (-1), ab, re, li, da, rk, ra, rb, rc, nm, kd, ls, im, sr, st, we, ad, wo, tk, gv, io, ia, ck, ci, ce, ou, ox) ((nI md), (nI mr), (nI mu), (nI mf), (nI ll), (nI lp), sv, (nI d), (nI 0), (nI w), en, (nI n), (nI hc), (nI od), cu, oy, onm, (nI cd), (nI oh), (nI fv), y3, y4, y5, li, da, yk, ya, yb, nm, kd, ls, im, sr, ad, oo, ol, ao, ap, ik, iv, ow, ce, oz, ck, ou) := by
  have hB := C.1
  unfold tf_B at hB
  by_cases hin : tf_in w x
  · have hi := hin
    obtain ⟨c, hc1, rfl⟩ := hin
    obtain ⟨q1, q2, _⟩ := tf_in_lt (by omega) hi
    have hv : vp_in (nI c) 75 := vp_in_nI (by omega) (by omega)
    have hcl : im (nI c).toNatClampNeg = im c := tf_rc (by omega)
    rcases C.2.2.2.2.1.2.1 c hc1 with z | z
    · refine ⟨0, fun post hp => br_f q1 (br_t q2 (And.intro hv ?_)), fun post hp => br_f q1 (br_f (nI_ge hc1 (by omega)) (And.intro hv (br_t (hcl.trans z) hp)))⟩
      rw [hcl, z]
      exact And.intro rfl hp
    · refine ⟨1, fun post hp => br_f q1 (br_t q2 (And.intro hv ?_)), fun post hp => br_f q1 (br_f (nI_ge hc1 (by omega)) (And.intro hv (br_f (by rw [hcl, z]; decide) hp)))⟩
      rw [hcl, z]
      exact And.intro rfl hp
  · rcases tf_nin (show w < 2 ^ 31 by omega) hin with z | ⟨z, z2⟩
    · exact ⟨0, fun post hp => br_t z hp, fun post hp => br_t z hp⟩
    · exact ⟨0, fun post hp => br_f z (br_f z2 hp), fun post hp => br_f z (br_t (Int32.not_lt.mp z2) hp)⟩
theorem tq_wn20 (C : (tf_C md mr mu mf ll d 0 w n os cd hc oh od op co oy onm li nm kd im ad st we wo oo ol ao ap tk gv io ia ik iv ow ck ci ox oz)) (x : Int32) : ∃ r : Int64, (∀ post : Int64 → Prop, post r → wX_wordName_20 post x k1 k2 k3 k4 k5 k6 k7 k8 k9 (nI md) (nI mr) (nI mu) (nI mf) (nI ll) (nI 0) tS tE tN (nI d) (nI 0) (nI w) en (nI n) op co onm (nI os) (nI cd) (nI hc) (nI oh) (nI od) cu (nI fu) (-1) ie (-1) ab re li da rk ra rb rc nm kd ls im sr st we ad wo tk gv io ia ck ci ce ou ox) ∧ (∀ post : Int64 → Prop, post r → wY_wordName_20 post x (nI md) (nI mr) (nI mu) (nI mf) (nI ll) (nI lp) sv (nI d) (nI 0) (nI w) en (nI n) (nI hc) (nI od) cu oy onm (nI cd) (nI oh) (nI fv) y3 y4 y5 li da yk ya yb nm kd ls im sr ad oo ol ao ap ik iv ow ce oz ck ou) := by
  have hB := C.1
  unfold tf_B at hB
  by_cases hin : tf_in w x
  · have hi := hin
    obtain ⟨c, hc1, rfl⟩ := hin
    obtain ⟨q1, q2, _⟩ := tf_in_lt (by omega) hi
    refine ⟨nm c, fun post hp => br_f q1 (br_t q2 (And.intro (vp_in_nI (by omega) (by omega)) ?_)), fun post hp => br_f q1 (br_t q2 (And.intro (vp_in_nI (by omega) (by omega)) ?_))⟩
    · rw [nI_clamp (show c < 2 ^ 31 by omega)]; exact hp
    · rw [nI_clamp (show c < 2 ^ 31 by omega)]; exact hp
  · rcases tf_nin (show w < 2 ^ 31 by omega) hin with z | ⟨z, z2⟩
    · exact ⟨0, fun post hp => br_t z hp, fun post hp => br_t z hp⟩
    · exact ⟨0, fun post hp => br_f z (br_f z2 hp), fun post hp => br_f z (br_f z2 hp)⟩
theorem tq_wordName (C : (tf_C md mr mu mf ll d 0 w n os cd hc oh od op co oy onm li nm kd im ad st we wo oo ol ao ap tk gv io ia ik iv ow ck ci ox oz)) (x : Int32) : tf_QO (α := Int64) (fun post u => wpX_wordName post u x) (fun post v => wpY_wordName post v x) (k1, k2, k3, k4, k5, k6, k7, k8, k9, (nI md), (nI mr), (nI mu), (nI mf), (nI ll), (nI 0), tS, tE, tN, (nI d), (nI 0), (nI w), en, (nI n), op, co, onm, (nI os), (nI cd), (nI hc), (nI oh), (nI od), cu, (nI fu), (-1), ie, (-1), ab, re, li, da, rk, ra, rb, rc, nm, kd, ls, im, sr, st, we, ad, wo, tk, gv, io, ia, ck, ci, ce, ou, ox) ((nI md), (nI mr), (nI mu), (nI mf), (nI ll), (nI lp), sv, (nI d), (nI 0), (nI w), en, (nI n), (nI hc), (nI od), cu, oy, onm, (nI cd), (nI oh), (nI fv), y3, y4, y5, li, da, yk, ya, yb, nm, kd, ls, im, sr, ad, oo, ol, ao, ap, ik, iv, ow, ce, oz, ck, ou) := by
  obtain ⟨r', h1, h2⟩ := tq_wn20 (fv := fv) (y3 := y3) (y4 := y4) (y5 := y5) (k1 := k1) (k2 := k2) (k3 := k3) (k4 := k4) (k5 := k5) (k6 := k6) (k7 := k7) (k8 := k8) (k9 := k9) (lp := lp) (tS := tS) (tE := tE) (tN := tN) (en := en) (cu := cu) (fu := fu) (ie := ie) (ab := ab) (re := re) (sv := sv) (da := da) (rk := rk) (ra := ra) (rb := rb) (rc := rc) (ls := ls) (sr := sr) (ce := ce) (ou := ou) (yk := yk) (ya := ya) (yb := yb) C x
  by_cases hw : x = nI w
  · rcases tf_opc C with ⟨o1, o2, _⟩ | ⟨o1, o2, _⟩
    · exact ⟨r', fun post hp => br_t hw (br_t o1 (h1 post hp)), fun post hp => br_t hw (br_t o2 (h2 post hp))⟩
    · have hne : ¬ oy = 0 := by
        rcases o2 with ⟨_, o2⟩ | ⟨_, o2⟩ <;> rw [o2] <;> decide
      exact ⟨onm, fun post hp => br_t hw (br_f (by rw [o1]; decide) hp), fun post hp => br_t hw (br_f hne hp)⟩
  · exact ⟨r', fun post hp => br_f hw (h1 post hp), fun post hp => br_f hw (h2 post hp)⟩
theorem tq_state (C : (tf_C md mr mu mf ll d 0 w n os cd hc oh od op co oy onm li nm kd im ad st we wo oo ol ao ap tk gv io ia ik iv ow ck ci ox oz)) : tf_QO (α := Int32) (fun post u => wpX_state post u) (fun post v => wpY_state post v) (k1, k2, k3, k4, k5, k6, k7, k8, k9, (nI md), (nI mr), (nI mu), (nI mf), (nI ll), (nI 0), tS, tE, tN, (nI d), (nI 0), (nI w), en, (nI n), op, co, onm, (nI os), (nI cd), (nI hc), (nI oh), (nI od), cu, (nI fu), (-1), ie, (-1), ab, re, li, da, rk, ra, rb, rc, nm, kd, ls, im, sr, st, we, ad, wo, tk, gv, io, ia, ck, ci, ce, ou, ox) ((nI md), (nI mr), (nI mu), (nI mf), (nI ll), (nI lp), sv, (nI d), (nI 0), (nI w), en, (nI n), (nI hc), (nI od), cu, oy, onm, (nI cd), (nI oh), (nI fv), y3, y4, y5, li, da, yk, ya, yb, nm, kd, ls, im, sr, ad, oo, ol, ao, ap, ik, iv, ow, ce, oz, ck, ou) := by
  rcases tf_opc C with ⟨o1, o2, _⟩ | ⟨o1, o2 | o2, _⟩
  · exact ⟨oy, fun post hp => br_t o1 (by rw [o2] at hp; exact hp), fun post hp => hp⟩
  · exact ⟨oy, fun post hp => br_f (by rw [o1]; decide) (br_t o2.1 (by rw [o2.2] at hp; exact hp)), fun post hp => hp⟩
  · exact ⟨oy, fun post hp => br_f (by rw [o1]; decide) (br_f (by rw [o2.1]; decide) (by rw [o2.2] at hp; exact hp)), fun post hp => hp⟩
theorem tq_controlDepth (C : (tf_C md mr mu mf ll d 0 w n os cd hc oh od op co oy onm li nm kd im ad st we wo oo ol ao ap tk gv io ia ik iv ow ck ci ox oz)) : tf_QO (α := Int32) (fun post u => wpX_controlDepth post u) (fun post v => wpY_controlDepth post v) (k1, k2, k3, k4, k5, k6, k7, k8, k9, (nI md), (nI mr), (nI mu), (nI mf), (nI ll), (nI 0), tS, tE, tN, (nI d), (nI 0), (nI w), en, (nI n), op, co, onm, (nI os), (nI cd), (nI hc), (nI oh), (nI od), cu, (nI fu), (-1), ie, (-1), ab, re, li, da, rk, ra, rb, rc, nm, kd, ls, im, sr, st, we, ad, wo, tk, gv, io, ia, ck, ci, ce, ou, ox) ((nI md), (nI mr), (nI mu), (nI mf), (nI ll), (nI lp), sv, (nI d), (nI 0), (nI w), en, (nI n), (nI hc), (nI od), cu, oy, onm, (nI cd), (nI oh), (nI fv), y3, y4, y5, li, da, yk, ya, yb, nm, kd, ls, im, sr, ad, oo, ol, ao, ap, ik, iv, ow, ce, oz, ck, ou) := by
  rcases tf_opc C with ⟨o1, _, o3, _⟩ | ⟨o1, _⟩
  · exact ⟨nI cd, fun post hp => br_t o1 (by rw [o3] at hp; exact hp), fun post hp => hp⟩
  · exact ⟨nI cd, fun post hp => br_f (by rw [o1]; decide) hp, fun post hp => hp⟩
end
end
section
/-! what is owed -/
/-- the relation at the head of a turn -/
def i_Rel (k : Nat) (u : SX) (v : SY) : Prop := tf_TR u v
theorem i_up {k : Nat} {u : SX} {v : SY} (h : i_Rel k u v) : i_Rel (k + 5) u v := h
theorem i_vc0 (k0 : Int32) (k1 : Int32) (k2 : Int32) (k3 : Int32) : wpX_init (fun u => wpY_init (fun v => i_Rel 4 u v) k0 k1 k2 k3) k0 k1 k2 k3 := by
  obtain ⟨md, a1, a2, a3, a4⟩ := tf_clx k0 4 32 (by omega) (by omega)
  obtain ⟨mr, b1, b2, b3, b4⟩ := tf_clx k1 2 32 (by omega) (by omega)
  obtain ⟨mu, c1, c2, c3, c4⟩ := tf_clx k2 1 24 (by omega) (by omega)
  obtain ⟨mf, d1, d2, d3, d4⟩ := tf_clx k3 1 100 (by omega) (by omega)
  unfold wpX_init
  refine a3 _ _ ?_
  refine b3 _ _ ?_
  refine c3 _ _ ?_
  refine d3 _ _ ?_
  show wpX_definePlainWords _ (0, 1, 2, 1, 2, 3, 4, (-1), (-2), (nI md), (nI mr), (nI mu), (nI mf), (nI 0), (nI 0), 0, 0, 0, (nI 0), (nI 0), (nI 51), 0, (nI 0), 0, 0, 0, (nI 0), (nI 0), (nI 0), (nI 0), (nI 1), 0, (nI 0), (-1), 0, (-1), 0, 0, (fun _ => 0), (fun _ => 0), (fun _ => 0), (fun _ => 0), (fun _ => 0), (fun _ => 0), (fun _ => 0), (fun _ => 0), (fun _ => 0), (fun _ => 0), (fun _ => 0), (fun _ => 0), (fun _ => 0), (fun _ => 0), (fun _ => 0), (fun _ => 0), (fun _ => 0), (fun _ => 0), (fun _ => 0), (fun _ => 0), (fun _ => 0), (fun _ => 0), (fun _ => 0), (fun _ => 0))
  refine tx_plain ?_
  refine tx_system ?_
  refine tx_immed ?_
  show wpY_init (fun v => i_Rel 4 (0, 1, 2, 1, 2, 3, 4, (-1), (-2), (nI md), (nI mr), (nI mu), (nI mf), (nI 0), (nI 0), 0, 0, 0, (nI 0), (nI 0), (nI 51), 0, (nI 0), 0, 0, 0, (nI 0), (nI 0), (nI 0), (nI 0), (nI 1), 0, (nI 0), (-1), 0, (-1), 0, 0, (fun _ => 0), (fun _ => 0), (fun _ => 0), (fun _ => 0), (fun _ => 0), (fun _ => 0), tf_nx, (fun _ => 0), (fun _ => 0), (tf_im 51), (fun _ => 0), (fun _ => 0), (fun _ => 0), (fun _ => 0), (fun _ => 0), (tf_ut tf_lt (fun _ => 0)), (tf_ut tf_lg (fun _ => 0)), (fun _ => 0), (fun _ => 0), (fun _ => 0), (fun _ => 0), (fun _ => 0), (fun _ => 0), (fun _ => 0)) v) k0 k1 k2 k3
  unfold wpY_init
  refine a4 _ _ ?_
  refine b4 _ _ ?_
  refine c4 _ _ ?_
  refine d4 _ _ ?_
  show ∃ n245 : Nat, wY_init_245 _ (nI md) (nI mr) (nI mu) (nI mf) (nI 0) (nI 0) 0 (nI 0) (nI 0) (nI 51) 0 (nI 0) (nI 0) (nI 1) 0 0 0 (nI 0) (nI 0) (nI 0) 0 0 0 n245 (nI 34) (fun _ => 0) (fun _ => 0) (fun _ => 0) (fun _ => 0) (fun _ => 0) (fun _ => 0) (fun _ => 0) (fun _ => 0) (fun _ => 0) (fun _ => 0) (fun _ => 0) (fun _ => 0) (fun _ => 0) (fun _ => 0) (fun _ => 0) (fun _ => 0) (fun _ => 0) (fun _ => 0) (fun _ => 0) (fun _ => 0) (fun _ => 0) (fun _ => 0)
  refine Exists.intro 18 ?_
  refine ty_i0 ?_
  show tf_TR (0, 1, 2, 1, 2, 3, 4, (-1), (-2), (nI md), (nI mr), (nI mu), (nI mf), (nI 0), (nI 0), 0, 0, 0, (nI 0), (nI 0), (nI 51), 0, (nI 0), 0, 0, 0, (nI 0), (nI 0), (nI 0), (nI 0), (nI 1), 0, (nI 0), (-1), 0, (-1), 0, 0, (fun _ => 0), (fun _ => 0), (fun _ => 0), (fun _ => 0), (fun _ => 0), (fun _ => 0), tf_nx, (fun _ => 0), (fun _ => 0), (tf_im 51), (fun _ => 0), (fun _ => 0), (fun _ => 0), (fun _ => 0), (fun _ => 0), (tf_ut tf_lt (fun _ => 0)), (tf_ut tf_lg (fun _ => 0)), (fun _ => 0), (fun _ => 0), (fun _ => 0), (fun _ => 0), (fun _ => 0), (fun _ => 0), (fun _ => 0)) ((nI md), (nI mr), (nI mu), (nI mf), (nI 0), (nI 0), 0, (nI 0), (nI 0), (nI 51), 0, (nI 0), (nI 0), (nI 1), 0, 0, 0, (nI 0), (nI 0), (nI 0), 0, 0, 0, (fun _ => 0), (fun _ => 0), (fun _ => 0), (fun _ => 0), (fun _ => 0), tf_ny, (fun _ => 0), (fun _ => 0), (tf_im 51), (fun _ => 0), (fun _ => 0), (fun _ => 0), (fun _ => 0), (fun _ => 0), (fun _ => 0), (fun _ => 0), (fun _ => 0), (fun _ => 0), (fun _ => 0), (fun _ => 0), (fun _ => 0), (fun _ => 0))
  rw [← tf_nxy]
  exact tf_TR_in (lp := 0) (fv := 0) (tf_C_init ⟨a1, a2⟩ ⟨b1, b2⟩ ⟨c1, c2⟩ ⟨d1, d2⟩)
theorem tf_MO_use {fX : (Int32 → SX → Prop) → SX → Prop} {fY : (Int32 → SY → Prop) → SY → Prop} {k : Nat} {u : SX} {v : SY} (h : tf_MO fX fY u v) : fX (fun r u' => fY (fun r' v' => r' = r ∧ i_Rel k u' v') v) u := by
  obtain ⟨r, u', v', h1, h2, h3⟩ := h
  exact h2 _ (h3 _ ⟨rfl, h1⟩)
theorem i_vc_feed {k : Nat} {u : SX} {v : SY} (I : i_Rel k u v) (hk : k + 5 ≤ 2564) (v1 : Int32) : wpX_feed (fun r u' => wpY_feed (fun r' v' => r' = r ∧ i_Rel (k + 5) u' v') v v1) u v1 :=
  tf_MO_use (tf_TR_el (P := fun u v => tf_MO (fun post u => wpX_feed post u v1) (fun post v => wpY_feed post v v1) u v) (by intro fv y3 y4 y5 md mr mu mf ll lp d r w n os cd hc oh od fu k1 k2 k3 k4 k5 k6 k7 k8 k9 tS tE en op co cu ip ie pe ab re oy sv tN onm li da rk ra rb rc kd ls im sr st we ad wo tk gv io ia ck ci ce ou ox yk ya yb oo ol ao ap ik iv ow oz nm C; exact tm_feed C v1) I)
theorem i_vc_text {k : Nat} {u : SX} {v : SY} (I : i_Rel k u v) (hk : k + 5 ≤ 2564) (a0 : Int64) (a1 : Int64) : wpX_text (fun r u' => wpY_text (fun r' v' => r' = r ∧ i_Rel (k + 5) u' v') v a0 a1) u a0 a1 :=
  tf_MO_use (tf_TR_el (P := fun u v => tf_MO (fun post u => wpX_text post u a0 a1) (fun post v => wpY_text post v a0 a1) u v) (by intro fv y3 y4 y5 md mr mu mf ll lp d r w n os cd hc oh od fu k1 k2 k3 k4 k5 k6 k7 k8 k9 tS tE en op co cu ip ie pe ab re oy sv tN onm li da rk ra rb rc kd ls im sr st we ad wo tk gv io ia ck ci ce ou ox yk ya yb oo ol ao ap ik iv ow oz nm C; exact tm_text C a0 a1) I)
theorem i_vc_word {k : Nat} {u : SX} {v : SY} (I : i_Rel k u v) (hk : k + 5 ≤ 2564) (v1 : Int32) : wpX_word (fun r u' => wpY_word (fun r' v' => r' = r ∧ i_Rel (k + 5) u' v') v v1) u v1 :=
  tf_MO_use (tf_TR_el (P := fun u v => tf_MO (fun post u => wpX_word post u v1) (fun post v => wpY_word post v v1) u v) (by intro fv y3 y4 y5 md mr mu mf ll lp d r w n os cd hc oh od fu k1 k2 k3 k4 k5 k6 k7 k8 k9 tS tE en op co cu ip ie pe ab re oy sv tN onm li da rk ra rb rc kd ls im sr st we ad wo tk gv io ia ck ci ce ou ox yk ya yb oo ol ao ap ik iv ow oz nm C; exact tm_word C v1) I)
theorem i_vc_number {k : Nat} {u : SX} {v : SY} (I : i_Rel k u v) (hk : k + 5 ≤ 2564) (v1 : Int32) : wpX_number (fun r u' => wpY_number (fun r' v' => r' = r ∧ i_Rel (k + 5) u' v') v v1) u v1 :=
  tf_MO_use (tf_TR_el (P := fun u v => tf_MO (fun post u => wpX_number post u v1) (fun post v => wpY_number post v v1) u v) (by intro fv y3 y4 y5 md mr mu mf ll lp d r w n os cd hc oh od fu k1 k2 k3 k4 k5 k6 k7 k8 k9 tS tE en op co cu ip ie pe ab re oy sv tN onm li da rk ra rb rc kd ls im sr st we ad wo tk gv io ia ck ci ce ou ox yk ya yb oo ol ao ap ik iv ow oz nm C; exact tm_number C v1) I)
theorem i_vc_letter {k : Nat} {u : SX} {v : SY} (I : i_Rel k u v) (hk : k + 5 ≤ 2564) (v1 : Int32) : wpX_letter (fun r u' => wpY_letter (fun r' v' => r' = r ∧ i_Rel (k + 5) u' v') v v1) u v1 :=
  tf_MO_use (tf_TR_el (P := fun u v => tf_MO (fun post u => wpX_letter post u v1) (fun post v => wpY_letter post v v1) u v) (by intro fv y3 y4 y5 md mr mu mf ll lp d r w n os cd hc oh od fu k1 k2 k3 k4 k5 k6 k7 k8 k9 tS tE en op co cu ip ie pe ab re oy sv tN onm li da rk ra rb rc kd ls im sr st we ad wo tk gv io ia ck ci ce ou ox yk ya yb oo ol ao ap ik iv ow oz nm C; exact tm_letter C v1) I)
theorem i_vc_interpret {k : Nat} {u : SX} {v : SY} (I : i_Rel k u v) (hk : k + 5 ≤ 2564) : wpX_interpret (fun r u' => wpY_interpret (fun r' v' => r' = r ∧ i_Rel (k + 5) u' v') v) u :=
  tf_MO_use (tf_TR_el (P := fun u v => tf_MO (fun post u => wpX_interpret post u) (fun post v => wpY_interpret post v) u v) (by intro fv y3 y4 y5 md mr mu mf ll lp d r w n os cd hc oh od fu k1 k2 k3 k4 k5 k6 k7 k8 k9 tS tE en op co cu ip ie pe ab re oy sv tN onm li da rk ra rb rc kd ls im sr st we ad wo tk gv io ia ck ci ce ou ox yk ya yb oo ol ao ap ik iv ow oz nm C; exact tm_interpret C) I)
theorem tf_QO_use {α : Type} {fX : (α → Prop) → SX → Prop} {fY : (α → Prop) → SY → Prop} {k : Nat} {u : SX} {v : SY} (I : i_Rel k u v) (h : tf_QO fX fY u v) : fX (fun r => fY (fun r' => r' = r ∧ i_Rel (k + 5) u v) v) u := by
  obtain ⟨r, h2, h3⟩ := h
  exact h2 _ (h3 _ ⟨rfl, I⟩)
theorem i_vc_depth {k : Nat} {u : SX} {v : SY} (I : i_Rel k u v) (hk : k + 5 ≤ 2564) : wpX_depth (fun r => wpY_depth (fun r' => r' = r ∧ i_Rel (k + 5) u v) v) u :=
  tf_QO_use I (tf_TR_el (P := fun u v => tf_QO (α := Int32) (fun post u => wpX_depth post u) (fun post v => wpY_depth post v) u v) (by intro fv y3 y4 y5 md mr mu mf ll lp d r w n os cd hc oh od fu k1 k2 k3 k4 k5 k6 k7 k8 k9 tS tE en op co cu ip ie pe ab re oy sv tN onm li da rk ra rb rc kd ls im sr st we ad wo tk gv io ia ck ci ce ou ox yk ya yb oo ol ao ap ik iv ow oz nm C; exact tq_depth C) I)
theorem i_vc_stack {k : Nat} {u : SX} {v : SY} (I : i_Rel k u v) (hk : k + 5 ≤ 2564) (v1 : Int32) : wpX_stack (fun r => wpY_stack (fun r' => r' = r ∧ i_Rel (k + 5) u v) v v1) u v1 :=
  tf_QO_use I (tf_TR_el (P := fun u v => tf_QO (α := Int32) (fun post u => wpX_stack post u v1) (fun post v => wpY_stack post v v1) u v) (by intro fv y3 y4 y5 md mr mu mf ll lp d r w n os cd hc oh od fu k1 k2 k3 k4 k5 k6 k7 k8 k9 tS tE en op co cu ip ie pe ab re oy sv tN onm li da rk ra rb rc kd ls im sr st we ad wo tk gv io ia ck ci ce ou ox yk ya yb oo ol ao ap ik iv ow oz nm C; exact tq_stack C v1) I)
theorem i_vc_outCount {k : Nat} {u : SX} {v : SY} (I : i_Rel k u v) (hk : k + 5 ≤ 2564) : wpX_outCount (fun r => wpY_outCount (fun r' => r' = r ∧ i_Rel (k + 5) u v) v) u :=
  tf_QO_use I (tf_TR_el (P := fun u v => tf_QO (α := Int32) (fun post u => wpX_outCount post u) (fun post v => wpY_outCount post v) u v) (by intro fv y3 y4 y5 md mr mu mf ll lp d r w n os cd hc oh od fu k1 k2 k3 k4 k5 k6 k7 k8 k9 tS tE en op co cu ip ie pe ab re oy sv tN onm li da rk ra rb rc kd ls im sr st we ad wo tk gv io ia ck ci ce ou ox yk ya yb oo ol ao ap ik iv ow oz nm C; exact tq_outCount C) I)
theorem i_vc_out {k : Nat} {u : SX} {v : SY} (I : i_Rel k u v) (hk : k + 5 ≤ 2564) (v1 : Int32) : wpX_out (fun r => wpY_out (fun r' => r' = r ∧ i_Rel (k + 5) u v) v v1) u v1 :=
  tf_QO_use I (tf_TR_el (P := fun u v => tf_QO (α := Int32) (fun post u => wpX_out post u v1) (fun post v => wpY_out post v v1) u v) (by intro fv y3 y4 y5 md mr mu mf ll lp d r w n os cd hc oh od fu k1 k2 k3 k4 k5 k6 k7 k8 k9 tS tE en op co cu ip ie pe ab re oy sv tN onm li da rk ra rb rc kd ls im sr st we ad wo tk gv io ia ck ci ce ou ox yk ya yb oo ol ao ap ik iv ow oz nm C; exact tq_out C v1) I)
theorem i_vc_wordCount {k : Nat} {u : SX} {v : SY} (I : i_Rel k u v) (hk : k + 5 ≤ 2564) : wpX_wordCount (fun r => wpY_wordCount (fun r' => r' = r ∧ i_Rel (k + 5) u v) v) u :=
  tf_QO_use I (tf_TR_el (P := fun u v => tf_QO (α := Int32) (fun post u => wpX_wordCount post u) (fun post v => wpY_wordCount post v) u v) (by intro fv y3 y4 y5 md mr mu mf ll lp d r w n os cd hc oh od fu k1 k2 k3 k4 k5 k6 k7 k8 k9 tS tE en op co cu ip ie pe ab re oy sv tN onm li da rk ra rb rc kd ls im sr st we ad wo tk gv io ia ck ci ce ou ox yk ya yb oo ol ao ap ik iv ow oz nm C; exact tq_wordCount C) I)
theorem i_vc_wordName {k : Nat} {u : SX} {v : SY} (I : i_Rel k u v) (hk : k + 5 ≤ 2564) (v1 : Int32) : wpX_wordName (fun r => wpY_wordName (fun r' => r' = r ∧ i_Rel (k + 5) u v) v v1) u v1 :=
  tf_QO_use I (tf_TR_el (P := fun u v => tf_QO (α := Int64) (fun post u => wpX_wordName post u v1) (fun post v => wpY_wordName post v v1) u v) (by intro fv y3 y4 y5 md mr mu mf ll lp d r w n os cd hc oh od fu k1 k2 k3 k4 k5 k6 k7 k8 k9 tS tE en op co cu ip ie pe ab re oy sv tN onm li da rk ra rb rc kd ls im sr st we ad wo tk gv io ia ck ci ce ou ox yk ya yb oo ol ao ap ik iv ow oz nm C; exact tq_wordName C v1) I)
theorem i_vc_wordKind {k : Nat} {u : SX} {v : SY} (I : i_Rel k u v) (hk : k + 5 ≤ 2564) (v1 : Int32) : wpX_wordKind (fun r => wpY_wordKind (fun r' => r' = r ∧ i_Rel (k + 5) u v) v v1) u v1 :=
  tf_QO_use I (tf_TR_el (P := fun u v => tf_QO (α := Int32) (fun post u => wpX_wordKind post u v1) (fun post v => wpY_wordKind post v v1) u v) (by intro fv y3 y4 y5 md mr mu mf ll lp d r w n os cd hc oh od fu k1 k2 k3 k4 k5 k6 k7 k8 k9 tS tE en op co cu ip ie pe ab re oy sv tN onm li da rk ra rb rc kd ls im sr st we ad wo tk gv io ia ck ci ce ou ox yk ya yb oo ol ao ap ik iv ow oz nm C; exact tq_wordKind C v1) I)
theorem i_vc_wordList {k : Nat} {u : SX} {v : SY} (I : i_Rel k u v) (hk : k + 5 ≤ 2564) (v1 : Int32) : wpX_wordList (fun r => wpY_wordList (fun r' => r' = r ∧ i_Rel (k + 5) u v) v v1) u v1 :=
  tf_QO_use I (tf_TR_el (P := fun u v => tf_QO (α := Int32) (fun post u => wpX_wordList post u v1) (fun post v => wpY_wordList post v v1) u v) (by intro fv y3 y4 y5 md mr mu mf ll lp d r w n os cd hc oh od fu k1 k2 k3 k4 k5 k6 k7 k8 k9 tS tE en op co cu ip ie pe ab re oy sv tN onm li da rk ra rb rc kd ls im sr st we ad wo tk gv io ia ck ci ce ou ox yk ya yb oo ol ao ap ik iv ow oz nm C; exact tq_wordList C v1) I)
theorem i_vc_isImmediate {k : Nat} {u : SX} {v : SY} (I : i_Rel k u v) (hk : k + 5 ≤ 2564) (v1 : Int32) : wpX_isImmediate (fun r => wpY_isImmediate (fun r' => r' = r ∧ i_Rel (k + 5) u v) v v1) u v1 :=
  tf_QO_use I (tf_TR_el (P := fun u v => tf_QO (α := Int32) (fun post u => wpX_isImmediate post u v1) (fun post v => wpY_isImmediate post v v1) u v) (by intro fv y3 y4 y5 md mr mu mf ll lp d r w n os cd hc oh od fu k1 k2 k3 k4 k5 k6 k7 k8 k9 tS tE en op co cu ip ie pe ab re oy sv tN onm li da rk ra rb rc kd ls im sr st we ad wo tk gv io ia ck ci ce ou ox yk ya yb oo ol ao ap ik iv ow oz nm C; exact tq_isImmediate C v1) I)
theorem i_vc_wordSerial {k : Nat} {u : SX} {v : SY} (I : i_Rel k u v) (hk : k + 5 ≤ 2564) (v1 : Int32) : wpX_wordSerial (fun r => wpY_wordSerial (fun r' => r' = r ∧ i_Rel (k + 5) u v) v v1) u v1 :=
  tf_QO_use I (tf_TR_el (P := fun u v => tf_QO (α := Int32) (fun post u => wpX_wordSerial post u v1) (fun post v => wpY_wordSerial post v v1) u v) (by intro fv y3 y4 y5 md mr mu mf ll lp d r w n os cd hc oh od fu k1 k2 k3 k4 k5 k6 k7 k8 k9 tS tE en op co cu ip ie pe ab re oy sv tN onm li da rk ra rb rc kd ls im sr st we ad wo tk gv io ia ck ci ce ou ox yk ya yb oo ol ao ap ik iv ow oz nm C; exact tq_wordSerial C v1) I)
theorem i_vc_here {k : Nat} {u : SX} {v : SY} (I : i_Rel k u v) (hk : k + 5 ≤ 2564) : wpX_here (fun r => wpY_here (fun r' => r' = r ∧ i_Rel (k + 5) u v) v) u :=
  tf_QO_use I (tf_TR_el (P := fun u v => tf_QO (α := Int32) (fun post u => wpX_here post u) (fun post v => wpY_here post v) u v) (by intro fv y3 y4 y5 md mr mu mf ll lp d r w n os cd hc oh od fu k1 k2 k3 k4 k5 k6 k7 k8 k9 tS tE en op co cu ip ie pe ab re oy sv tN onm li da rk ra rb rc kd ls im sr st we ad wo tk gv io ia ck ci ce ou ox yk ya yb oo ol ao ap ik iv ow oz nm C; exact tq_here C) I)
theorem i_vc_cell {k : Nat} {u : SX} {v : SY} (I : i_Rel k u v) (hk : k + 5 ≤ 2564) (v1 : Int32) : wpX_cell (fun r => wpY_cell (fun r' => r' = r ∧ i_Rel (k + 5) u v) v v1) u v1 :=
  tf_QO_use I (tf_TR_el (P := fun u v => tf_QO (α := Int32) (fun post u => wpX_cell post u v1) (fun post v => wpY_cell post v v1) u v) (by intro fv y3 y4 y5 md mr mu mf ll lp d r w n os cd hc oh od fu k1 k2 k3 k4 k5 k6 k7 k8 k9 tS tE en op co cu ip ie pe ab re oy sv tN onm li da rk ra rb rc kd ls im sr st we ad wo tk gv io ia ck ci ce ou ox yk ya yb oo ol ao ap ik iv ow oz nm C; exact tq_cell C v1) I)
theorem i_vc_orderAt {k : Nat} {u : SX} {v : SY} (I : i_Rel k u v) (hk : k + 5 ≤ 2564) (v1 : Int32) : wpX_orderAt (fun r => wpY_orderAt (fun r' => r' = r ∧ i_Rel (k + 5) u v) v v1) u v1 :=
  tf_QO_use I (tf_TR_el (P := fun u v => tf_QO (α := Int32) (fun post u => wpX_orderAt post u v1) (fun post v => wpY_orderAt post v v1) u v) (by intro fv y3 y4 y5 md mr mu mf ll lp d r w n os cd hc oh od fu k1 k2 k3 k4 k5 k6 k7 k8 k9 tS tE en op co cu ip ie pe ab re oy sv tN onm li da rk ra rb rc kd ls im sr st we ad wo tk gv io ia ck ci ce ou ox yk ya yb oo ol ao ap ik iv ow oz nm C; exact tq_orderAt C v1) I)
theorem i_vc_current {k : Nat} {u : SX} {v : SY} (I : i_Rel k u v) (hk : k + 5 ≤ 2564) : wpX_current (fun r => wpY_current (fun r' => r' = r ∧ i_Rel (k + 5) u v) v) u :=
  tf_QO_use I (tf_TR_el (P := fun u v => tf_QO (α := Int32) (fun post u => wpX_current post u) (fun post v => wpY_current post v) u v) (by intro fv y3 y4 y5 md mr mu mf ll lp d r w n os cd hc oh od fu k1 k2 k3 k4 k5 k6 k7 k8 k9 tS tE en op co cu ip ie pe ab re oy sv tN onm li da rk ra rb rc kd ls im sr st we ad wo tk gv io ia ck ci ce ou ox yk ya yb oo ol ao ap ik iv ow oz nm C; exact tq_current C) I)
theorem i_vc_state {k : Nat} {u : SX} {v : SY} (I : i_Rel k u v) (hk : k + 5 ≤ 2564) : wpX_state (fun r => wpY_state (fun r' => r' = r ∧ i_Rel (k + 5) u v) v) u :=
  tf_QO_use I (tf_TR_el (P := fun u v => tf_QO (α := Int32) (fun post u => wpX_state post u) (fun post v => wpY_state post v) u v) (by intro fv y3 y4 y5 md mr mu mf ll lp d r w n os cd hc oh od fu k1 k2 k3 k4 k5 k6 k7 k8 k9 tS tE en op co cu ip ie pe ab re oy sv tN onm li da rk ra rb rc kd ls im sr st we ad wo tk gv io ia ck ci ce ou ox yk ya yb oo ol ao ap ik iv ow oz nm C; exact tq_state C) I)
theorem i_vc_controlDepth {k : Nat} {u : SX} {v : SY} (I : i_Rel k u v) (hk : k + 5 ≤ 2564) : wpX_controlDepth (fun r => wpY_controlDepth (fun r' => r' = r ∧ i_Rel (k + 5) u v) v) u :=
  tf_QO_use I (tf_TR_el (P := fun u v => tf_QO (α := Int32) (fun post u => wpX_controlDepth post u) (fun post v => wpY_controlDepth post v) u v) (by intro fv y3 y4 y5 md mr mu mf ll lp d r w n os cd hc oh od fu k1 k2 k3 k4 k5 k6 k7 k8 k9 tS tE en op co cu ip ie pe ab re oy sv tN onm li da rk ra rb rc kd ls im sr st we ad wo tk gv io ia ck ci ce ou ox yk ya yb oo ol ao ap ik iv ow oz nm C; exact tq_controlDepth C) I)
theorem i_vc_itemsUsed {k : Nat} {u : SX} {v : SY} (I : i_Rel k u v) (hk : k + 5 ≤ 2564) : wpX_itemsUsed (fun r => wpY_itemsUsed (fun r' => r' = r ∧ i_Rel (k + 5) u v) v) u :=
  tf_QO_use I (tf_TR_el (P := fun u v => tf_QO (α := Int32) (fun post u => wpX_itemsUsed post u) (fun post v => wpY_itemsUsed post v) u v) (by intro fv y3 y4 y5 md mr mu mf ll lp d r w n os cd hc oh od fu k1 k2 k3 k4 k5 k6 k7 k8 k9 tS tE en op co cu ip ie pe ab re oy sv tN onm li da rk ra rb rc kd ls im sr st we ad wo tk gv io ia ck ci ce ou ox yk ya yb oo ol ao ap ik iv ow oz nm C; exact tq_itemsUsed C) I)
theorem i_vc_lineChar {k : Nat} {u : SX} {v : SY} (I : i_Rel k u v) (hk : k + 5 ≤ 2564) (v1 : Int32) : wpX_lineChar (fun r => wpY_lineChar (fun r' => r' = r ∧ i_Rel (k + 5) u v) v v1) u v1 :=
  tf_QO_use I (tf_TR_el (P := fun u v => tf_QO (α := Int32) (fun post u => wpX_lineChar post u v1) (fun post v => wpY_lineChar post v v1) u v) (by intro fv y3 y4 y5 md mr mu mf ll lp d r w n os cd hc oh od fu k1 k2 k3 k4 k5 k6 k7 k8 k9 tS tE en op co cu ip ie pe ab re oy sv tN onm li da rk ra rb rc kd ls im sr st we ad wo tk gv io ia ck ci ce ou ox yk ya yb oo ol ao ap ik iv ow oz nm C; exact tq_lineChar C v1) I)
end

section
/-! pure rows to paste: stores, nI and lN arithmetic, masks, shifts, narrowing, branches by naturals (pk_le, pk_lt, pk_eq), loops (lp1 .. lp16: the measure of the state; rp1 ..: recursion), negatives. Take what you need -/
theorem pk_us {f : Nat → Int32} {k : Nat} {x : Int32} : upd f k x k = x := if_pos rfl
theorem pk_un {f : Nat → Int32} {k j : Nat} {x : Int32} (h : j ≠ k) : upd f k x j = f j := if_neg h
theorem pk_uLs {f : Nat → Int64} {k : Nat} {x : Int64} : vp_updL f k x k = x := if_pos rfl
theorem pk_uLn {f : Nat → Int64} {k j : Nat} {x : Int64} (h : j ≠ k) : vp_updL f k x j = f j := if_neg h
theorem pk_sub {a b : Nat} (h : b ≤ a) : nI a - nI b = nI (a - b) := by
  obtain ⟨c, rfl⟩ : ∃ c, a = c + b := ⟨a - b, by omega⟩
  rw [← nI_add, Int32.add_sub_cancel, Nat.add_sub_cancel]
theorem pk_m1 (n : Nat) : nI (n + 1) + (-1) = nI n := by
  rw [← nI_1, Int32.add_assoc, show (1 : Int32) + (-1) = 0 from rfl, Int32.add_zero]
theorem pk_mul (a b : Nat) : nI a * nI b = nI (a * b) := (Int32.ofNat_mul a b).symm
theorem pk_div {a d : Nat} (ha : a < 2 ^ 31) (h0 : 0 < d) (hd : d < 2 ^ 31) : nI a / nI d = nI (a / d) := by
  apply Int32.toInt_inj.mp
  rw [lg_idiv_nonneg (by rw [nI_toInt ha]; omega) (by rw [nI_toInt hd]; omega), nI_toInt ha, nI_toInt hd, nI_toInt (Nat.lt_of_le_of_lt (Nat.div_le_self a d) ha)]
  first | rfl | exact (Int.natCast_ediv _ _).symm
theorem pk_rem {a d : Nat} (ha : a < 2 ^ 31) (h0 : 0 < d) (hd : d < 2 ^ 31) : nI a - nI a / nI d * nI d = nI (a % d) := by
  rw [pk_div ha h0 hd, pk_mul, pk_sub (Nat.div_mul_le_self a d)]
  exact congrArg nI (by have := Nat.div_add_mod' a d; omega)
theorem pk_sub_toInt {a b : Nat} (ha : a < 2 ^ 30) (hb : b < 2 ^ 30) : (nI a - nI b).toInt = (a : Int) - b := by
  rw [Int32.toInt_sub, nI_toInt (by omega), nI_toInt (by omega)]
  exact Int.bmod_eq_of_le (by omega) (by omega)
theorem pk_sneg {a b : Nat} (hb : b < 2 ^ 30) (h : a < b) : nI a - nI b < 0 := by
  rw [Int32.lt_iff_toInt_lt, pk_sub_toInt (by omega) hb, show (0 : Int32).toInt = 0 from by decide]
  omega
theorem pk_ix (x : Int32) {n : Nat} (hn : n < 2 ^ 31) : x < 0 ∨ nI n ≤ x ∨ ∃ j : Nat, j < n ∧ x = nI j := by
  by_cases h : x < 0
  · exact Or.inl h
  · obtain ⟨j, hj, rfl⟩ := nI_of h
    by_cases h2 : j < n
    · exact Or.inr (Or.inr ⟨j, h2, rfl⟩)
    · exact Or.inr (Or.inl (nI_le (by omega) hj))
theorem pk_le {x y : Int32} {A B : Prop} (a b : Nat) (f : a ≤ b → A) (g : b < a → B) (hx : x = nI a := by rfl) (hy : y = nI b := by rfl) (ha : a < 2 ^ 31 := by omega) (hb : b < 2 ^ 31 := by omega) : (x ≤ y → A) ∧ (¬ x ≤ y → B) := by
  subst hx hy
  rw [nI_leI ha hb]
  exact ⟨f, fun z => g (by omega)⟩
theorem pk_lt {x y : Int32} {A B : Prop} (a b : Nat) (f : a < b → A) (g : b ≤ a → B) (hx : x = nI a := by rfl) (hy : y = nI b := by rfl) (ha : a < 2 ^ 31 := by omega) (hb : b < 2 ^ 31 := by omega) : (x < y → A) ∧ (¬ x < y → B) := by
  subst hx hy
  rw [nI_ltI ha hb]
  exact ⟨f, fun z => g (by omega)⟩
theorem pk_eq {x y : Int32} {A B : Prop} (a b : Nat) (f : a = b → A) (g : a ≠ b → B) (hx : x = nI a := by rfl) (hy : y = nI b := by rfl) (ha : a < 2 ^ 31 := by omega) (hb : b < 2 ^ 31 := by omega) : (x = y → A) ∧ (¬ x = y → B) := by
  subst hx hy
  rw [nI_eq ha hb]
  exact ⟨f, g⟩
theorem pk_in {x : Int32} (n N : Nat) (h : n < N) (hx : x = nI n := by rfl) (hN : N < 2 ^ 31 := by omega) : vp_in x N := by
  subst hx
  exact vp_in_nI h hN
theorem pk_cl {x : Int32} (n : Nat) (hx : x = nI n := by rfl) (h : n < 2 ^ 31 := by omega) : x.toNatClampNeg = n := by
  subst hx
  exact nI_clamp h
theorem pk_tn {n : Nat} (h : n < 2 ^ 32) : (nI n).toBitVec.toNat = n := Nat.mod_eq_of_lt h
theorem pk_and (x : Int32) {m : Int32} (k : Nat) (hm : m.toBitVec.toNat = 2 ^ k - 1) : x &&& m = nI (x.toBitVec.toNat % 2 ^ k) := by
  apply Int32.toBitVec_inj.mp
  apply BitVec.eq_of_toNat_eq
  rw [Int32.toBitVec_and, BitVec.toNat_and, hm, Nat.and_two_pow_sub_one_eq_mod]
  show _ = (BitVec.ofNat 32 _).toNat
  rw [BitVec.toNat_ofNat]
  exact (Nat.mod_eq_of_lt (Nat.lt_of_le_of_lt (Nat.mod_le _ _) x.toBitVec.isLt)).symm
theorem pk_andN {n : Nat} (h : n < 2 ^ 32) {m : Int32} (k : Nat) (hm : m.toBitVec.toNat = 2 ^ k - 1) : nI n &&& m = nI (n % 2 ^ k) := by
  rw [pk_and _ k hm, pk_tn h]
theorem pk_andE (x : Int32) {m : Int32} (k : Nat) (hm : m.toBitVec.toNat = 2 ^ k - 1) : ∃ j : Nat, j < 2 ^ k ∧ x &&& m = nI j := ⟨_, Nat.mod_lt _ (Nat.two_pow_pos k), pk_and x k hm⟩
theorem pk_andIn (x : Int32) {m : Int32} (k : Nat) (hm : m.toBitVec.toNat = 2 ^ k - 1) (hk : k ≤ 30) : vp_in (x &&& m) (2 ^ k) := by
  obtain ⟨j, hj, e⟩ := pk_andE x k hm
  rw [e]
  exact vp_in_nI hj (Nat.lt_of_le_of_lt (Nat.pow_le_pow_right (by decide) hk) (by decide))
theorem pk_shl (a s : Int32) (k : Nat) (hs : (s.toBitVec.smod 32).toNat = k) : (a <<< s).toBitVec.toNat = a.toBitVec.toNat * 2 ^ k % 2 ^ 32 := by
  show (a.toBitVec <<< (s.toBitVec.smod 32).toNat).toNat = _
  rw [hs, BitVec.toNat_shiftLeft, Nat.shiftLeft_eq]
theorem pk_shlN {n : Nat} (s : Int32) (k : Nat) (hs : (s.toBitVec.smod 32).toNat = k) (h : n * 2 ^ k < 2 ^ 32) : nI n <<< s = nI (n * 2 ^ k) := by
  apply Int32.toBitVec_inj.mp
  apply BitVec.eq_of_toNat_eq
  have hn : n < 2 ^ 32 := Nat.lt_of_le_of_lt (Nat.le_mul_of_pos_right n (Nat.two_pow_pos k)) h
  rw [pk_shl _ _ k hs, pk_tn hn, pk_tn h, Nat.mod_eq_of_lt h]
theorem pk_shr (a s : Int32) (k : Nat) (hs : (s.toBitVec.smod 32).toNat = k) : (a >>> s).toInt = a.toInt >>> k := by
  show (a.toBitVec.sshiftRight (s.toBitVec.smod 32).toNat).toInt = _
  rw [hs, BitVec.toInt_sshiftRight]
  rfl
theorem pk_shrN {n : Nat} (h : n < 2 ^ 31) (s : Int32) (k : Nat) (hs : (s.toBitVec.smod 32).toNat = k) : nI n >>> s = nI (n / 2 ^ k) := by
  apply Int32.toInt_inj.mp
  have h2 : n / 2 ^ k ≤ n := Nat.div_le_self _ _
  rw [pk_shr _ _ k hs, nI_toInt h, nI_toInt (by omega), Int.shiftRight_eq_div_pow]
  rfl
theorem pk_ushr (x s : Int32) (k : Nat) (hs : ((s.toUInt32 &&& Int32.toUInt32 31).toBitVec % 32).toNat = k) : (x.toUInt32 >>> (s.toUInt32 &&& Int32.toUInt32 31)).toInt32.toBitVec.toNat = x.toBitVec.toNat / 2 ^ k := by
  have e : (x.toUInt32 >>> (s.toUInt32 &&& Int32.toUInt32 31)).toInt32.toBitVec = x.toBitVec >>> k := by
    rw [← hs]
    exact UInt32.toBitVec_shiftRight _ _
  rw [e, BitVec.toNat_ushiftRight, Nat.shiftRight_eq_div_pow]
theorem pk_ushrN {n : Nat} (hn : n < 2 ^ 32) (s : Int32) (k : Nat) (hs : ((s.toUInt32 &&& Int32.toUInt32 31).toBitVec % 32).toNat = k) : ((nI n).toUInt32 >>> (s.toUInt32 &&& Int32.toUInt32 31)).toInt32 = nI (n / 2 ^ k) := by
  apply Int32.toBitVec_inj.mp
  apply BitVec.eq_of_toNat_eq
  rw [pk_ushr _ s k hs, pk_tn hn, pk_tn (Nat.lt_of_le_of_lt (Nat.div_le_self _ _) hn)]
theorem pk_nb (z : Int32) : narrow .byte (.int z.toInt8.toInt32) = .int z.toInt8.toInt32 := congrArg Value.int (by simp)
theorem pk_ns (z : Int32) : narrow .short (.int z.toInt16.toInt32) = .int z.toInt16.toInt32 := congrArg Value.int (by simp)
theorem pk_fb (r : Int32) : fits .byte (.int r.toInt8.toInt32) = true := by
  have ⟨a, b⟩ := lg_i2b_range r
  have h1 : (-128 : Int32).toInt = -128 := by decide
  have h2 : (127 : Int32).toInt = 127 := by decide
  simp only [fits, Bool.and_eq_true, decide_eq_true_eq, Int32.le_iff_toInt_le, h1, h2]
  omega
theorem pk_fs (r : Int32) : fits .short (.int r.toInt16.toInt32) = true := by
  have ⟨a, b⟩ := lg_i2s_range r
  have h1 : (-32768 : Int32).toInt = -32768 := by decide
  have h2 : (32767 : Int32).toInt = 32767 := by decide
  simp only [fits, Bool.and_eq_true, decide_eq_true_eq, Int32.le_iff_toInt_le, h1, h2]
  omega
theorem pk_charN {q : Nat} (hq : q < 65536) : narrow .char (.int (nI q)) = .int (nI q) ∧ fits .char (.int (nI q)) = true := by
  constructor
  · have e : (nI q).toUInt32.toUInt16.toUInt32.toInt32 = nI q := by
      apply Int32.toBitVec_inj.mp
      apply BitVec.eq_of_toNat_eq
      show (nI q).toUInt32.toUInt16.toUInt32.toNat = q % 2 ^ 32
      rw [UInt16.toNat_toUInt32, UInt32.toNat_toUInt16, show (nI q).toUInt32.toNat = q % 2 ^ 32 from rfl]
      omega
    exact congrArg Value.int e
  · have a : (0 : Int32) ≤ nI q := nI_pos' (by omega)
    have b : nI q ≤ 65535 := nI_le (b := 65535) (by omega) (by decide)
    show (decide ((0 : Int32) ≤ nI q) && decide (nI q ≤ 65535)) = true
    rw [decide_eq_true a, decide_eq_true b]
    rfl
theorem pk_char (x : Int32) : (x.toUInt32 % 65536).toInt32 = nI (x.toBitVec.toNat % 65536) := by
  apply Int32.toBitVec_inj.mp
  apply BitVec.eq_of_toNat_eq
  rw [pk_tn (by omega)]
  show (x.toUInt32 % 65536).toNat = _
  rw [UInt32.toNat_mod]
  rfl
theorem pk_nc (x : Int32) : narrow .char (.int (x.toUInt32 % 65536).toInt32) = .int (x.toUInt32 % 65536).toInt32 := by
  rw [pk_char]
  exact (pk_charN (Nat.mod_lt _ (by decide))).1
theorem pk_fc (x : Int32) : fits .char (.int (x.toUInt32 % 65536).toInt32) = true := by
  rw [pk_char]
  exact (pk_charN (Nat.mod_lt _ (by decide))).2
theorem pk_vb (z : Int32) : vp_nar .byte z.toInt8.toInt32 = z.toInt8.toInt32 := by rw [vp_nar_byte]; simp
theorem pk_vs (z : Int32) : vp_nar .short z.toInt16.toInt32 = z.toInt16.toInt32 := by rw [vp_nar_short]; simp
theorem pk_vc (z : Int32) : vp_nar .char (z.toUInt32 % 65536).toInt32 = (z.toUInt32 % 65536).toInt32 := Value.int.inj (pk_nc z)
theorem pk_lT {n : Nat} (h : n < 2 ^ 63) : (lN n).toInt = (n : Int) := lg_ofNat_toInt h
theorem pk_lLT {a b : Nat} (ha : a < 2 ^ 63) (hb : b < 2 ^ 63) : lN a < lN b ↔ a < b := by
  rw [Int64.lt_iff_toInt_lt, pk_lT ha, pk_lT hb]; omega
theorem pk_lLE {a b : Nat} (ha : a < 2 ^ 63) (hb : b < 2 ^ 63) : lN a ≤ lN b ↔ a ≤ b := by
  rw [Int64.le_iff_toInt_le, pk_lT ha, pk_lT hb]; omega
theorem pk_lEQ {a b : Nat} (ha : a < 2 ^ 63) (hb : b < 2 ^ 63) : lN a = lN b ↔ a = b := by
  rw [← Int64.toInt_inj, pk_lT ha, pk_lT hb]; omega
theorem pk_lOf {x : Int64} (h : ¬ x < 0) : ∃ k : Nat, k < 2 ^ 63 ∧ x = lN k := by
  rw [Int64.lt_iff_toInt_lt] at h
  have h0 : (0 : Int64).toInt = 0 := by decide
  have hx := Int64.toInt_lt x
  refine ⟨x.toInt.toNat, by omega, Int64.toInt_inj.mp ?_⟩
  rw [pk_lT (by omega)]
  omega
theorem pk_lDiv {a b : Nat} (ha : a < 2 ^ 63) (h0 : 0 < b) (hb : b < 2 ^ 63) : lN a / lN b = lN (a / b) := by
  apply Int64.toInt_inj.mp
  rw [lg_ldiv_nonneg (by rw [pk_lT ha]; omega) (by rw [pk_lT hb]; omega), pk_lT ha, pk_lT hb, pk_lT (Nat.lt_of_le_of_lt (Nat.div_le_self a b) ha)]
  rfl
theorem pk_lRem {a b : Nat} (ha : a < 2 ^ 63) (h0 : 0 < b) (hb : b < 2 ^ 63) : lN a - lN a / lN b * lN b = lN (a % b) := by
  rw [pk_lDiv ha h0 hb, lN_mul, lN_sub (Nat.div_mul_le_self a b)]
  exact congrArg lN (by have := Nat.div_add_mod' a b; omega)
theorem pk_loop {σ : Type} (W : Nat → Nat → σ → Prop) (I : Nat → σ → Prop) (e i0 : Nat) (s : σ) (hi : i0 ≤ e) (h0 : I i0 s) (hx : ∀ n s, I e s → W (n + 1) e s)
    (hs : ∀ n i s, i < e → I i s → (∀ s', I (i + 1) s' → W n (i + 1) s') → W (n + 1) i s) : ∃ n, W n i0 s :=
  ⟨e + 1, loop_i W I e hx hs (e + 1) i0 s hi (by omega) h0⟩
theorem pk_loopD {σ : Type} (W : Nat → Nat → σ → Prop) (I : Nat → σ → Prop) (hx : ∀ n s, I 0 s → W (n + 1) 0 s)
    (hs : ∀ n i s, I (i + 1) s → (∀ s', I i s' → W n i s') → W (n + 1) (i + 1) s) : ∀ (e : Nat) (s : σ), I e s → W (e + 1) e s := by
  intro e
  induction e with
  | zero => exact fun s h => hx 0 s h
  | succ e ih => exact fun s h => hs (e + 1) e s h (fun s' h' => ih s' h')
theorem lp1 {A1 : Type} (W : Nat → A1 → Prop) (I : A1 → Prop) (μ : A1 → Nat) (hs : ∀ (n : Nat) (a1 : A1), I a1 → (∀ (b1 : A1), I b1 → μ b1 < μ a1 → W n b1) → W (n + 1) a1) (a1 : A1) (h : I a1) : ∃ n, W n a1 :=
  loop_m (σ := A1) (fun n s => W n s) (fun s => I s) (fun s => μ s) (fun n s hI hk => hs n s hI (fun b1 h9 hm => hk b1 h9 hm)) a1 h
theorem lp2 {A1 A2 : Type} (W : Nat → A1 → A2 → Prop) (I : A1 → A2 → Prop) (μ : A1 → A2 → Nat) (hs : ∀ (n : Nat) (a1 : A1) (a2 : A2), I a1 a2 → (∀ (b1 : A1) (b2 : A2), I b1 b2 → μ b1 b2 < μ a1 a2 → W n b1 b2) → W (n + 1) a1 a2) (a1 : A1) (a2 : A2) (h : I a1 a2) : ∃ n, W n a1 a2 :=
  loop_m (σ := A1 × A2) (fun n s => W n s.1 s.2) (fun s => I s.1 s.2) (fun s => μ s.1 s.2) (fun n s hI hk => hs n s.1 s.2 hI (fun b1 b2 h9 hm => hk (b1, b2) h9 hm)) (a1, a2) h
theorem lp3 {A1 A2 A3 : Type} (W : Nat → A1 → A2 → A3 → Prop) (I : A1 → A2 → A3 → Prop) (μ : A1 → A2 → A3 → Nat) (hs : ∀ (n : Nat) (a1 : A1) (a2 : A2) (a3 : A3), I a1 a2 a3 → (∀ (b1 : A1) (b2 : A2) (b3 : A3), I b1 b2 b3 → μ b1 b2 b3 < μ a1 a2 a3 → W n b1 b2 b3) → W (n + 1) a1 a2 a3) (a1 : A1) (a2 : A2) (a3 : A3) (h : I a1 a2 a3) : ∃ n, W n a1 a2 a3 :=
  loop_m (σ := A1 × A2 × A3) (fun n s => W n s.1 s.2.1 s.2.2) (fun s => I s.1 s.2.1 s.2.2) (fun s => μ s.1 s.2.1 s.2.2) (fun n s hI hk => hs n s.1 s.2.1 s.2.2 hI (fun b1 b2 b3 h9 hm => hk (b1, b2, b3) h9 hm)) (a1, a2, a3) h
theorem lp4 {A1 A2 A3 A4 : Type} (W : Nat → A1 → A2 → A3 → A4 → Prop) (I : A1 → A2 → A3 → A4 → Prop) (μ : A1 → A2 → A3 → A4 → Nat) (hs : ∀ (n : Nat) (a1 : A1) (a2 : A2) (a3 : A3) (a4 : A4), I a1 a2 a3 a4 → (∀ (b1 : A1) (b2 : A2) (b3 : A3) (b4 : A4), I b1 b2 b3 b4 → μ b1 b2 b3 b4 < μ a1 a2 a3 a4 → W n b1 b2 b3 b4) → W (n + 1) a1 a2 a3 a4) (a1 : A1) (a2 : A2) (a3 : A3) (a4 : A4) (h : I a1 a2 a3 a4) : ∃ n, W n a1 a2 a3 a4 :=
  loop_m (σ := A1 × A2 × A3 × A4) (fun n s => W n s.1 s.2.1 s.2.2.1 s.2.2.2) (fun s => I s.1 s.2.1 s.2.2.1 s.2.2.2) (fun s => μ s.1 s.2.1 s.2.2.1 s.2.2.2) (fun n s hI hk => hs n s.1 s.2.1 s.2.2.1 s.2.2.2 hI (fun b1 b2 b3 b4 h9 hm => hk (b1, b2, b3, b4) h9 hm)) (a1, a2, a3, a4) h
theorem lp5 {A1 A2 A3 A4 A5 : Type} (W : Nat → A1 → A2 → A3 → A4 → A5 → Prop) (I : A1 → A2 → A3 → A4 → A5 → Prop) (μ : A1 → A2 → A3 → A4 → A5 → Nat) (hs : ∀ (n : Nat) (a1 : A1) (a2 : A2) (a3 : A3) (a4 : A4) (a5 : A5), I a1 a2 a3 a4 a5 → (∀ (b1 : A1) (b2 : A2) (b3 : A3) (b4 : A4) (b5 : A5), I b1 b2 b3 b4 b5 → μ b1 b2 b3 b4 b5 < μ a1 a2 a3 a4 a5 → W n b1 b2 b3 b4 b5) → W (n + 1) a1 a2 a3 a4 a5) (a1 : A1) (a2 : A2) (a3 : A3) (a4 : A4) (a5 : A5) (h : I a1 a2 a3 a4 a5) : ∃ n, W n a1 a2 a3 a4 a5 :=
  loop_m (σ := A1 × A2 × A3 × A4 × A5) (fun n s => W n s.1 s.2.1 s.2.2.1 s.2.2.2.1 s.2.2.2.2) (fun s => I s.1 s.2.1 s.2.2.1 s.2.2.2.1 s.2.2.2.2) (fun s => μ s.1 s.2.1 s.2.2.1 s.2.2.2.1 s.2.2.2.2) (fun n s hI hk => hs n s.1 s.2.1 s.2.2.1 s.2.2.2.1 s.2.2.2.2 hI (fun b1 b2 b3 b4 b5 h9 hm => hk (b1, b2, b3, b4, b5) h9 hm)) (a1, a2, a3, a4, a5) h
theorem lp6 {A1 A2 A3 A4 A5 A6 : Type} (W : Nat → A1 → A2 → A3 → A4 → A5 → A6 → Prop) (I : A1 → A2 → A3 → A4 → A5 → A6 → Prop) (μ : A1 → A2 → A3 → A4 → A5 → A6 → Nat) (hs : ∀ (n : Nat) (a1 : A1) (a2 : A2) (a3 : A3) (a4 : A4) (a5 : A5) (a6 : A6), I a1 a2 a3 a4 a5 a6 → (∀ (b1 : A1) (b2 : A2) (b3 : A3) (b4 : A4) (b5 : A5) (b6 : A6), I b1 b2 b3 b4 b5 b6 → μ b1 b2 b3 b4 b5 b6 < μ a1 a2 a3 a4 a5 a6 → W n b1 b2 b3 b4 b5 b6) → W (n + 1) a1 a2 a3 a4 a5 a6) (a1 : A1) (a2 : A2) (a3 : A3) (a4 : A4) (a5 : A5) (a6 : A6) (h : I a1 a2 a3 a4 a5 a6) : ∃ n, W n a1 a2 a3 a4 a5 a6 :=
  loop_m (σ := A1 × A2 × A3 × A4 × A5 × A6) (fun n s => W n s.1 s.2.1 s.2.2.1 s.2.2.2.1 s.2.2.2.2.1 s.2.2.2.2.2) (fun s => I s.1 s.2.1 s.2.2.1 s.2.2.2.1 s.2.2.2.2.1 s.2.2.2.2.2) (fun s => μ s.1 s.2.1 s.2.2.1 s.2.2.2.1 s.2.2.2.2.1 s.2.2.2.2.2) (fun n s hI hk => hs n s.1 s.2.1 s.2.2.1 s.2.2.2.1 s.2.2.2.2.1 s.2.2.2.2.2 hI (fun b1 b2 b3 b4 b5 b6 h9 hm => hk (b1, b2, b3, b4, b5, b6) h9 hm)) (a1, a2, a3, a4, a5, a6) h
theorem lp7 {A1 A2 A3 A4 A5 A6 A7 : Type} (W : Nat → A1 → A2 → A3 → A4 → A5 → A6 → A7 → Prop) (I : A1 → A2 → A3 → A4 → A5 → A6 → A7 → Prop) (μ : A1 → A2 → A3 → A4 → A5 → A6 → A7 → Nat) (hs : ∀ (n : Nat) (a1 : A1) (a2 : A2) (a3 : A3) (a4 : A4) (a5 : A5) (a6 : A6) (a7 : A7), I a1 a2 a3 a4 a5 a6 a7 → (∀ (b1 : A1) (b2 : A2) (b3 : A3) (b4 : A4) (b5 : A5) (b6 : A6) (b7 : A7), I b1 b2 b3 b4 b5 b6 b7 → μ b1 b2 b3 b4 b5 b6 b7 < μ a1 a2 a3 a4 a5 a6 a7 → W n b1 b2 b3 b4 b5 b6 b7) → W (n + 1) a1 a2 a3 a4 a5 a6 a7) (a1 : A1) (a2 : A2) (a3 : A3) (a4 : A4) (a5 : A5) (a6 : A6) (a7 : A7) (h : I a1 a2 a3 a4 a5 a6 a7) : ∃ n, W n a1 a2 a3 a4 a5 a6 a7 :=
  loop_m (σ := A1 × A2 × A3 × A4 × A5 × A6 × A7) (fun n s => W n s.1 s.2.1 s.2.2.1 s.2.2.2.1 s.2.2.2.2.1 s.2.2.2.2.2.1 s.2.2.2.2.2.2) (fun s => I s.1 s.2.1 s.2.2.1 s.2.2.2.1 s.2.2.2.2.1 s.2.2.2.2.2.1 s.2.2.2.2.2.2) (fun s => μ s.1 s.2.1 s.2.2.1 s.2.2.2.1 s.2.2.2.2.1 s.2.2.2.2.2.1 s.2.2.2.2.2.2) (fun n s hI hk => hs n s.1 s.2.1 s.2.2.1 s.2.2.2.1 s.2.2.2.2.1 s.2.2.2.2.2.1 s.2.2.2.2.2.2 hI (fun b1 b2 b3 b4 b5 b6 b7 h9 hm => hk (b1, b2, b3, b4, b5, b6, b7) h9 hm)) (a1, a2, a3, a4, a5, a6, a7) h
theorem lp8 {A1 A2 A3 A4 A5 A6 A7 A8 : Type} (W : Nat → A1 → A2 → A3 → A4 → A5 → A6 → A7 → A8 → Prop) (I : A1 → A2 → A3 → A4 → A5 → A6 → A7 → A8 → Prop) (μ : A1 → A2 → A3 → A4 → A5 → A6 → A7 → A8 → Nat) (hs : ∀ (n : Nat) (a1 : A1) (a2 : A2) (a3 : A3) (a4 : A4) (a5 : A5) (a6 : A6) (a7 : A7) (a8 : A8), I a1 a2 a3 a4 a5 a6 a7 a8 → (∀ (b1 : A1) (b2 : A2) (b3 : A3) (b4 : A4) (b5 : A5) (b6 : A6) (b7 : A7) (b8 : A8), I b1 b2 b3 b4 b5 b6 b7 b8 → μ b1 b2 b3 b4 b5 b6 b7 b8 < μ a1 a2 a3 a4 a5 a6 a7 a8 → W n b1 b2 b3 b4 b5 b6 b7 b8) → W (n + 1) a1 a2 a3 a4 a5 a6 a7 a8) (a1 : A1) (a2 : A2) (a3 : A3) (a4 : A4) (a5 : A5) (a6 : A6) (a7 : A7) (a8 : A8) (h : I a1 a2 a3 a4 a5 a6 a7 a8) : ∃ n, W n a1 a2 a3 a4 a5 a6 a7 a8 :=
  loop_m (σ := A1 × A2 × A3 × A4 × A5 × A6 × A7 × A8) (fun n s => W n s.1 s.2.1 s.2.2.1 s.2.2.2.1 s.2.2.2.2.1 s.2.2.2.2.2.1 s.2.2.2.2.2.2.1 s.2.2.2.2.2.2.2) (fun s => I s.1 s.2.1 s.2.2.1 s.2.2.2.1 s.2.2.2.2.1 s.2.2.2.2.2.1 s.2.2.2.2.2.2.1 s.2.2.2.2.2.2.2) (fun s => μ s.1 s.2.1 s.2.2.1 s.2.2.2.1 s.2.2.2.2.1 s.2.2.2.2.2.1 s.2.2.2.2.2.2.1 s.2.2.2.2.2.2.2) (fun n s hI hk => hs n s.1 s.2.1 s.2.2.1 s.2.2.2.1 s.2.2.2.2.1 s.2.2.2.2.2.1 s.2.2.2.2.2.2.1 s.2.2.2.2.2.2.2 hI (fun b1 b2 b3 b4 b5 b6 b7 b8 h9 hm => hk (b1, b2, b3, b4, b5, b6, b7, b8) h9 hm)) (a1, a2, a3, a4, a5, a6, a7, a8) h
theorem lp9 {A1 A2 A3 A4 A5 A6 A7 A8 A9 : Type} (W : Nat → A1 → A2 → A3 → A4 → A5 → A6 → A7 → A8 → A9 → Prop) (I : A1 → A2 → A3 → A4 → A5 → A6 → A7 → A8 → A9 → Prop) (μ : A1 → A2 → A3 → A4 → A5 → A6 → A7 → A8 → A9 → Nat) (hs : ∀ (n : Nat) (a1 : A1) (a2 : A2) (a3 : A3) (a4 : A4) (a5 : A5) (a6 : A6) (a7 : A7) (a8 : A8) (a9 : A9), I a1 a2 a3 a4 a5 a6 a7 a8 a9 → (∀ (b1 : A1) (b2 : A2) (b3 : A3) (b4 : A4) (b5 : A5) (b6 : A6) (b7 : A7) (b8 : A8) (b9 : A9), I b1 b2 b3 b4 b5 b6 b7 b8 b9 → μ b1 b2 b3 b4 b5 b6 b7 b8 b9 < μ a1 a2 a3 a4 a5 a6 a7 a8 a9 → W n b1 b2 b3 b4 b5 b6 b7 b8 b9) → W (n + 1) a1 a2 a3 a4 a5 a6 a7 a8 a9) (a1 : A1) (a2 : A2) (a3 : A3) (a4 : A4) (a5 : A5) (a6 : A6) (a7 : A7) (a8 : A8) (a9 : A9) (h : I a1 a2 a3 a4 a5 a6 a7 a8 a9) : ∃ n, W n a1 a2 a3 a4 a5 a6 a7 a8 a9 :=
  loop_m (σ := A1 × A2 × A3 × A4 × A5 × A6 × A7 × A8 × A9) (fun n s => W n s.1 s.2.1 s.2.2.1 s.2.2.2.1 s.2.2.2.2.1 s.2.2.2.2.2.1 s.2.2.2.2.2.2.1 s.2.2.2.2.2.2.2.1 s.2.2.2.2.2.2.2.2) (fun s => I s.1 s.2.1 s.2.2.1 s.2.2.2.1 s.2.2.2.2.1 s.2.2.2.2.2.1 s.2.2.2.2.2.2.1 s.2.2.2.2.2.2.2.1 s.2.2.2.2.2.2.2.2) (fun s => μ s.1 s.2.1 s.2.2.1 s.2.2.2.1 s.2.2.2.2.1 s.2.2.2.2.2.1 s.2.2.2.2.2.2.1 s.2.2.2.2.2.2.2.1 s.2.2.2.2.2.2.2.2) (fun n s hI hk => hs n s.1 s.2.1 s.2.2.1 s.2.2.2.1 s.2.2.2.2.1 s.2.2.2.2.2.1 s.2.2.2.2.2.2.1 s.2.2.2.2.2.2.2.1 s.2.2.2.2.2.2.2.2 hI (fun b1 b2 b3 b4 b5 b6 b7 b8 b9 h9 hm => hk (b1, b2, b3, b4, b5, b6, b7, b8, b9) h9 hm)) (a1, a2, a3, a4, a5, a6, a7, a8, a9) h
theorem lp10 {A1 A2 A3 A4 A5 A6 A7 A8 A9 A10 : Type} (W : Nat → A1 → A2 → A3 → A4 → A5 → A6 → A7 → A8 → A9 → A10 → Prop) (I : A1 → A2 → A3 → A4 → A5 → A6 → A7 → A8 → A9 → A10 → Prop) (μ : A1 → A2 → A3 → A4 → A5 → A6 → A7 → A8 → A9 → A10 → Nat) (hs : ∀ (n : Nat) (a1 : A1) (a2 : A2) (a3 : A3) (a4 : A4) (a5 : A5) (a6 : A6) (a7 : A7) (a8 : A8) (a9 : A9) (a10 : A10), I a1 a2 a3 a4 a5 a6 a7 a8 a9 a10 → (∀ (b1 : A1) (b2 : A2) (b3 : A3) (b4 : A4) (b5 : A5) (b6 : A6) (b7 : A7) (b8 : A8) (b9 : A9) (b10 : A10), I b1 b2 b3 b4 b5 b6 b7 b8 b9 b10 → μ b1 b2 b3 b4 b5 b6 b7 b8 b9 b10 < μ a1 a2 a3 a4 a5 a6 a7 a8 a9 a10 → W n b1 b2 b3 b4 b5 b6 b7 b8 b9 b10) → W (n + 1) a1 a2 a3 a4 a5 a6 a7 a8 a9 a10) (a1 : A1) (a2 : A2) (a3 : A3) (a4 : A4) (a5 : A5) (a6 : A6) (a7 : A7) (a8 : A8) (a9 : A9) (a10 : A10) (h : I a1 a2 a3 a4 a5 a6 a7 a8 a9 a10) : ∃ n, W n a1 a2 a3 a4 a5 a6 a7 a8 a9 a10 :=
  loop_m (σ := A1 × A2 × A3 × A4 × A5 × A6 × A7 × A8 × A9 × A10) (fun n s => W n s.1 s.2.1 s.2.2.1 s.2.2.2.1 s.2.2.2.2.1 s.2.2.2.2.2.1 s.2.2.2.2.2.2.1 s.2.2.2.2.2.2.2.1 s.2.2.2.2.2.2.2.2.1 s.2.2.2.2.2.2.2.2.2) (fun s => I s.1 s.2.1 s.2.2.1 s.2.2.2.1 s.2.2.2.2.1 s.2.2.2.2.2.1 s.2.2.2.2.2.2.1 s.2.2.2.2.2.2.2.1 s.2.2.2.2.2.2.2.2.1 s.2.2.2.2.2.2.2.2.2) (fun s => μ s.1 s.2.1 s.2.2.1 s.2.2.2.1 s.2.2.2.2.1 s.2.2.2.2.2.1 s.2.2.2.2.2.2.1 s.2.2.2.2.2.2.2.1 s.2.2.2.2.2.2.2.2.1 s.2.2.2.2.2.2.2.2.2) (fun n s hI hk => hs n s.1 s.2.1 s.2.2.1 s.2.2.2.1 s.2.2.2.2.1 s.2.2.2.2.2.1 s.2.2.2.2.2.2.1 s.2.2.2.2.2.2.2.1 s.2.2.2.2.2.2.2.2.1 s.2.2.2.2.2.2.2.2.2 hI (fun b1 b2 b3 b4 b5 b6 b7 b8 b9 b10 h9 hm => hk (b1, b2, b3, b4, b5, b6, b7, b8, b9, b10) h9 hm)) (a1, a2, a3, a4, a5, a6, a7, a8, a9, a10) h
theorem lp11 {A1 A2 A3 A4 A5 A6 A7 A8 A9 A10 A11 : Type} (W : Nat → A1 → A2 → A3 → A4 → A5 → A6 → A7 → A8 → A9 → A10 → A11 → Prop) (I : A1 → A2 → A3 → A4 → A5 → A6 → A7 → A8 → A9 → A10 → A11 → Prop) (μ : A1 → A2 → A3 → A4 → A5 → A6 → A7 → A8 → A9 → A10 → A11 → Nat) (hs : ∀ (n : Nat) (a1 : A1) (a2 : A2) (a3 : A3) (a4 : A4) (a5 : A5) (a6 : A6) (a7 : A7) (a8 : A8) (a9 : A9) (a10 : A10) (a11 : A11), I a1 a2 a3 a4 a5 a6 a7 a8 a9 a10 a11 → (∀ (b1 : A1) (b2 : A2) (b3 : A3) (b4 : A4) (b5 : A5) (b6 : A6) (b7 : A7) (b8 : A8) (b9 : A9) (b10 : A10) (b11 : A11), I b1 b2 b3 b4 b5 b6 b7 b8 b9 b10 b11 → μ b1 b2 b3 b4 b5 b6 b7 b8 b9 b10 b11 < μ a1 a2 a3 a4 a5 a6 a7 a8 a9 a10 a11 → W n b1 b2 b3 b4 b5 b6 b7 b8 b9 b10 b11) → W (n + 1) a1 a2 a3 a4 a5 a6 a7 a8 a9 a10 a11) (a1 : A1) (a2 : A2) (a3 : A3) (a4 : A4) (a5 : A5) (a6 : A6) (a7 : A7) (a8 : A8) (a9 : A9) (a10 : A10) (a11 : A11) (h : I a1 a2 a3 a4 a5 a6 a7 a8 a9 a10 a11) : ∃ n, W n a1 a2 a3 a4 a5 a6 a7 a8 a9 a10 a11 :=
  loop_m (σ := A1 × A2 × A3 × A4 × A5 × A6 × A7 × A8 × A9 × A10 × A11) (fun n s => W n s.1 s.2.1 s.2.2.1 s.2.2.2.1 s.2.2.2.2.1 s.2.2.2.2.2.1 s.2.2.2.2.2.2.1 s.2.2.2.2.2.2.2.1 s.2.2.2.2.2.2.2.2.1 s.2.2.2.2.2.2.2.2.2.1 s.2.2.2.2.2.2.2.2.2.2) (fun s => I s.1 s.2.1 s.2.2.1 s.2.2.2.1 s.2.2.2.2.1 s.2.2.2.2.2.1 s.2.2.2.2.2.2.1 s.2.2.2.2.2.2.2.1 s.2.2.2.2.2.2.2.2.1 s.2.2.2.2.2.2.2.2.2.1 s.2.2.2.2.2.2.2.2.2.2) (fun s => μ s.1 s.2.1 s.2.2.1 s.2.2.2.1 s.2.2.2.2.1 s.2.2.2.2.2.1 s.2.2.2.2.2.2.1 s.2.2.2.2.2.2.2.1 s.2.2.2.2.2.2.2.2.1 s.2.2.2.2.2.2.2.2.2.1 s.2.2.2.2.2.2.2.2.2.2) (fun n s hI hk => hs n s.1 s.2.1 s.2.2.1 s.2.2.2.1 s.2.2.2.2.1 s.2.2.2.2.2.1 s.2.2.2.2.2.2.1 s.2.2.2.2.2.2.2.1 s.2.2.2.2.2.2.2.2.1 s.2.2.2.2.2.2.2.2.2.1 s.2.2.2.2.2.2.2.2.2.2 hI (fun b1 b2 b3 b4 b5 b6 b7 b8 b9 b10 b11 h9 hm => hk (b1, b2, b3, b4, b5, b6, b7, b8, b9, b10, b11) h9 hm)) (a1, a2, a3, a4, a5, a6, a7, a8, a9, a10, a11) h
theorem lp12 {A1 A2 A3 A4 A5 A6 A7 A8 A9 A10 A11 A12 : Type} (W : Nat → A1 → A2 → A3 → A4 → A5 → A6 → A7 → A8 → A9 → A10 → A11 → A12 → Prop) (I : A1 → A2 → A3 → A4 → A5 → A6 → A7 → A8 → A9 → A10 → A11 → A12 → Prop) (μ : A1 → A2 → A3 → A4 → A5 → A6 → A7 → A8 → A9 → A10 → A11 → A12 → Nat) (hs : ∀ (n : Nat) (a1 : A1) (a2 : A2) (a3 : A3) (a4 : A4) (a5 : A5) (a6 : A6) (a7 : A7) (a8 : A8) (a9 : A9) (a10 : A10) (a11 : A11) (a12 : A12), I a1 a2 a3 a4 a5 a6 a7 a8 a9 a10 a11 a12 → (∀ (b1 : A1) (b2 : A2) (b3 : A3) (b4 : A4) (b5 : A5) (b6 : A6) (b7 : A7) (b8 : A8) (b9 : A9) (b10 : A10) (b11 : A11) (b12 : A12), I b1 b2 b3 b4 b5 b6 b7 b8 b9 b10 b11 b12 → μ b1 b2 b3 b4 b5 b6 b7 b8 b9 b10 b11 b12 < μ a1 a2 a3 a4 a5 a6 a7 a8 a9 a10 a11 a12 → W n b1 b2 b3 b4 b5 b6 b7 b8 b9 b10 b11 b12) → W (n + 1) a1 a2 a3 a4 a5 a6 a7 a8 a9 a10 a11 a12) (a1 : A1) (a2 : A2) (a3 : A3) (a4 : A4) (a5 : A5) (a6 : A6) (a7 : A7) (a8 : A8) (a9 : A9) (a10 : A10) (a11 : A11) (a12 : A12) (h : I a1 a2 a3 a4 a5 a6 a7 a8 a9 a10 a11 a12) : ∃ n, W n a1 a2 a3 a4 a5 a6 a7 a8 a9 a10 a11 a12 :=
  loop_m (σ := A1 × A2 × A3 × A4 × A5 × A6 × A7 × A8 × A9 × A10 × A11 × A12) (fun n s => W n s.1 s.2.1 s.2.2.1 s.2.2.2.1 s.2.2.2.2.1 s.2.2.2.2.2.1 s.2.2.2.2.2.2.1 s.2.2.2.2.2.2.2.1 s.2.2.2.2.2.2.2.2.1 s.2.2.2.2.2.2.2.2.2.1 s.2.2.2.2.2.2.2.2.2.2.1 s.2.2.2.2.2.2.2.2.2.2.2) (fun s => I s.1 s.2.1 s.2.2.1 s.2.2.2.1 s.2.2.2.2.1 s.2.2.2.2.2.1 s.2.2.2.2.2.2.1 s.2.2.2.2.2.2.2.1 s.2.2.2.2.2.2.2.2.1 s.2.2.2.2.2.2.2.2.2.1 s.2.2.2.2.2.2.2.2.2.2.1 s.2.2.2.2.2.2.2.2.2.2.2) (fun s => μ s.1 s.2.1 s.2.2.1 s.2.2.2.1 s.2.2.2.2.1 s.2.2.2.2.2.1 s.2.2.2.2.2.2.1 s.2.2.2.2.2.2.2.1 s.2.2.2.2.2.2.2.2.1 s.2.2.2.2.2.2.2.2.2.1 s.2.2.2.2.2.2.2.2.2.2.1 s.2.2.2.2.2.2.2.2.2.2.2) (fun n s hI hk => hs n s.1 s.2.1 s.2.2.1 s.2.2.2.1 s.2.2.2.2.1 s.2.2.2.2.2.1 s.2.2.2.2.2.2.1 s.2.2.2.2.2.2.2.1 s.2.2.2.2.2.2.2.2.1 s.2.2.2.2.2.2.2.2.2.1 s.2.2.2.2.2.2.2.2.2.2.1 s.2.2.2.2.2.2.2.2.2.2.2 hI (fun b1 b2 b3 b4 b5 b6 b7 b8 b9 b10 b11 b12 h9 hm => hk (b1, b2, b3, b4, b5, b6, b7, b8, b9, b10, b11, b12) h9 hm)) (a1, a2, a3, a4, a5, a6, a7, a8, a9, a10, a11, a12) h
theorem lp13 {A1 A2 A3 A4 A5 A6 A7 A8 A9 A10 A11 A12 A13 : Type} (W : Nat → A1 → A2 → A3 → A4 → A5 → A6 → A7 → A8 → A9 → A10 → A11 → A12 → A13 → Prop) (I : A1 → A2 → A3 → A4 → A5 → A6 → A7 → A8 → A9 → A10 → A11 → A12 → A13 → Prop) (μ : A1 → A2 → A3 → A4 → A5 → A6 → A7 → A8 → A9 → A10 → A11 → A12 → A13 → Nat) (hs : ∀ (n : Nat) (a1 : A1) (a2 : A2) (a3 : A3) (a4 : A4) (a5 : A5) (a6 : A6) (a7 : A7) (a8 : A8) (a9 : A9) (a10 : A10) (a11 : A11) (a12 : A12) (a13 : A13), I a1 a2 a3 a4 a5 a6 a7 a8 a9 a10 a11 a12 a13 → (∀ (b1 : A1) (b2 : A2) (b3 : A3) (b4 : A4) (b5 : A5) (b6 : A6) (b7 : A7) (b8 : A8) (b9 : A9) (b10 : A10) (b11 : A11) (b12 : A12) (b13 : A13), I b1 b2 b3 b4 b5 b6 b7 b8 b9 b10 b11 b12 b13 → μ b1 b2 b3 b4 b5 b6 b7 b8 b9 b10 b11 b12 b13 < μ a1 a2 a3 a4 a5 a6 a7 a8 a9 a10 a11 a12 a13 → W n b1 b2 b3 b4 b5 b6 b7 b8 b9 b10 b11 b12 b13) → W (n + 1) a1 a2 a3 a4 a5 a6 a7 a8 a9 a10 a11 a12 a13) (a1 : A1) (a2 : A2) (a3 : A3) (a4 : A4) (a5 : A5) (a6 : A6) (a7 : A7) (a8 : A8) (a9 : A9) (a10 : A10) (a11 : A11) (a12 : A12) (a13 : A13) (h : I a1 a2 a3 a4 a5 a6 a7 a8 a9 a10 a11 a12 a13) : ∃ n, W n a1 a2 a3 a4 a5 a6 a7 a8 a9 a10 a11 a12 a13 :=
  loop_m (σ := A1 × A2 × A3 × A4 × A5 × A6 × A7 × A8 × A9 × A10 × A11 × A12 × A13) (fun n s => W n s.1 s.2.1 s.2.2.1 s.2.2.2.1 s.2.2.2.2.1 s.2.2.2.2.2.1 s.2.2.2.2.2.2.1 s.2.2.2.2.2.2.2.1 s.2.2.2.2.2.2.2.2.1 s.2.2.2.2.2.2.2.2.2.1 s.2.2.2.2.2.2.2.2.2.2.1 s.2.2.2.2.2.2.2.2.2.2.2.1 s.2.2.2.2.2.2.2.2.2.2.2.2) (fun s => I s.1 s.2.1 s.2.2.1 s.2.2.2.1 s.2.2.2.2.1 s.2.2.2.2.2.1 s.2.2.2.2.2.2.1 s.2.2.2.2.2.2.2.1 s.2.2.2.2.2.2.2.2.1 s.2.2.2.2.2.2.2.2.2.1 s.2.2.2.2.2.2.2.2.2.2.1 s.2.2.2.2.2.2.2.2.2.2.2.1 s.2.2.2.2.2.2.2.2.2.2.2.2) (fun s => μ s.1 s.2.1 s.2.2.1 s.2.2.2.1 s.2.2.2.2.1 s.2.2.2.2.2.1 s.2.2.2.2.2.2.1 s.2.2.2.2.2.2.2.1 s.2.2.2.2.2.2.2.2.1 s.2.2.2.2.2.2.2.2.2.1 s.2.2.2.2.2.2.2.2.2.2.1 s.2.2.2.2.2.2.2.2.2.2.2.1 s.2.2.2.2.2.2.2.2.2.2.2.2) (fun n s hI hk => hs n s.1 s.2.1 s.2.2.1 s.2.2.2.1 s.2.2.2.2.1 s.2.2.2.2.2.1 s.2.2.2.2.2.2.1 s.2.2.2.2.2.2.2.1 s.2.2.2.2.2.2.2.2.1 s.2.2.2.2.2.2.2.2.2.1 s.2.2.2.2.2.2.2.2.2.2.1 s.2.2.2.2.2.2.2.2.2.2.2.1 s.2.2.2.2.2.2.2.2.2.2.2.2 hI (fun b1 b2 b3 b4 b5 b6 b7 b8 b9 b10 b11 b12 b13 h9 hm => hk (b1, b2, b3, b4, b5, b6, b7, b8, b9, b10, b11, b12, b13) h9 hm)) (a1, a2, a3, a4, a5, a6, a7, a8, a9, a10, a11, a12, a13) h
theorem lp14 {A1 A2 A3 A4 A5 A6 A7 A8 A9 A10 A11 A12 A13 A14 : Type} (W : Nat → A1 → A2 → A3 → A4 → A5 → A6 → A7 → A8 → A9 → A10 → A11 → A12 → A13 → A14 → Prop) (I : A1 → A2 → A3 → A4 → A5 → A6 → A7 → A8 → A9 → A10 → A11 → A12 → A13 → A14 → Prop) (μ : A1 → A2 → A3 → A4 → A5 → A6 → A7 → A8 → A9 → A10 → A11 → A12 → A13 → A14 → Nat) (hs : ∀ (n : Nat) (a1 : A1) (a2 : A2) (a3 : A3) (a4 : A4) (a5 : A5) (a6 : A6) (a7 : A7) (a8 : A8) (a9 : A9) (a10 : A10) (a11 : A11) (a12 : A12) (a13 : A13) (a14 : A14), I a1 a2 a3 a4 a5 a6 a7 a8 a9 a10 a11 a12 a13 a14 → (∀ (b1 : A1) (b2 : A2) (b3 : A3) (b4 : A4) (b5 : A5) (b6 : A6) (b7 : A7) (b8 : A8) (b9 : A9) (b10 : A10) (b11 : A11) (b12 : A12) (b13 : A13) (b14 : A14), I b1 b2 b3 b4 b5 b6 b7 b8 b9 b10 b11 b12 b13 b14 → μ b1 b2 b3 b4 b5 b6 b7 b8 b9 b10 b11 b12 b13 b14 < μ a1 a2 a3 a4 a5 a6 a7 a8 a9 a10 a11 a12 a13 a14 → W n b1 b2 b3 b4 b5 b6 b7 b8 b9 b10 b11 b12 b13 b14) → W (n + 1) a1 a2 a3 a4 a5 a6 a7 a8 a9 a10 a11 a12 a13 a14) (a1 : A1) (a2 : A2) (a3 : A3) (a4 : A4) (a5 : A5) (a6 : A6) (a7 : A7) (a8 : A8) (a9 : A9) (a10 : A10) (a11 : A11) (a12 : A12) (a13 : A13) (a14 : A14) (h : I a1 a2 a3 a4 a5 a6 a7 a8 a9 a10 a11 a12 a13 a14) : ∃ n, W n a1 a2 a3 a4 a5 a6 a7 a8 a9 a10 a11 a12 a13 a14 :=
  loop_m (σ := A1 × A2 × A3 × A4 × A5 × A6 × A7 × A8 × A9 × A10 × A11 × A12 × A13 × A14) (fun n s => W n s.1 s.2.1 s.2.2.1 s.2.2.2.1 s.2.2.2.2.1 s.2.2.2.2.2.1 s.2.2.2.2.2.2.1 s.2.2.2.2.2.2.2.1 s.2.2.2.2.2.2.2.2.1 s.2.2.2.2.2.2.2.2.2.1 s.2.2.2.2.2.2.2.2.2.2.1 s.2.2.2.2.2.2.2.2.2.2.2.1 s.2.2.2.2.2.2.2.2.2.2.2.2.1 s.2.2.2.2.2.2.2.2.2.2.2.2.2) (fun s => I s.1 s.2.1 s.2.2.1 s.2.2.2.1 s.2.2.2.2.1 s.2.2.2.2.2.1 s.2.2.2.2.2.2.1 s.2.2.2.2.2.2.2.1 s.2.2.2.2.2.2.2.2.1 s.2.2.2.2.2.2.2.2.2.1 s.2.2.2.2.2.2.2.2.2.2.1 s.2.2.2.2.2.2.2.2.2.2.2.1 s.2.2.2.2.2.2.2.2.2.2.2.2.1 s.2.2.2.2.2.2.2.2.2.2.2.2.2) (fun s => μ s.1 s.2.1 s.2.2.1 s.2.2.2.1 s.2.2.2.2.1 s.2.2.2.2.2.1 s.2.2.2.2.2.2.1 s.2.2.2.2.2.2.2.1 s.2.2.2.2.2.2.2.2.1 s.2.2.2.2.2.2.2.2.2.1 s.2.2.2.2.2.2.2.2.2.2.1 s.2.2.2.2.2.2.2.2.2.2.2.1 s.2.2.2.2.2.2.2.2.2.2.2.2.1 s.2.2.2.2.2.2.2.2.2.2.2.2.2) (fun n s hI hk => hs n s.1 s.2.1 s.2.2.1 s.2.2.2.1 s.2.2.2.2.1 s.2.2.2.2.2.1 s.2.2.2.2.2.2.1 s.2.2.2.2.2.2.2.1 s.2.2.2.2.2.2.2.2.1 s.2.2.2.2.2.2.2.2.2.1 s.2.2.2.2.2.2.2.2.2.2.1 s.2.2.2.2.2.2.2.2.2.2.2.1 s.2.2.2.2.2.2.2.2.2.2.2.2.1 s.2.2.2.2.2.2.2.2.2.2.2.2.2 hI (fun b1 b2 b3 b4 b5 b6 b7 b8 b9 b10 b11 b12 b13 b14 h9 hm => hk (b1, b2, b3, b4, b5, b6, b7, b8, b9, b10, b11, b12, b13, b14) h9 hm)) (a1, a2, a3, a4, a5, a6, a7, a8, a9, a10, a11, a12, a13, a14) h
theorem lp15 {A1 A2 A3 A4 A5 A6 A7 A8 A9 A10 A11 A12 A13 A14 A15 : Type} (W : Nat → A1 → A2 → A3 → A4 → A5 → A6 → A7 → A8 → A9 → A10 → A11 → A12 → A13 → A14 → A15 → Prop) (I : A1 → A2 → A3 → A4 → A5 → A6 → A7 → A8 → A9 → A10 → A11 → A12 → A13 → A14 → A15 → Prop) (μ : A1 → A2 → A3 → A4 → A5 → A6 → A7 → A8 → A9 → A10 → A11 → A12 → A13 → A14 → A15 → Nat) (hs : ∀ (n : Nat) (a1 : A1) (a2 : A2) (a3 : A3) (a4 : A4) (a5 : A5) (a6 : A6) (a7 : A7) (a8 : A8) (a9 : A9) (a10 : A10) (a11 : A11) (a12 : A12) (a13 : A13) (a14 : A14) (a15 : A15), I a1 a2 a3 a4 a5 a6 a7 a8 a9 a10 a11 a12 a13 a14 a15 → (∀ (b1 : A1) (b2 : A2) (b3 : A3) (b4 : A4) (b5 : A5) (b6 : A6) (b7 : A7) (b8 : A8) (b9 : A9) (b10 : A10) (b11 : A11) (b12 : A12) (b13 : A13) (b14 : A14) (b15 : A15), I b1 b2 b3 b4 b5 b6 b7 b8 b9 b10 b11 b12 b13 b14 b15 → μ b1 b2 b3 b4 b5 b6 b7 b8 b9 b10 b11 b12 b13 b14 b15 < μ a1 a2 a3 a4 a5 a6 a7 a8 a9 a10 a11 a12 a13 a14 a15 → W n b1 b2 b3 b4 b5 b6 b7 b8 b9 b10 b11 b12 b13 b14 b15) → W (n + 1) a1 a2 a3 a4 a5 a6 a7 a8 a9 a10 a11 a12 a13 a14 a15) (a1 : A1) (a2 : A2) (a3 : A3) (a4 : A4) (a5 : A5) (a6 : A6) (a7 : A7) (a8 : A8) (a9 : A9) (a10 : A10) (a11 : A11) (a12 : A12) (a13 : A13) (a14 : A14) (a15 : A15) (h : I a1 a2 a3 a4 a5 a6 a7 a8 a9 a10 a11 a12 a13 a14 a15) : ∃ n, W n a1 a2 a3 a4 a5 a6 a7 a8 a9 a10 a11 a12 a13 a14 a15 :=
  loop_m (σ := A1 × A2 × A3 × A4 × A5 × A6 × A7 × A8 × A9 × A10 × A11 × A12 × A13 × A14 × A15) (fun n s => W n s.1 s.2.1 s.2.2.1 s.2.2.2.1 s.2.2.2.2.1 s.2.2.2.2.2.1 s.2.2.2.2.2.2.1 s.2.2.2.2.2.2.2.1 s.2.2.2.2.2.2.2.2.1 s.2.2.2.2.2.2.2.2.2.1 s.2.2.2.2.2.2.2.2.2.2.1 s.2.2.2.2.2.2.2.2.2.2.2.1 s.2.2.2.2.2.2.2.2.2.2.2.2.1 s.2.2.2.2.2.2.2.2.2.2.2.2.2.1 s.2.2.2.2.2.2.2.2.2.2.2.2.2.2) (fun s => I s.1 s.2.1 s.2.2.1 s.2.2.2.1 s.2.2.2.2.1 s.2.2.2.2.2.1 s.2.2.2.2.2.2.1 s.2.2.2.2.2.2.2.1 s.2.2.2.2.2.2.2.2.1 s.2.2.2.2.2.2.2.2.2.1 s.2.2.2.2.2.2.2.2.2.2.1 s.2.2.2.2.2.2.2.2.2.2.2.1 s.2.2.2.2.2.2.2.2.2.2.2.2.1 s.2.2.2.2.2.2.2.2.2.2.2.2.2.1 s.2.2.2.2.2.2.2.2.2.2.2.2.2.2) (fun s => μ s.1 s.2.1 s.2.2.1 s.2.2.2.1 s.2.2.2.2.1 s.2.2.2.2.2.1 s.2.2.2.2.2.2.1 s.2.2.2.2.2.2.2.1 s.2.2.2.2.2.2.2.2.1 s.2.2.2.2.2.2.2.2.2.1 s.2.2.2.2.2.2.2.2.2.2.1 s.2.2.2.2.2.2.2.2.2.2.2.1 s.2.2.2.2.2.2.2.2.2.2.2.2.1 s.2.2.2.2.2.2.2.2.2.2.2.2.2.1 s.2.2.2.2.2.2.2.2.2.2.2.2.2.2) (fun n s hI hk => hs n s.1 s.2.1 s.2.2.1 s.2.2.2.1 s.2.2.2.2.1 s.2.2.2.2.2.1 s.2.2.2.2.2.2.1 s.2.2.2.2.2.2.2.1 s.2.2.2.2.2.2.2.2.1 s.2.2.2.2.2.2.2.2.2.1 s.2.2.2.2.2.2.2.2.2.2.1 s.2.2.2.2.2.2.2.2.2.2.2.1 s.2.2.2.2.2.2.2.2.2.2.2.2.1 s.2.2.2.2.2.2.2.2.2.2.2.2.2.1 s.2.2.2.2.2.2.2.2.2.2.2.2.2.2 hI (fun b1 b2 b3 b4 b5 b6 b7 b8 b9 b10 b11 b12 b13 b14 b15 h9 hm => hk (b1, b2, b3, b4, b5, b6, b7, b8, b9, b10, b11, b12, b13, b14, b15) h9 hm)) (a1, a2, a3, a4, a5, a6, a7, a8, a9, a10, a11, a12, a13, a14, a15) h
theorem lp16 {A1 A2 A3 A4 A5 A6 A7 A8 A9 A10 A11 A12 A13 A14 A15 A16 : Type} (W : Nat → A1 → A2 → A3 → A4 → A5 → A6 → A7 → A8 → A9 → A10 → A11 → A12 → A13 → A14 → A15 → A16 → Prop) (I : A1 → A2 → A3 → A4 → A5 → A6 → A7 → A8 → A9 → A10 → A11 → A12 → A13 → A14 → A15 → A16 → Prop) (μ : A1 → A2 → A3 → A4 → A5 → A6 → A7 → A8 → A9 → A10 → A11 → A12 → A13 → A14 → A15 → A16 → Nat) (hs : ∀ (n : Nat) (a1 : A1) (a2 : A2) (a3 : A3) (a4 : A4) (a5 : A5) (a6 : A6) (a7 : A7) (a8 : A8) (a9 : A9) (a10 : A10) (a11 : A11) (a12 : A12) (a13 : A13) (a14 : A14) (a15 : A15) (a16 : A16), I a1 a2 a3 a4 a5 a6 a7 a8 a9 a10 a11 a12 a13 a14 a15 a16 → (∀ (b1 : A1) (b2 : A2) (b3 : A3) (b4 : A4) (b5 : A5) (b6 : A6) (b7 : A7) (b8 : A8) (b9 : A9) (b10 : A10) (b11 : A11) (b12 : A12) (b13 : A13) (b14 : A14) (b15 : A15) (b16 : A16), I b1 b2 b3 b4 b5 b6 b7 b8 b9 b10 b11 b12 b13 b14 b15 b16 → μ b1 b2 b3 b4 b5 b6 b7 b8 b9 b10 b11 b12 b13 b14 b15 b16 < μ a1 a2 a3 a4 a5 a6 a7 a8 a9 a10 a11 a12 a13 a14 a15 a16 → W n b1 b2 b3 b4 b5 b6 b7 b8 b9 b10 b11 b12 b13 b14 b15 b16) → W (n + 1) a1 a2 a3 a4 a5 a6 a7 a8 a9 a10 a11 a12 a13 a14 a15 a16) (a1 : A1) (a2 : A2) (a3 : A3) (a4 : A4) (a5 : A5) (a6 : A6) (a7 : A7) (a8 : A8) (a9 : A9) (a10 : A10) (a11 : A11) (a12 : A12) (a13 : A13) (a14 : A14) (a15 : A15) (a16 : A16) (h : I a1 a2 a3 a4 a5 a6 a7 a8 a9 a10 a11 a12 a13 a14 a15 a16) : ∃ n, W n a1 a2 a3 a4 a5 a6 a7 a8 a9 a10 a11 a12 a13 a14 a15 a16 :=
  loop_m (σ := A1 × A2 × A3 × A4 × A5 × A6 × A7 × A8 × A9 × A10 × A11 × A12 × A13 × A14 × A15 × A16) (fun n s => W n s.1 s.2.1 s.2.2.1 s.2.2.2.1 s.2.2.2.2.1 s.2.2.2.2.2.1 s.2.2.2.2.2.2.1 s.2.2.2.2.2.2.2.1 s.2.2.2.2.2.2.2.2.1 s.2.2.2.2.2.2.2.2.2.1 s.2.2.2.2.2.2.2.2.2.2.1 s.2.2.2.2.2.2.2.2.2.2.2.1 s.2.2.2.2.2.2.2.2.2.2.2.2.1 s.2.2.2.2.2.2.2.2.2.2.2.2.2.1 s.2.2.2.2.2.2.2.2.2.2.2.2.2.2.1 s.2.2.2.2.2.2.2.2.2.2.2.2.2.2.2) (fun s => I s.1 s.2.1 s.2.2.1 s.2.2.2.1 s.2.2.2.2.1 s.2.2.2.2.2.1 s.2.2.2.2.2.2.1 s.2.2.2.2.2.2.2.1 s.2.2.2.2.2.2.2.2.1 s.2.2.2.2.2.2.2.2.2.1 s.2.2.2.2.2.2.2.2.2.2.1 s.2.2.2.2.2.2.2.2.2.2.2.1 s.2.2.2.2.2.2.2.2.2.2.2.2.1 s.2.2.2.2.2.2.2.2.2.2.2.2.2.1 s.2.2.2.2.2.2.2.2.2.2.2.2.2.2.1 s.2.2.2.2.2.2.2.2.2.2.2.2.2.2.2) (fun s => μ s.1 s.2.1 s.2.2.1 s.2.2.2.1 s.2.2.2.2.1 s.2.2.2.2.2.1 s.2.2.2.2.2.2.1 s.2.2.2.2.2.2.2.1 s.2.2.2.2.2.2.2.2.1 s.2.2.2.2.2.2.2.2.2.1 s.2.2.2.2.2.2.2.2.2.2.1 s.2.2.2.2.2.2.2.2.2.2.2.1 s.2.2.2.2.2.2.2.2.2.2.2.2.1 s.2.2.2.2.2.2.2.2.2.2.2.2.2.1 s.2.2.2.2.2.2.2.2.2.2.2.2.2.2.1 s.2.2.2.2.2.2.2.2.2.2.2.2.2.2.2) (fun n s hI hk => hs n s.1 s.2.1 s.2.2.1 s.2.2.2.1 s.2.2.2.2.1 s.2.2.2.2.2.1 s.2.2.2.2.2.2.1 s.2.2.2.2.2.2.2.1 s.2.2.2.2.2.2.2.2.1 s.2.2.2.2.2.2.2.2.2.1 s.2.2.2.2.2.2.2.2.2.2.1 s.2.2.2.2.2.2.2.2.2.2.2.1 s.2.2.2.2.2.2.2.2.2.2.2.2.1 s.2.2.2.2.2.2.2.2.2.2.2.2.2.1 s.2.2.2.2.2.2.2.2.2.2.2.2.2.2.1 s.2.2.2.2.2.2.2.2.2.2.2.2.2.2.2 hI (fun b1 b2 b3 b4 b5 b6 b7 b8 b9 b10 b11 b12 b13 b14 b15 b16 h9 hm => hk (b1, b2, b3, b4, b5, b6, b7, b8, b9, b10, b11, b12, b13, b14, b15, b16) h9 hm)) (a1, a2, a3, a4, a5, a6, a7, a8, a9, a10, a11, a12, a13, a14, a15, a16) h
theorem pk_least (P : Nat → Prop) (h : ∃ k, P k) : ∃ k, P k ∧ ∀ j, j < k → ¬ P j := by
  obtain ⟨k, hk⟩ := h
  induction k using Nat.strongRecOn with
  | ind k ih =>
    by_cases e : ∃ j, j < k ∧ P j
    · obtain ⟨j, hj, pj⟩ := e
      exact ih j hj pj
    · exact ⟨k, hk, fun j hj pj => e ⟨j, hj, pj⟩⟩
theorem rp1 {ρ A1 : Type} (W : Nat → (ρ → Prop) → A1 → Prop) (ok : A1 → Prop) (μ : A1 → Nat) (val : A1 → ρ)
    (hs : ∀ (d : Nat) (post : ρ → Prop) (a1 : A1), ok a1 → post (val a1) → (∀ (post' : ρ → Prop) (b1 : A1), ok b1 → μ b1 < μ a1 → post' (val b1) → W d post' b1) → W (d + 1) post a1) :
    ∀ (d : Nat) (post : ρ → Prop) (a1 : A1), ok a1 → μ a1 < d → post (val a1) → W d post a1 := by
  intro d
  induction d with
  | zero => intro post a1 _ h; omega
  | succ d ih =>
    intro post a1 ho hm hp
    exact hs d post a1 ho hp (fun post' b1 ho' hm' hp' => ih post' b1 ho' (by omega) hp')
theorem rp2 {ρ A1 A2 : Type} (W : Nat → (ρ → Prop) → A1 → A2 → Prop) (ok : A1 → A2 → Prop) (μ : A1 → A2 → Nat) (val : A1 → A2 → ρ)
    (hs : ∀ (d : Nat) (post : ρ → Prop) (a1 : A1) (a2 : A2), ok a1 a2 → post (val a1 a2) → (∀ (post' : ρ → Prop) (b1 : A1) (b2 : A2), ok b1 b2 → μ b1 b2 < μ a1 a2 → post' (val b1 b2) → W d post' b1 b2) → W (d + 1) post a1 a2) :
    ∀ (d : Nat) (post : ρ → Prop) (a1 : A1) (a2 : A2), ok a1 a2 → μ a1 a2 < d → post (val a1 a2) → W d post a1 a2 := by
  intro d
  induction d with
  | zero => intro post a1 a2 _ h; omega
  | succ d ih =>
    intro post a1 a2 ho hm hp
    exact hs d post a1 a2 ho hp (fun post' b1 b2 ho' hm' hp' => ih post' b1 b2 ho' (by omega) hp')
theorem rp3 {ρ A1 A2 A3 : Type} (W : Nat → (ρ → Prop) → A1 → A2 → A3 → Prop) (ok : A1 → A2 → A3 → Prop) (μ : A1 → A2 → A3 → Nat) (val : A1 → A2 → A3 → ρ)
    (hs : ∀ (d : Nat) (post : ρ → Prop) (a1 : A1) (a2 : A2) (a3 : A3), ok a1 a2 a3 → post (val a1 a2 a3) → (∀ (post' : ρ → Prop) (b1 : A1) (b2 : A2) (b3 : A3), ok b1 b2 b3 → μ b1 b2 b3 < μ a1 a2 a3 → post' (val b1 b2 b3) → W d post' b1 b2 b3) → W (d + 1) post a1 a2 a3) :
    ∀ (d : Nat) (post : ρ → Prop) (a1 : A1) (a2 : A2) (a3 : A3), ok a1 a2 a3 → μ a1 a2 a3 < d → post (val a1 a2 a3) → W d post a1 a2 a3 := by
  intro d
  induction d with
  | zero => intro post a1 a2 a3 _ h; omega
  | succ d ih =>
    intro post a1 a2 a3 ho hm hp
    exact hs d post a1 a2 a3 ho hp (fun post' b1 b2 b3 ho' hm' hp' => ih post' b1 b2 b3 ho' (by omega) hp')
theorem rp4 {ρ A1 A2 A3 A4 : Type} (W : Nat → (ρ → Prop) → A1 → A2 → A3 → A4 → Prop) (ok : A1 → A2 → A3 → A4 → Prop) (μ : A1 → A2 → A3 → A4 → Nat) (val : A1 → A2 → A3 → A4 → ρ)
    (hs : ∀ (d : Nat) (post : ρ → Prop) (a1 : A1) (a2 : A2) (a3 : A3) (a4 : A4), ok a1 a2 a3 a4 → post (val a1 a2 a3 a4) → (∀ (post' : ρ → Prop) (b1 : A1) (b2 : A2) (b3 : A3) (b4 : A4), ok b1 b2 b3 b4 → μ b1 b2 b3 b4 < μ a1 a2 a3 a4 → post' (val b1 b2 b3 b4) → W d post' b1 b2 b3 b4) → W (d + 1) post a1 a2 a3 a4) :
    ∀ (d : Nat) (post : ρ → Prop) (a1 : A1) (a2 : A2) (a3 : A3) (a4 : A4), ok a1 a2 a3 a4 → μ a1 a2 a3 a4 < d → post (val a1 a2 a3 a4) → W d post a1 a2 a3 a4 := by
  intro d
  induction d with
  | zero => intro post a1 a2 a3 a4 _ h; omega
  | succ d ih =>
    intro post a1 a2 a3 a4 ho hm hp
    exact hs d post a1 a2 a3 a4 ho hp (fun post' b1 b2 b3 b4 ho' hm' hp' => ih post' b1 b2 b3 b4 ho' (by omega) hp')
theorem rp5 {ρ A1 A2 A3 A4 A5 : Type} (W : Nat → (ρ → Prop) → A1 → A2 → A3 → A4 → A5 → Prop) (ok : A1 → A2 → A3 → A4 → A5 → Prop) (μ : A1 → A2 → A3 → A4 → A5 → Nat) (val : A1 → A2 → A3 → A4 → A5 → ρ)
    (hs : ∀ (d : Nat) (post : ρ → Prop) (a1 : A1) (a2 : A2) (a3 : A3) (a4 : A4) (a5 : A5), ok a1 a2 a3 a4 a5 → post (val a1 a2 a3 a4 a5) → (∀ (post' : ρ → Prop) (b1 : A1) (b2 : A2) (b3 : A3) (b4 : A4) (b5 : A5), ok b1 b2 b3 b4 b5 → μ b1 b2 b3 b4 b5 < μ a1 a2 a3 a4 a5 → post' (val b1 b2 b3 b4 b5) → W d post' b1 b2 b3 b4 b5) → W (d + 1) post a1 a2 a3 a4 a5) :
    ∀ (d : Nat) (post : ρ → Prop) (a1 : A1) (a2 : A2) (a3 : A3) (a4 : A4) (a5 : A5), ok a1 a2 a3 a4 a5 → μ a1 a2 a3 a4 a5 < d → post (val a1 a2 a3 a4 a5) → W d post a1 a2 a3 a4 a5 := by
  intro d
  induction d with
  | zero => intro post a1 a2 a3 a4 a5 _ h; omega
  | succ d ih =>
    intro post a1 a2 a3 a4 a5 ho hm hp
    exact hs d post a1 a2 a3 a4 a5 ho hp (fun post' b1 b2 b3 b4 b5 ho' hm' hp' => ih post' b1 b2 b3 b4 b5 ho' (by omega) hp')
theorem rp6 {ρ A1 A2 A3 A4 A5 A6 : Type} (W : Nat → (ρ → Prop) → A1 → A2 → A3 → A4 → A5 → A6 → Prop) (ok : A1 → A2 → A3 → A4 → A5 → A6 → Prop) (μ : A1 → A2 → A3 → A4 → A5 → A6 → Nat) (val : A1 → A2 → A3 → A4 → A5 → A6 → ρ)
    (hs : ∀ (d : Nat) (post : ρ → Prop) (a1 : A1) (a2 : A2) (a3 : A3) (a4 : A4) (a5 : A5) (a6 : A6), ok a1 a2 a3 a4 a5 a6 → post (val a1 a2 a3 a4 a5 a6) → (∀ (post' : ρ → Prop) (b1 : A1) (b2 : A2) (b3 : A3) (b4 : A4) (b5 : A5) (b6 : A6), ok b1 b2 b3 b4 b5 b6 → μ b1 b2 b3 b4 b5 b6 < μ a1 a2 a3 a4 a5 a6 → post' (val b1 b2 b3 b4 b5 b6) → W d post' b1 b2 b3 b4 b5 b6) → W (d + 1) post a1 a2 a3 a4 a5 a6) :
    ∀ (d : Nat) (post : ρ → Prop) (a1 : A1) (a2 : A2) (a3 : A3) (a4 : A4) (a5 : A5) (a6 : A6), ok a1 a2 a3 a4 a5 a6 → μ a1 a2 a3 a4 a5 a6 < d → post (val a1 a2 a3 a4 a5 a6) → W d post a1 a2 a3 a4 a5 a6 := by
  intro d
  induction d with
  | zero => intro post a1 a2 a3 a4 a5 a6 _ h; omega
  | succ d ih =>
    intro post a1 a2 a3 a4 a5 a6 ho hm hp
    exact hs d post a1 a2 a3 a4 a5 a6 ho hp (fun post' b1 b2 b3 b4 b5 b6 ho' hm' hp' => ih post' b1 b2 b3 b4 b5 b6 ho' (by omega) hp')
theorem rec_p {σ ρ : Type} (W : Nat → (ρ → Prop) → σ → Prop) (ok : σ → Prop) (μ : σ → Nat) (val : σ → ρ)
    (hs : ∀ d s post, ok s → post (val s) → (∀ s' post', ok s' → μ s' < μ s → post' (val s') → W d post' s') → W (d + 1) post s) :
    ∀ d s post, ok s → μ s < d → post (val s) → W d post s := by
  intro d
  induction d with
  | zero => intro s post _ h; omega
  | succ d ih =>
    intro s post ho hm hp
    exact hs d s post ho hp (fun s' post' ho' hm' hp' => ih s' post' ho' (by omega) hp')
theorem rec_q {σ ρ : Type} (W : Nat → (ρ → Prop) → σ → Prop) (ok : σ → Prop) (μ : σ → Nat) (Q : σ → ρ → Prop)
    (hs : ∀ d s post, ok s → (∀ r, Q s r → post r) → (∀ s' post', ok s' → μ s' < μ s → (∀ r, Q s' r → post' r) → W d post' s') → W (d + 1) post s) :
    ∀ d s post, ok s → μ s < d → (∀ r, Q s r → post r) → W d post s := by
  intro d
  induction d with
  | zero => intro s post _ h; omega
  | succ d ih =>
    intro s post ho hm hp
    exact hs d s post ho hp (fun s' post' ho' hm' hp' => ih s' post' ho' (by omega) hp')
def bx_sum (f : Nat → Int32) : Nat → Int32
  | 0 => 0
  | n + 1 => bx_sum f n + f n
theorem ek_u {A : Prop} {B : Nat → Prop} {k N : Nat} (hk : k < N) (h : B k) : (some k = none → A) ∧ (∀ y : Nat, some k = some y → (y < N ∧ B y)) :=
  ⟨fun z => absurd z (Option.some_ne_none k), fun _ e => (by cases e; exact ⟨hk, h⟩)⟩
theorem ek_nu {A : Prop} {B : Nat → Prop} (h : A) : ((none : Option Nat) = none → A) ∧ (∀ y : Nat, (none : Option Nat) = some y → B y) :=
  ⟨fun _ => h, fun _ e => (by cases e)⟩
theorem ek_if {c d A B : Prop} (e : c ↔ d) (f : d → A) (g : ¬ d → B) : (c → A) ∧ (¬ c → B) :=
  ⟨fun z => f (e.mp z), fun z => g (fun y => z (e.mpr y))⟩
theorem ek_v {α : Sort _} {P : α → Prop} {a b : α} (e : a = b) (h : P b) : P a := e ▸ h
theorem co_some {x : Option Nat} {A : Prop} {B : Nat → Prop} (i : Nat) (h : B i) (hx : x = some i := by rfl) : (x = none → A) ∧ (∀ y : Nat, x = some y → B y) := by
  subst hx
  exact ⟨fun e => (nomatch e), fun y e => Option.some.inj e ▸ h⟩
theorem co_none {x : Option Nat} {A : Prop} {B : Nat → Prop} (h : A) (hx : x = none := by rfl) : (x = none → A) ∧ (∀ y : Nat, x = some y → B y) := by
  subst hx
  exact ⟨fun _ => h, fun y e => (nomatch e)⟩
theorem co_any {x : Option Nat} {A : Prop} {B : Nat → Prop} (hn : x = none → A) (hs : ∀ i : Nat, x = some i → B i) : (x = none → A) ∧ (∀ y : Nat, x = some y → B y) := ⟨hn, hs⟩
theorem co_2 {P : Nat → Prop} (h0 : P 0) (h1 : P 1) {i : Nat} (hi : i < 2) : P i :=
  match i, hi with
  | 0, _ => h0
  | 1, _ => h1
theorem co_3 {P : Nat → Prop} (h0 : P 0) (h1 : P 1) (h2 : P 2) {i : Nat} (hi : i < 3) : P i :=
  match i, hi with
  | 0, _ => h0
  | 1, _ => h1
  | 2, _ => h2
theorem co_4 {P : Nat → Prop} (h0 : P 0) (h1 : P 1) (h2 : P 2) (h3 : P 3) {i : Nat} (hi : i < 4) : P i :=
  match i, hi with
  | 0, _ => h0
  | 1, _ => h1
  | 2, _ => h2
  | 3, _ => h3
theorem co_dec {N : Nat} {P : Nat → Prop} [DecidablePred P] (h : (List.range N).all (fun i => decide (P i)) = true) {i : Nat} (hi : i < N) : P i := by
  have := List.all_eq_true.mp h i (List.mem_range.mpr hi)
  exact of_decide_eq_true this
theorem co_tab {α : Type} {l : List α} {d : α} {P : α → Prop} (h : ∀ a, a ∈ l → P a) {i : Nat} (hi : i < l.length) : P (l.getD i d) := by
  rw [List.getD_eq_getElem?_getD, List.getElem?_eq_getElem hi]
  exact h _ (List.getElem_mem hi)
theorem pk_mu {x : Int32} {L : Nat} (h0 : ¬ x < 0) (h : ¬ nI L ≤ x) (hL : L < 2 ^ 31) : ∃ j : Nat, j < L ∧ x = nI j ∧ x + 1 = nI (j + 1) ∧ x.toNatClampNeg = j ∧ L - (x + 1).toNatClampNeg < L - x.toNatClampNeg := by
  obtain ⟨j, hj, rfl⟩ := nI_of h0
  have hl : j < L := Nat.not_le.mp fun q => h (nI_le q hj)
  refine ⟨j, hl, rfl, nI_1 j, nI_clamp hj, ?_⟩
  rw [nI_1, nI_clamp (by omega), nI_clamp hj]
  omega
theorem op_s {α : Type} {r : Option α} {A : Prop} {B : α → Prop} {y : α} (h : r = some y) (b : B y) : (r = none → A) ∧ ∀ z, r = some z → B z :=
  ⟨fun e => (by rw [h] at e; cases e), fun z e => (by rw [h] at e; cases e; exact b)⟩
def l_holds {α : Type} (a : Nat → Option Nat) (LP : List Nat) (p : Nat → α) (c : Nat) (b : Nat → α) : Prop :=
  ∀ j, j < c → ∃ y, a j = some y ∧ y ∈ LP ∧ p y = b j
theorem l_holds_0 {α : Type} {a : Nat → Option Nat} {LP : List Nat} {p b : Nat → α} : l_holds a LP p 0 b := fun j h => absurd h (Nat.not_lt_zero j)
theorem l_in_new (LP : List Nat) (q : Nat) : q ∈ LP ++ [q] := List.mem_append.mpr (Or.inr (List.mem_singleton.mpr rfl))
def l_sum (b : Nat → Int32) : Nat → Int32
  | 0 => 0
  | k + 1 => l_sum b k + b k
theorem sb_shr0 (x : Int32) : x >>> ((0 : Int32) &&& 31) = x := by
  rw [show ((0 : Int32) &&& 31) = 0 by decide]
  simp
theorem sb_shl0 (x : Int32) : x <<< ((0 : Int32) &&& 31) = x := by
  rw [show ((0 : Int32) &&& 31) = 0 by decide]
  simp
theorem sb_cl0 : (0 : Int32).toNatClampNeg = 0 := by decide
theorem sb_m1 {p : Nat} (h : 0 < p) : nI p + (-1) = nI (p - 1) := by
  obtain ⟨q, rfl⟩ : ∃ q, p = q + 1 := ⟨p - 1, by omega⟩
  exact pk_m1 q
def sb_b (c : Nat) : Int32 := (nI c).toInt8.toInt32
theorem sb_byte : ∀ c, c < 256 → sb_b c &&& 255 = nI c ∧ ((nI c).toUInt32 % 65536).toInt32 = nI c ∧ nI c ≤ 255 := by decide +kernel
def sb_Fit (a : Nat → Int32) : Prop := ∀ j, fits .byte (.int (a j)) = true
def sb_Lat (t : Nat → Nat) (n : Nat) (a : Nat → Int32) : Prop := ∀ j, j < n → t j < 256 ∧ a j = sb_b (t j)
theorem sb_fitB (c : Nat) : fits .byte (.int (sb_b c)) = true := pk_fb _
theorem sb_fit0 : sb_Fit (fun _ => 0) := fun _ => by
  show fits .byte (.int 0) = true
  decide
theorem sb_fitU {a : Nat → Int32} {k : Nat} {x : Int32} (h : sb_Fit a) (hx : fits .byte (.int x) = true) : sb_Fit (upd a k x) := by
  intro j
  by_cases e : j = k
  · subst e
    rw [pk_us]
    exact hx
  · rw [pk_un e]
    exact h j
def sb_cat (t : Nat → Nat) (n : Nat) (s : Nat → Nat) : Nat → Nat := fun j => if j < n then t j else s (j - n)
theorem sb_cat_lo {t s : Nat → Nat} {n j : Nat} (h : j < n) : sb_cat t n s j = t j := if_pos h
theorem sb_cat_hi {t s : Nat → Nat} {n j : Nat} : sb_cat t n s (n + j) = s j := by
  show (if n + j < n then t (n + j) else s (n + j - n)) = s j
  rw [if_neg (by omega), Nat.add_sub_cancel_left]
theorem sb_latPut {t s : Nat → Nat} {n w : Nat} {a a' : Nat → Int32} (h : sb_Lat t n a) (hk : ∀ j, j < n → a' j = a j) (hs : ∀ i, i < w → s i < 256 ∧ a' (n + i) = sb_b (s i)) : sb_Lat (sb_cat t n s) (n + w) a' := by
  intro j hj
  by_cases e : j < n
  · rw [sb_cat_lo e, hk j e]
    exact h j e
  · obtain ⟨i, rfl⟩ : ∃ i, j = n + i := ⟨j - n, by omega⟩
    rw [sb_cat_hi]
    exact hs i (by omega)
theorem sb_latKeep {t : Nat → Nat} {n : Nat} {a a' : Nat → Int32} (h : sb_Lat t n a) (hk : ∀ j, j < n → a' j = a j) : sb_Lat t n a' := fun j hj => by
  rw [hk j hj]
  exact h j hj
def sb_cap (q m : Nat) : Nat := if q ≤ m then m else if 2 * m + 2 < q then q else 2 * m + 2
def sb_Room (q m mc ms : Nat) : Prop := q ≤ m ∨ (1 ≤ mc ∧ sb_cap q m ≤ ms ∧ sb_cap q m ≤ 65536)
theorem sb_cap_ge (q m : Nat) : q ≤ sb_cap q m := by
  unfold sb_cap
  split
  · omega
  · split <;> omega
theorem sb_cap_gem (q m : Nat) : m ≤ sb_cap q m := by
  unfold sb_cap
  split
  · omega
  · split <;> omega
theorem sb_cap_le {q m mc ms : Nat} (hm : m ≤ 65536) (hr : sb_Room q m mc ms) : sb_cap q m ≤ 65536 := by
  rcases hr with h | h
  · rw [sb_cap, if_pos h]
    exact hm
  · exact h.2.2
theorem sb_at {P : Int32 → Prop} {x y : Int32} (e : x = y) (h : P y) : P x := e ▸ h
def sb_dg (w : Nat) : Nat := if w < 10 then 1 else if w < 100 then 2 else if w < 1000 then 3 else if w < 10000 then 4 else if w < 100000 then 5 else if w < 1000000 then 6 else if w < 10000000 then 7 else if w < 100000000 then 8 else if w < 1000000000 then 9 else 10
def sb_dec (v : Nat) : Nat → Nat := fun i => 48 + v / 10 ^ (sb_dg v - 1 - i) % 10
theorem sb_dg_in (w : Nat) : 1 ≤ sb_dg w ∧ sb_dg w ≤ 10 := by
  unfold sb_dg
  constructor <;> (repeat' split) <;> omega
theorem sb_dg100 {w : Nat} (h : 100 ≤ w) (hw : w < 2 ^ 31) : sb_dg w = sb_dg (w / 100) + 2 := by
  rw [sb_dg, sb_dg, if_neg (show ¬ w < 10 by omega), if_neg (show ¬ w < 100 by omega)]
  by_cases h3 : w < 1000
  · rw [if_pos h3, if_pos (show w / 100 < 10 by omega)]
  rw [if_neg h3, if_neg (show ¬ w / 100 < 10 by omega)]
  by_cases h4 : w < 10000
  · rw [if_pos h4, if_pos (show w / 100 < 100 by omega)]
  rw [if_neg h4, if_neg (show ¬ w / 100 < 100 by omega)]
  by_cases h5 : w < 100000
  · rw [if_pos h5, if_pos (show w / 100 < 1000 by omega)]
  rw [if_neg h5, if_neg (show ¬ w / 100 < 1000 by omega)]
  by_cases h6 : w < 1000000
  · rw [if_pos h6, if_pos (show w / 100 < 10000 by omega)]
  rw [if_neg h6, if_neg (show ¬ w / 100 < 10000 by omega)]
  by_cases h7 : w < 10000000
  · rw [if_pos h7, if_pos (show w / 100 < 100000 by omega)]
  rw [if_neg h7, if_neg (show ¬ w / 100 < 100000 by omega)]
  by_cases h8 : w < 100000000
  · rw [if_pos h8, if_pos (show w / 100 < 1000000 by omega)]
  rw [if_neg h8, if_neg (show ¬ w / 100 < 1000000 by omega)]
  by_cases h9 : w < 1000000000
  · rw [if_pos h9, if_pos (show w / 100 < 10000000 by omega)]
  rw [if_neg h9, if_neg (show ¬ w / 100 < 10000000 by omega)]
  rw [if_pos (show w / 100 < 100000000 by omega)]
theorem sb_negT {w : Nat} (h : w < 2 ^ 31) : (-nI w).toInt = -(w : Int) := by
  rw [Int32.toInt_neg, nI_toInt h]
  exact Int.bmod_eq_of_le (by omega) (by omega)
theorem sb_nle {a b : Nat} (ha : a < 2 ^ 31) (hb : b < 2 ^ 31) : -nI a ≤ -nI b ↔ b ≤ a := by
  rw [Int32.le_iff_toInt_le, sb_negT ha, sb_negT hb]
  omega
theorem sb_nlt {a b : Nat} (ha : a < 2 ^ 31) (hb : b < 2 ^ 31) : -nI a < -nI b ↔ b < a := by
  rw [Int32.lt_iff_toInt_lt, sb_negT ha, sb_negT hb]
  omega
theorem sb_cmp {A B : Prop} {x : Int32} (v c : Nat) (f : c ≤ v → A) (g : v < c → B) (hv : v < 2 ^ 31) (hx : x = -nI c := by rfl) (hc : c < 2 ^ 31 := by omega) : (-nI v ≤ x → A) ∧ (¬ -nI v ≤ x → B) := by
  subst hx
  rw [sb_nle hv hc]
  exact ⟨f, fun z => g (by omega)⟩
theorem sb_ndiv {w : Nat} (hw : w < 2 ^ 31) : (-nI w) / 100 = -nI (w / 100) := by
  apply Int32.toInt_inj.mp
  have h100 : (100 : Int32).toInt = 100 := by decide
  rw [Int32.toInt_div, sb_negT hw, h100, sb_negT (by omega), Int.neg_tdiv, Int.tdiv_eq_ediv_of_nonneg (by omega), Int.bmod_eq_of_le (by omega) (by omega)]
  omega
theorem sb_nrem {w : Nat} (hw : w < 2 ^ 31) : (-nI (w / 100)) * 100 - (-nI w) = nI (w % 100) := by
  have h := pk_rem (a := w) (d := 100) hw (by decide) (by decide)
  rw [pk_div hw (by decide) (by decide)] at h
  rw [← h]
  show (-nI (w / 100)) * nI 100 - (-nI w) = nI w - nI (w / 100) * nI 100
  rw [Int32.neg_mul, Int32.sub_neg, Int32.add_comm, ← Int32.sub_eq_add_neg]
end
section
/-! rows on bits, shifts and unsigned numbers, to paste: each family out of a closed proof of our own, whole with what it rests on; each by itself clean at Lean in its own claim (generation 39, form 5). Take a family whole -/
/-! ===== Int32 by its bits: bt x i ===== -/
def bt (x : Int32) (i : Nat) : Bool := x.toBitVec.getLsbD i
theorem b_ext {x y : Int32} (h : ∀ i, i < 32 → bt x i = bt y i) : x = y := Int32.toBitVec_inj.mp (BitVec.eq_of_getLsbD_eq (fun i hi => h i hi))
theorem b_or (x y : Int32) (i : Nat) : bt (x ||| y) i = (bt x i || bt y i) := by unfold bt; rw [Int32.toBitVec_or, BitVec.getLsbD_or]
theorem b_and (x y : Int32) (i : Nat) : bt (x &&& y) i = (bt x i && bt y i) := by unfold bt; rw [Int32.toBitVec_and, BitVec.getLsbD_and]
theorem b_xor (x y : Int32) (i : Nat) : bt (x ^^^ y) i = (bt x i ^^ bt y i) := by unfold bt; rw [Int32.toBitVec_xor, BitVec.getLsbD_xor]
theorem b_big {x : Int32} {i : Nat} (h : 32 ≤ i) : bt x i = false := BitVec.getLsbD_of_ge _ _ h
theorem b_255 (i : Nat) : bt 255 i = decide (i < 8) := by
  rcases Nat.lt_or_ge i 32 with h | h
  · exact (by decide +kernel : ∀ i, i < 32 → bt 255 i = decide (i < 8)) i h
  · rw [b_big h, decide_eq_false (by omega)]
theorem b_65535 (i : Nat) : bt 65535 i = decide (i < 16) := by
  rcases Nat.lt_or_ge i 32 with h | h
  · exact (by decide +kernel : ∀ i, i < 32 → bt 65535 i = decide (i < 16)) i h
  · rw [b_big h, decide_eq_false (by omega)]
theorem b_m1 : ∀ i, i < 32 → bt (-1) i = true := by decide +kernel
theorem b_0 (i : Nat) : bt 0 i = false := BitVec.getLsbD_zero
theorem s_l : ∀ n, n < 32 → ((nI n &&& 31).toBitVec.smod 32).toNat = n := by decide +kernel
theorem s_u : ∀ n, n < 32 → (((nI n).toUInt32 &&& Int32.toUInt32 31).toBitVec % 32).toNat = n := by decide +kernel
theorem b_shl (n : Nat) (hn : n < 32) (x : Int32) {i : Nat} (hi : i < 32) : bt (x <<< (nI n &&& 31)) i = (decide (n ≤ i) && bt x (i - n)) := by
  unfold bt
  rw [Int32.toBitVec_shiftLeft]
  show (x.toBitVec <<< ((nI n &&& 31).toBitVec.smod 32).toNat).getLsbD i = _
  rw [s_l n hn, BitVec.getLsbD_shiftLeft]
  rcases Nat.lt_or_ge i n with h | h
  · simp [h, Nat.not_le.mpr h]
  · simp [hi, h, Nat.not_lt.mpr h]
theorem b_ushr (n : Nat) (hn : n < 32) (x : Int32) (i : Nat) : bt ((x.toUInt32 >>> ((nI n).toUInt32 &&& Int32.toUInt32 31)).toInt32) i = bt x (n + i) := by
  show (x.toUInt32 >>> ((nI n).toUInt32 &&& Int32.toUInt32 31)).toBitVec.getLsbD i = x.toUInt32.toBitVec.getLsbD (n + i)
  rw [UInt32.toBitVec_shiftRight]
  show (x.toUInt32.toBitVec >>> (((nI n).toUInt32 &&& Int32.toUInt32 31).toBitVec % 32).toNat).getLsbD i = _
  rw [s_u n hn, BitVec.getLsbD_ushiftRight]
theorem b_sshr (n : Nat) (hn : n < 32) (x : Int32) {i : Nat} (hi : i < 32) : bt (x >>> (nI n &&& 31)) i = if n + i < 32 then bt x (n + i) else bt x 31 := by
  unfold bt
  rw [Int32.toBitVec_shiftRight]
  show (x.toBitVec.sshiftRight ((nI n &&& 31).toBitVec.smod 32).toNat).getLsbD i = _
  rw [s_l n hn, BitVec.getLsbD_sshiftRight, BitVec.msb_eq_getLsbD_last]
  simp [hi]
theorem b_shl8 (x : Int32) {i : Nat} (hi : i < 32) : bt (x <<< ((8 : Int32) &&& 31)) i = (decide (8 ≤ i) && bt x (i - 8)) := b_shl 8 (by omega) x hi
theorem b_shl16 (x : Int32) {i : Nat} (hi : i < 32) : bt (x <<< ((16 : Int32) &&& 31)) i = (decide (16 ≤ i) && bt x (i - 16)) := b_shl 16 (by omega) x hi
theorem b_shl24 (x : Int32) {i : Nat} (hi : i < 32) : bt (x <<< ((24 : Int32) &&& 31)) i = (decide (24 ≤ i) && bt x (i - 24)) := b_shl 24 (by omega) x hi
theorem b_sshr8 (x : Int32) {i : Nat} (hi : i < 32) : bt (x >>> ((8 : Int32) &&& 31)) i = if 8 + i < 32 then bt x (8 + i) else bt x 31 := b_sshr 8 (by omega) x hi
/-! ===== nI under and, xor, >>>, one bit, 65535 ===== -/
theorem nx_and (a b : Nat) : nI a &&& nI b = nI (a &&& b) := by
  apply Int32.toBitVec_inj.1
  show BitVec.ofNat 32 a &&& BitVec.ofNat 32 b = BitVec.ofNat 32 (a &&& b)
  apply BitVec.eq_of_getLsbD_eq
  intro i hi
  simp [hi]
theorem nx_xor (a b : Nat) : nI a ^^^ nI b = nI (a ^^^ b) := by
  apply Int32.toBitVec_inj.1
  show BitVec.ofNat 32 a ^^^ BitVec.ofNat 32 b = BitVec.ofNat 32 (a ^^^ b)
  apply BitVec.eq_of_getLsbD_eq
  intro i hi
  simp [hi]
theorem nx_cnt : ∀ j : Fin 32, (UInt32.ofNat j.val &&& Int32.toUInt32 31).toNat % 32 = j.val := by decide +kernel
theorem nx_ush {k j : Nat} (hk : k < 65536) (hj : j < 32) : ((nI k).toUInt32 >>> ((nI j).toUInt32 &&& Int32.toUInt32 31)).toInt32 = nI (k >>> j) := by
  have hs : k >>> j ≤ k := by
    rw [Nat.shiftRight_eq_div_pow]
    exact Nat.div_le_self _ _
  have e2 : UInt32.ofNat k >>> (UInt32.ofNat j &&& Int32.toUInt32 31) = UInt32.ofNat (k >>> j) := by
    apply UInt32.toNat_inj.1
    have h1 : (UInt32.ofNat k).toNat = k := Nat.mod_eq_of_lt (by omega)
    have h2 : (UInt32.ofNat (k >>> j)).toNat = k >>> j := Nat.mod_eq_of_lt (by omega)
    rw [UInt32.toNat_shiftRight, nx_cnt ⟨j, hj⟩, h1, h2]
  show (UInt32.ofNat k >>> (UInt32.ofNat j &&& Int32.toUInt32 31)).toInt32 = _
  rw [e2]
  rfl
theorem nx_bit {k j : Nat} (hk : k < 65536) (hj : j < 16) : (((nI k).toUInt32 >>> ((nI j).toUInt32 &&& Int32.toUInt32 31)).toInt32 &&& 1) = 0 ↔ k.testBit j = false := by
  rw [nx_ush hk (by omega)]
  show nI (k >>> j) &&& nI 1 = 0 ↔ _
  rw [nx_and, Nat.and_one_is_mod, ← nI_0, nI_eq (by omega) (by omega), Nat.testBit_eq_decide_div_mod_eq, Nat.shiftRight_eq_div_pow, decide_eq_false_iff_not]
  generalize k / 2 ^ j = z
  omega
theorem nx_mod (k : Nat) : nI k &&& 65535 = nI (k % 65536) := by
  show nI k &&& nI 65535 = _
  rw [nx_and, show (65535 : Nat) = 2 ^ 16 - 1 from rfl, Nat.and_two_pow_sub_one_eq_mod]
theorem nx_m16 {k : Nat} (h : k < 65536) : nI k &&& 65535 = nI k := by rw [nx_mod, Nat.mod_eq_of_lt h]
theorem nx_mask (x : Int32) : ∃ k, k < 65536 ∧ x &&& 65535 = nI k := by
  have e : x = nI x.toBitVec.toNat := by
    apply Int32.toBitVec_inj.1
    show x.toBitVec = BitVec.ofNat 32 x.toBitVec.toNat
    simp
  refine ⟨x.toBitVec.toNat % 65536, Nat.mod_lt _ (by omega), ?_⟩
  rw [← nx_mod, ← e]
/-! ===== Int32 as a set of bits: test, set ===== -/
def nf_M (m : Int32) : Nat := 4294967296 - m.toBitVec.toNat
theorem nf_sh : ∀ l, l < 32 → ((1 : Int32) <<< (nI l &&& 31)).toBitVec = BitVec.twoPow 32 l := by decide +kernel
theorem nf_sl : ∀ l, l < 32 → (((nI l).toUInt32 &&& Int32.toUInt32 31).toBitVec % 32).toNat = l := by decide +kernel
theorem nf_tp : ∀ l, l < 32 → BitVec.twoPow 32 l ≠ 0#32 := by decide +kernel
theorem nf_bit (m : Int32) (l : Nat) (hl : l < 32) : ((m.toUInt32 >>> ((nI l).toUInt32 &&& Int32.toUInt32 31)).toInt32 &&& 1) = 0 ↔ (m &&& ((1 : Int32) <<< (nI l &&& 31))) = 0 := by
  have e : ((m.toUInt32 >>> ((nI l).toUInt32 &&& Int32.toUInt32 31)).toInt32).toBitVec = m.toBitVec >>> l := by
    show m.toBitVec >>> (((nI l).toUInt32 &&& Int32.toUInt32 31).toBitVec % 32) = m.toBitVec >>> l
    rw [BitVec.ushiftRight_eq', nf_sl l hl]
  rw [← Int32.toBitVec_inj, ← Int32.toBitVec_inj, Int32.toBitVec_and, Int32.toBitVec_and, nf_sh l hl, e, BitVec.and_twoPow]
  show (m.toBitVec >>> l &&& 1#32) = 0#32 ↔ _ = 0#32
  rw [BitVec.and_one_eq_setWidth_ofBool_getLsbD, BitVec.getLsbD_ushiftRight, Nat.add_zero]
  cases hb : m.toBitVec.getLsbD l
  · exact ⟨fun _ => by simp, fun _ => by decide⟩
  · exact ⟨fun z => absurd z (by decide), fun z => absurd ((if_pos rfl).symm.trans z) (nf_tp l hl)⟩
theorem nf_gr (m k : Int32) (h : m &&& k = 0) (hk : k ≠ 0) : nf_M (m ||| k) < nf_M m := by
  have hm := m.toBitVec.isLt
  have hm' := (m ||| k).toBitVec.isLt
  have h1 : m.toBitVec.toNat ≤ (m ||| k).toBitVec.toNat := by
    rw [Int32.toBitVec_or, BitVec.toNat_or]
    exact Nat.left_le_or
  have h2 : m.toBitVec.toNat ≠ (m ||| k).toBitVec.toNat := by
    intro e
    have e2 : m = m ||| k := Int32.toBitVec_inj.mp (BitVec.eq_of_toNat_eq e)
    apply hk
    apply Int32.toBitVec_inj.mp
    show k.toBitVec = 0#32
    apply BitVec.eq_of_getLsbD_eq
    intro i hi
    have a : m.toBitVec.getLsbD i = (m.toBitVec.getLsbD i || k.toBitVec.getLsbD i) := by rw [← BitVec.getLsbD_or, ← Int32.toBitVec_or, ← e2]
    have b : (m.toBitVec.getLsbD i && k.toBitVec.getLsbD i) = false := by
      rw [← BitVec.getLsbD_and, ← Int32.toBitVec_and, h]
      exact BitVec.getLsbD_zero
    rw [BitVec.getLsbD_zero]
    revert a b
    cases m.toBitVec.getLsbD i <;> cases k.toBitVec.getLsbD i <;> simp
  unfold nf_M
  omega
/-! ===== a byte read unsigned ===== -/
theorem bp_b (x : Int32) : x.toInt8.toInt32 &&& 255 = x &&& 255 := by
  apply Int32.toBitVec_inj.mp
  rw [Int32.toBitVec_and, Int32.toBitVec_and, Int8.toBitVec_toInt32, Int32.toBitVec_toInt8]
  apply BitVec.eq_of_getLsbD_eq
  intro i hi
  rw [BitVec.getLsbD_and, BitVec.getLsbD_and]
  have hm : ∀ i < 32, 8 ≤ i → (255 : Int32).toBitVec.getLsbD i = false := by decide
  rcases Nat.lt_or_ge i 8 with z | z
  · rw [BitVec.getLsbD_signExtend, BitVec.getLsbD_signExtend, if_pos z, if_pos hi]
    simp only [z, hi, decide_true, Bool.true_and]
  · rw [hm i hi z]; simp
/-! ===== the char cast and 65535 ===== -/
theorem em_w (v : Int32) : ∃ w : Nat, w < 65536 ∧ (v.toUInt32 % 65536).toInt32 = nI w ∧ v &&& 65535 = nI w := by
  have hr := lw_u16_r v
  have h0 : (0 : Int32).toInt = 0 := by decide
  obtain ⟨w, h1, h2⟩ := nI_of (x := lw_u16 v) (by rw [Int32.lt_iff_toInt_lt]; omega)
  have h3 : (v.toUInt32 % 65536).toInt32 = nI w := h2
  rw [h2, nI_toInt h1] at hr
  exact ⟨w, by omega, h3, by rw [← lg_i2c_mask, ← lg_i2c_nf, h3]⟩
/-! ===== Int64 as a set of bits: test, set, clear ===== -/
theorem ts_nf {x : Bool} (h : ¬ x = false) : x = true := by cases x <;> first | rfl | exact absurd rfl h
theorem ts_nt {x : Bool} (h : ¬ x = true) : x = false := by cases x <;> first | rfl | exact absurd rfl h
theorem ts_bit {w : Int64} {s : UInt64} {j : Nat} (hj : j < 64) (hs : s.toNat = j) : ((w.toUInt64 >>> s).toInt64 &&& 1) = 0 ↔ w.toBitVec.getLsbD j = false := by
  have e : (w.toUInt64 >>> s).toInt64.toBitVec = w.toBitVec >>> j := by
    apply BitVec.eq_of_toNat_eq
    show (w.toUInt64 >>> s).toNat = _
    rw [UInt64.toNat_shiftRight, hs, Nat.mod_eq_of_lt hj, BitVec.toNat_ushiftRight]
    rfl
  rw [← Int64.toBitVec_inj, Int64.toBitVec_and, e]
  show w.toBitVec >>> j &&& 1#64 = 0#64 ↔ _
  constructor
  · intro h
    have t := congrArg (fun x => x.getLsbD 0) h
    simpa using t
  · intro h
    apply BitVec.eq_of_getLsbD_eq
    intro i hi
    cases i with
    | zero => simp [h]
    | succ i => simp
theorem ts_or {w m : Int64} {j : Nat} (hj : j < 64) (hm : m.toBitVec = BitVec.twoPow 64 j) : (w ||| m) = w ↔ w.toBitVec.getLsbD j = true := by
  rw [← Int64.toBitVec_inj, Int64.toBitVec_or, hm]
  constructor
  · intro h
    have t := congrArg (fun x => x.getLsbD j) h
    simp only [BitVec.getLsbD_or, BitVec.getLsbD_twoPow] at t
    simpa [hj] using t.symm
  · intro h
    apply BitVec.eq_of_getLsbD_eq
    intro i hi
    rw [BitVec.getLsbD_or, BitVec.getLsbD_twoPow]
    by_cases e : j = i
    · subst e; rw [h, Bool.true_or]
    · simp [e]
theorem ts_and {w m : Int64} {j : Nat} (hj : j < 64) (hm : m.toBitVec = BitVec.twoPow 64 j) : (w &&& (m ^^^ (-1))) = w ↔ w.toBitVec.getLsbD j = false := by
  have ha : (-1 : Int64).toBitVec = BitVec.allOnes 64 := by decide
  rw [← Int64.toBitVec_inj, Int64.toBitVec_and, Int64.toBitVec_xor, hm, ha]
  constructor
  · intro h
    have t := congrArg (fun x => x.getLsbD j) h
    simp only [BitVec.getLsbD_and, BitVec.getLsbD_xor, BitVec.getLsbD_twoPow, BitVec.getLsbD_allOnes] at t
    simpa [hj] using t.symm
  · intro h
    apply BitVec.eq_of_getLsbD_eq
    intro i hi
    rw [BitVec.getLsbD_and, BitVec.getLsbD_xor, BitVec.getLsbD_twoPow, BitVec.getLsbD_allOnes]
    by_cases e : j = i
    · subst e; rw [h, Bool.false_and]
    · simp [e, hi]
/-! ===== lN n to 2^64: shifts, and, or, masks, one bit ===== -/
theorem wb_tb (n : Nat) : (lN n).toBitVec = BitVec.ofNat 64 n := rfl
theorem wb_inj {a b : Int64} (h : a.toBitVec = b.toBitVec) : a = b := Int64.toBitVec_inj.mp h
theorem wb_tn {n : Nat} (h : n < 2 ^ 64) : (lN n).toBitVec.toNat = n := by rw [wb_tb, BitVec.toNat_ofNat, Nat.mod_eq_of_lt h]
theorem wb_of (x : Int64) : ∃ n, n < 2 ^ 64 ∧ x = lN n := ⟨x.toBitVec.toNat, x.toBitVec.isLt, wb_inj (by rw [wb_tb]; simp)⟩
theorem wb_of32 (x : Int32) : ∃ n, n < 2 ^ 32 ∧ x = nI n := ⟨x.toBitVec.toNat, x.toBitVec.isLt, Int32.toBitVec_inj.mp (by show _ = BitVec.ofNat 32 _; simp)⟩
theorem wb_c : ∀ k, k < 64 → ((nI k).toInt64 &&& 63) = lN k := by decide +kernel
theorem wb_cu : ∀ k, k < 64 → ((nI k).toInt64.toUInt64 &&& Int64.toUInt64 63) = UInt64.ofNat k := by decide +kernel
theorem wb_sm : ∀ k, k < 64 → (BitVec.ofNat 64 k).smod 64 = BitVec.ofNat 64 k := by decide +kernel
theorem wb_pw {a b : Nat} (h : a ≤ b) : 2 ^ b = 2 ^ a * 2 ^ (b - a) := by rw [← Nat.pow_add]; congr 1; omega
theorem wb_lt2 {a b : Nat} (h : a < b) : 2 ^ a < 2 ^ b := Nat.pow_lt_pow_right (by decide) h
theorem wb_mod (n : Nat) : lN n = lN (n % 2 ^ 64) := wb_inj (by rw [wb_tb, wb_tb]; apply BitVec.eq_of_toNat_eq; rw [BitVec.toNat_ofNat, BitVec.toNat_ofNat, Nat.mod_mod])
theorem wb_shr {n k : Nat} (hn : n < 2 ^ 64) (hk : k < 64) : ((lN n).toUInt64 >>> ((nI k).toInt64.toUInt64 &&& Int64.toUInt64 63)).toInt64 = lN (n / 2 ^ k) := by
  rw [wb_cu k hk]
  apply wb_inj
  apply BitVec.eq_of_toNat_eq
  show ((lN n).toUInt64 >>> UInt64.ofNat k).toNat = (BitVec.ofNat 64 _).toNat
  have h1 : (UInt64.ofNat k).toNat = k := by
    show (BitVec.ofNat 64 k).toNat = k
    rw [BitVec.toNat_ofNat, Nat.mod_eq_of_lt (by omega)]
  have h2 : (lN n).toUInt64.toNat = n := wb_tn hn
  rw [UInt64.toNat_shiftRight, h1, h2, Nat.mod_eq_of_lt hk, Nat.shiftRight_eq_div_pow, BitVec.toNat_ofNat, Nat.mod_eq_of_lt (Nat.lt_of_le_of_lt (Nat.div_le_self _ _) hn)]
theorem wb_shl (n : Nat) {k : Nat} (hk : k < 64) : lN n <<< ((nI k).toInt64 &&& 63) = lN (n * 2 ^ k) := by
  rw [wb_c k hk]
  apply wb_inj
  rw [Int64.toBitVec_shiftLeft, wb_tb, wb_tb, wb_tb, wb_sm k hk]
  apply BitVec.eq_of_toNat_eq
  rw [BitVec.shiftLeft_eq', BitVec.toNat_shiftLeft, BitVec.toNat_ofNat, BitVec.toNat_ofNat, BitVec.toNat_ofNat, Nat.mod_eq_of_lt (show k < 2 ^ 64 by omega), Nat.shiftLeft_eq, Nat.mul_mod, Nat.mod_mod, ← Nat.mul_mod]
theorem wb_and {a b : Nat} (ha : a < 2 ^ 64) (hb : b < 2 ^ 64) : lN a &&& lN b = lN (a &&& b) := by
  apply wb_inj
  rw [Int64.toBitVec_and, wb_tb, wb_tb, wb_tb]
  apply BitVec.eq_of_toNat_eq
  rw [BitVec.toNat_and, BitVec.toNat_ofNat, BitVec.toNat_ofNat, BitVec.toNat_ofNat, Nat.mod_eq_of_lt ha, Nat.mod_eq_of_lt hb, Nat.mod_eq_of_lt (Nat.and_lt_two_pow _ hb)]
theorem wb_or {a b : Nat} (ha : a < 2 ^ 64) (hb : b < 2 ^ 64) : lN a ||| lN b = lN (a ||| b) := by
  apply wb_inj
  rw [Int64.toBitVec_or, wb_tb, wb_tb, wb_tb]
  apply BitVec.eq_of_toNat_eq
  rw [BitVec.toNat_or, BitVec.toNat_ofNat, BitVec.toNat_ofNat, BitVec.toNat_ofNat, Nat.mod_eq_of_lt ha, Nat.mod_eq_of_lt hb, Nat.mod_eq_of_lt (Nat.or_lt_two_pow ha hb)]
theorem wb_mask {n k : Nat} (hn : n < 2 ^ 64) (hk : k < 64) : lN n &&& lN (2 ^ k - 1) = lN (n % 2 ^ k) := by
  rw [wb_and hn (by have := wb_lt2 hk; omega), Nat.and_two_pow_sub_one_eq_mod]
theorem wb_a1 {n : Nat} (hn : n < 2 ^ 64) : lN n &&& 1 = lN (n % 2) := wb_mask (k := 1) hn (by decide)
theorem wb_bit {n k : Nat} (hn : n < 2 ^ 64) (hk : k < 64) : ((lN n).toUInt64 >>> ((nI k).toInt64.toUInt64 &&& Int64.toUInt64 63)).toInt64 &&& 1 = lN (n / 2 ^ k % 2) := by
  rw [wb_shr hn hk, wb_a1 (Nat.lt_of_le_of_lt (Nat.div_le_self _ _) hn)]
theorem wb_xor {q k : Nat} (hk : k < 63) (h : 2 ^ k ≤ q) (h2 : q < 2 ^ (k + 1)) : lN q ^^^ lN (2 ^ k) = lN (q - 2 ^ k) := by
  obtain ⟨r, rfl⟩ : ∃ r, q = 2 ^ k + r := ⟨q - 2 ^ k, by omega⟩
  have hr : r < 2 ^ k := by rw [Nat.pow_succ] at h2; omega
  have hx : (2 ^ k + r) ^^^ 2 ^ k = r := by
    apply Nat.eq_of_testBit_eq
    intro i
    rw [Nat.testBit_xor, Nat.testBit_two_pow]
    rcases Nat.lt_trichotomy i k with h | h | h
    · rw [Nat.testBit_two_pow_add_gt h]
      simp [show ¬ k = i by omega]
    · subst h
      rw [Nat.testBit_two_pow_add_eq]
      simp
    · have a1 : 2 ^ (k + 1) ≤ 2 ^ i := Nat.pow_le_pow_right (by decide) h
      rw [Nat.testBit_lt_two_pow (show 2 ^ k + r < 2 ^ i by omega), Nat.testBit_lt_two_pow (show r < 2 ^ i by omega)]
      simp [show ¬ k = i by omega]
  have b1 := wb_lt2 (show k + 1 < 64 by omega)
  have b2 := wb_lt2 (show k < 64 by omega)
  apply wb_inj
  rw [Int64.toBitVec_xor, wb_tb, wb_tb, wb_tb]
  apply BitVec.eq_of_toNat_eq
  rw [BitVec.toNat_xor, BitVec.toNat_ofNat, BitVec.toNat_ofNat, BitVec.toNat_ofNat, Nat.mod_eq_of_lt (by omega : 2 ^ k + r < 2 ^ 64), Nat.mod_eq_of_lt b2, hx, Nat.add_sub_cancel_left, Nat.mod_eq_of_lt (by omega)]
/-! ===== lN: masks, 'or' of parts that don't overlap is a sum ===== -/
theorem u_tn {n : Nat} (h : n < 2 ^ 64) : (UInt64.ofNat n).toNat = n := Nat.mod_eq_of_lt h
theorem g_and {a b c : Nat} (ha : a < 2 ^ 64) (hb : b < 2 ^ 64) (hc : a &&& b = c) : lN a &&& lN b = lN c := by
  subst hc
  have h : UInt64.ofNat a &&& UInt64.ofNat b = UInt64.ofNat (a &&& b) := UInt64.toNat_inj.mp (by rw [UInt64.toNat_and, u_tn ha, u_tn hb, u_tn (Nat.and_lt_two_pow a hb)])
  have h2 := congrArg UInt64.toInt64 h
  exact h2
theorem g_and1 {a : Nat} (ha : a < 2 ^ 64) : lN a &&& 1 = lN (a % 2) := g_and (b := 1) ha (by decide) (Nat.and_two_pow_sub_one_eq_mod a 1)
theorem g_mask {a s p : Nat} (hp : 2 ^ s = p) (hs : s < 64) (ha : a < 2 ^ 64) : lN a &&& lN (p - 1) = lN (a % p) := by
  subst hp
  have := Nat.pow_lt_pow_right (show 1 < 2 by decide) hs
  exact g_and ha (by omega) (Nat.and_two_pow_sub_one_eq_mod a s)
theorem g_or {k p a b : Nat} (hp : 2 ^ k = p) (ha : a < p) (h : b * p + a < 2 ^ 64) : lN (b * p) ||| lN a = lN (b * p + a) := by
  subst hp
  have h1 : b * 2 ^ k ||| a = b * 2 ^ k + a := by rw [← Nat.shiftLeft_eq, Nat.shiftLeft_add_eq_or_of_lt ha]
  have h3 : UInt64.ofNat (b * 2 ^ k) ||| UInt64.ofNat a = UInt64.ofNat (b * 2 ^ k + a) := UInt64.toNat_inj.mp (by rw [UInt64.toNat_or, u_tn (by omega), u_tn (by omega), u_tn h, h1])
  have h2 := congrArg UInt64.toInt64 h3
  exact h2
theorem g_or' {k p a b : Nat} (hp : 2 ^ k = p) (ha : a < p) (h : a + b * p < 2 ^ 64) : lN a ||| lN (b * p) = lN (a + b * p) := by
  rw [Int64.or_comm, g_or hp ha (by omega), Nat.add_comm]
theorem g_ushr {a k p : Nat} {y : UInt64} (hy : y = UInt64.ofNat k) (hk : k < 64) (hp : 2 ^ k = p) (ha : a < 2 ^ 64) : ((lN a).toUInt64 >>> y).toInt64 = lN (a / p) := by
  subst hy hp
  have h : UInt64.ofNat a >>> UInt64.ofNat k = UInt64.ofNat (a / 2 ^ k) := UInt64.toNat_inj.mp (by rw [UInt64.toNat_shiftRight, u_tn ha, u_tn (by omega), u_tn (Nat.lt_of_le_of_lt (Nat.div_le_self _ _) ha), Nat.mod_eq_of_lt hk, Nat.shiftRight_eq_div_pow])
  have h2 := congrArg UInt64.toInt64 h
  exact h2
theorem g_shl {a k p : Nat} {y : Int64} (hy : y.toBitVec.smod 64 = BitVec.ofNat 64 k) (hk : k < 64) (hp : 2 ^ k = p) (ha : a < 2 ^ 64) : lN a <<< y = lN (a * p) := by
  subst hp
  apply Int64.toBitVec_inj.mp
  rw [Int64.toBitVec_shiftLeft, hy]
  apply BitVec.eq_of_toNat_eq
  have hb : (lN a).toBitVec.toNat = a := Nat.mod_eq_of_lt ha
  have hk' : (BitVec.ofNat 64 k).toNat = k := Nat.mod_eq_of_lt (by omega)
  have h : ((lN a).toBitVec <<< BitVec.ofNat 64 k).toNat = (a * 2 ^ k) % 2 ^ 64 := by simp only [BitVec.shiftLeft_eq', BitVec.toNat_shiftLeft, hb, hk', Nat.shiftLeft_eq]
  exact h
/-! ===== lN to 2^62 under >> and >>> ===== -/
theorem pf_lI {a : Nat} (h : a < 2 ^ 63) : (lN a).toInt = (a : Int) := lg_ofNat_toInt h
theorem pf_shr {a d : Nat} {D : Int64} (hD : (D.toBitVec.smod 64).toNat = d) (h : a < 2 ^ 62) : lN a >>> D = lN (a / 2 ^ d) := by
  have hd : a / 2 ^ d ≤ a := Nat.div_le_self _ _
  apply Int64.toInt_inj.mp
  have e : (lN a >>> D).toInt = (lN a).toInt >>> d := by
    rw [← hD]
    exact BitVec.toInt_sshiftRight ..
  rw [e, Int.shiftRight_eq_div_pow, pf_lI (by omega), pf_lI (by omega)]
  rfl
theorem pf_ushr {a d : Nat} {D : UInt64} (hD : D.toNat % 64 = d) (h : a < 2 ^ 62) : ((lN a).toUInt64 >>> D).toInt64 = lN (a / 2 ^ d) := by
  have hd : a / 2 ^ d ≤ a := Nat.div_le_self _ _
  have e : (lN a).toUInt64 >>> D = UInt64.ofNat (a / 2 ^ d) := UInt64.toNat_inj.mp (by
    rw [UInt64.toNat_shiftRight, hD, Nat.shiftRight_eq_div_pow, UInt64.toNat_ofNat']
    show (UInt64.ofNat a).toNat / 2 ^ d = _
    rw [UInt64.toNat_ofNat', Nat.mod_eq_of_lt (by omega), Nat.mod_eq_of_lt (by omega)])
  rw [e]
  rfl
theorem pf_andw (x : Int64) : ∃ m, m < 2 ^ 32 ∧ x &&& 4294967295 = lN m := ⟨x.toBitVec.toNat % 2 ^ 32, Nat.mod_lt _ (by decide), Int64.toBitVec_inj.mp (BitVec.eq_of_toNat_eq (by
  show (x.toBitVec &&& 4294967295#64).toNat = (BitVec.ofNat 64 (x.toBitVec.toNat % 2 ^ 32)).toNat
  rw [BitVec.toNat_and, show (4294967295#64).toNat = 2 ^ 32 - 1 from by decide, Nat.and_two_pow_sub_one_eq_mod, BitVec.toNat_ofNat]
  omega))⟩
/-! ===== Int64 as an unsigned number: uN x ===== -/
def uN (x : Int64) : Nat := x.toUInt64.toNat
theorem uN_lt (x : Int64) : uN x < 18446744073709551616 := x.toUInt64.toNat_lt
theorem uN_inj {x y : Int64} (h : uN x = uN y) : x = y := congrArg UInt64.toInt64 (UInt64.toNat_inj.mp h)
theorem uN_add (x y : Int64) : uN (x + y) = (uN x + uN y) % 18446744073709551616 := by
  show (x.toUInt64 + y.toUInt64).toNat = _
  exact UInt64.toNat_add _ _
theorem uN_mul (x y : Int64) : uN (x * y) = (uN x * uN y) % 18446744073709551616 := by
  show (x.toUInt64 * y.toUInt64).toNat = _
  exact UInt64.toNat_mul _ _
theorem uN_shl (x : Int64) : uN (x <<< ((1 : Int32).toInt64 &&& 63)) = (2 * uN x) % 18446744073709551616 := by
  have h : (((1 : Int32).toInt64 &&& 63).toBitVec.smod 64).toNat = 1 := by decide
  show (x.toBitVec <<< (((1 : Int32).toInt64 &&& 63).toBitVec.smod 64).toNat).toNat = _
  rw [h, BitVec.toNat_shiftLeft, Nat.shiftLeft_eq, Nat.mul_comm]
  rfl
theorem uN_shr (x : Int64) (s : UInt64) : uN (x.toUInt64 >>> s).toInt64 = uN x / 2 ^ (s.toNat % 64) := by
  show (x.toUInt64 >>> s).toNat = _
  rw [UInt64.toNat_shiftRight, Nat.shiftRight_eq_div_pow]
  rfl
theorem uN_s32 (x : Int64) : uN (x.toUInt64 >>> ((32 : Int32).toInt64.toUInt64 &&& Int64.toUInt64 63)).toInt64 = uN x / 4294967296 := by
  have h : ((32 : Int32).toInt64.toUInt64 &&& Int64.toUInt64 63).toNat % 64 = 32 := by decide
  rw [uN_shr, h]
theorem uN_s63 (x : Int64) : uN (x.toUInt64 >>> ((63 : Int32).toInt64.toUInt64 &&& Int64.toUInt64 63)).toInt64 = uN x / 9223372036854775808 := by
  have h : ((63 : Int32).toInt64.toUInt64 &&& Int64.toUInt64 63).toNat % 64 = 63 := by decide
  rw [uN_shr, h]
theorem uN_lo (x : Int64) : uN (x &&& 4294967295) = uN x % 4294967296 := by
  show (x.toUInt64 &&& Int64.toUInt64 4294967295).toNat = _
  rw [UInt64.toNat_and]
  exact Nat.and_two_pow_sub_one_eq_mod _ 32
theorem uN_bit (x : Int64) : (x &&& 1) = 0 ↔ uN x % 2 = 0 := by
  have h : uN (x &&& 1) = uN x % 2 := by
    show (x.toUInt64 &&& Int64.toUInt64 1).toNat = _
    rw [UInt64.toNat_and]
    exact Nat.and_two_pow_sub_one_eq_mod _ 1
  rw [← h]
  exact ⟨fun z => by rw [z]; rfl, fun z => uN_inj (z.trans rfl)⟩
theorem uN_or {x y : Int64} (hy : uN y < 2) : uN ((x <<< ((1 : Int32).toInt64 &&& 63)) ||| y) = (2 * uN x) % 18446744073709551616 + uN y := by
  have h1 : uN ((x <<< ((1 : Int32).toInt64 &&& 63)) ||| y) = uN (x <<< ((1 : Int32).toInt64 &&& 63)) ||| uN y := UInt64.toNat_or _ _
  have h2 : (2 * uN x) % 18446744073709551616 = 2 ^ 1 * (uN x % 9223372036854775808) := by omega
  rw [h1, uN_shl, h2]
  exact (Nat.two_pow_add_eq_or_of_lt (i := 1) hy _).symm
theorem nat_xor {a : Nat} (h : a < 18446744073709551616) : a ^^^ 2 ^ 63 = (a + 9223372036854775808) % 18446744073709551616 := by
  have h1 : (a ^^^ 2 ^ 63) % 2 ^ 63 = a % 2 ^ 63 := by rw [Nat.xor_mod_two_pow, Nat.mod_self, Nat.xor_zero]
  have h2 : (a ^^^ 2 ^ 63) / 2 ^ 63 = (a / 2 ^ 63) ^^^ 1 := by rw [Nat.xor_div_two_pow, Nat.div_self (Nat.two_pow_pos 63)]
  have h3 : a / 2 ^ 63 = 0 ∨ a / 2 ^ 63 = 1 := by omega
  generalize a ^^^ 2 ^ 63 = t at h1 h2
  rcases h3 with h3 | h3
  · rw [h3] at h2
    have h2 : t / 2 ^ 63 = 1 := h2
    omega
  · rw [h3] at h2
    have h2 : t / 2 ^ 63 = 0 := h2
    omega
theorem uN_xor (x : Int64) : uN (x ^^^ (-9223372036854775808)) = (uN x + 9223372036854775808) % 18446744073709551616 := by
  rw [← nat_xor (uN_lt x)]
  exact UInt64.toNat_xor _ _
theorem uN_int (x : Int64) : x.toInt = if 2 * uN x < 18446744073709551616 then (uN x : Int) else (uN x : Int) - 18446744073709551616 := BitVec.toInt_eq_toNat_cond _
theorem uN_le (x y : Int64) : (x ^^^ (-9223372036854775808)) ≤ (y ^^^ (-9223372036854775808)) ↔ uN x ≤ uN y := by
  have hx := uN_lt x
  have hy := uN_lt y
  rw [Int64.le_iff_toInt_le, uN_int, uN_int, uN_xor, uN_xor]
  omega
theorem uN_sk (x : Int64) {k : Nat} (hk : k < 64) : uN (x.toUInt64 >>> ((nI k).toInt64.toUInt64 &&& Int64.toUInt64 63)).toInt64 = uN x / 2 ^ k := by
  have h : ((nI k).toInt64.toUInt64 &&& Int64.toUInt64 63).toNat % 64 = k := by
    rw [nI_l (by omega), UInt64.toNat_and]
    have e : (lN k).toUInt64.toNat = k % 2 ^ 64 := rfl
    have e2 : (Int64.toUInt64 63).toNat = 2 ^ 6 - 1 := by decide
    rw [e, e2, Nat.and_two_pow_sub_one_eq_mod]
    omega
  rw [uN_shr, h]
/-! ===== unsigned comparison by xor with the least ===== -/
theorem lN_bv (n : Nat) : (lN n).toBitVec = BitVec.ofNat 64 n := rfl
theorem lN_nat {n : Nat} (h : n < 2 ^ 64) : (lN n).toBitVec.toNat = n := by rw [lN_bv, BitVec.toNat_ofNat]; exact Nat.mod_eq_of_lt h
theorem lN_xor (a b : Nat) : lN a ^^^ lN b = lN (a ^^^ b) := by
  apply Int64.toBitVec_inj.mp; rw [Int64.toBitVec_xor, lN_bv, lN_bv, lN_bv]; apply BitVec.eq_of_getLsbD_eq; intro i hi; simp [BitVec.getLsbD_ofNat, Nat.testBit_xor, hi]
theorem lN_ti {m : Nat} (h : m < 2 ^ 64) : (lN m).toInt = if m < 2 ^ 63 then (m : Int) else (m : Int) - 2 ^ 64 := by
  have c := BitVec.toInt_eq_toNat_cond (lN m).toBitVec
  rw [lN_nat h] at c
  show (lN m).toBitVec.toInt = _
  rw [c]
  split <;> split <;> omega
theorem xor63 {x : Nat} (h : x < 2 ^ 63) : x ^^^ 2 ^ 63 = 2 ^ 63 + x := by
  apply Nat.eq_of_testBit_eq
  intro i
  rw [Nat.testBit_xor, Nat.testBit_two_pow]
  rcases Nat.lt_trichotomy i 63 with z | z | z
  · rw [Nat.testBit_two_pow_add_gt z, decide_eq_false (by omega)]; simp
  · subst z; rw [Nat.testBit_two_pow_add_eq]; simp
  · have hp : 2 ^ 64 ≤ 2 ^ i := Nat.pow_le_pow_right (by decide) z
    rw [Nat.testBit_lt_two_pow (show x < 2 ^ i by omega), Nat.testBit_lt_two_pow (show 2 ^ 63 + x < 2 ^ i by omega), decide_eq_false (by omega)]; rfl
theorem xorS {a : Nat} (h : a < 2 ^ 64) : (lN a ^^^ (-9223372036854775808)).toInt = (a : Int) - 2 ^ 63 := by
  rw [show (-9223372036854775808 : Int64) = lN (2 ^ 63) from by decide +kernel, lN_xor]
  rcases Nat.lt_or_ge a (2 ^ 63) with z | z
  · rw [xor63 z, lN_ti (by omega), if_neg (by omega)]; omega
  · obtain ⟨x, rfl⟩ : ∃ x, a = 2 ^ 63 + x := ⟨a - 2 ^ 63, by omega⟩
    rw [← xor63 (by omega), Nat.xor_assoc, Nat.xor_self, Nat.xor_zero, lN_ti (by omega), if_pos (by omega), xor63 (by omega)]; omega
theorem ultL {a b : Nat} (ha : a < 2 ^ 64) (hb : b < 2 ^ 64) : ((lN b ^^^ (-9223372036854775808)) ≤ (lN a ^^^ (-9223372036854775808))) ↔ b ≤ a := by
  rw [Int64.le_iff_toInt_le, xorS ha, xorS hb]; omega
/-! ===== Int64 masks of n low bits ===== -/
theorem cr_bits (W U M : BitVec 64) : ((W &&& U) &&& (U &&& (M ^^^ BitVec.allOnes 64))) = 0#64 ↔ (W &&& U) &&& M = W &&& U := by
  constructor
  · intro h
    apply BitVec.eq_of_getLsbD_eq
    intro i hi
    have e := congrArg (fun x => BitVec.getLsbD x i) h
    simp only [BitVec.getLsbD_and, BitVec.getLsbD_xor, BitVec.getLsbD_allOnes, BitVec.getLsbD_zero, hi, decide_true] at e ⊢
    revert e
    cases W.getLsbD i <;> cases U.getLsbD i <;> cases M.getLsbD i <;> decide
  · intro h
    apply BitVec.eq_of_getLsbD_eq
    intro i hi
    have e := congrArg (fun x => BitVec.getLsbD x i) h
    simp only [BitVec.getLsbD_and, BitVec.getLsbD_xor, BitVec.getLsbD_allOnes, BitVec.getLsbD_zero, hi, decide_true] at e ⊢
    revert e
    cases W.getLsbD i <;> cases U.getLsbD i <;> cases M.getLsbD i <;> decide
theorem cr_mask (w U m : Int64) (n : Nat) (hm : m.toBitVec.toNat = 2 ^ n - 1) : ((w &&& U) &&& (U &&& (m ^^^ (-1)))) = 0 ↔ (w &&& U).toBitVec.toNat < 2 ^ n := by
  have e0 : (-1 : Int64).toBitVec = BitVec.allOnes 64 := by decide
  have z0 : (0 : Int64).toBitVec = 0#64 := by decide
  rw [← Int64.toBitVec_inj, z0, Int64.toBitVec_and, Int64.toBitVec_and, Int64.toBitVec_and, Int64.toBitVec_xor, e0, cr_bits]
  generalize w.toBitVec &&& U.toBitVec = T
  rw [← BitVec.toNat_inj, BitVec.toNat_and, hm, Nat.and_two_pow_sub_one_eq_mod]
  constructor
  · intro h
    have t := Nat.mod_lt T.toNat (Nat.two_pow_pos n)
    rw [h] at t
    exact t
  · exact Nat.mod_eq_of_lt
theorem cr_shr (t : Int64) (x : UInt64) (n : Nat) (hx : x.toNat % 64 = n) : (t.toUInt64 >>> x).toInt64 = 0 ↔ t.toBitVec.toNat < 2 ^ n := by
  rw [← Int64.toBitVec_inj, ← BitVec.toNat_inj]
  show (t.toUInt64 >>> x).toNat = 0 ↔ t.toUInt64.toNat < 2 ^ n
  rw [UInt64.toNat_shiftRight, hx, Nat.shiftRight_eq_div_pow]
  constructor
  · intro h
    have d : t.toUInt64.toNat / 2 ^ n < 1 := by
      rw [h]
      decide
    have e := (Nat.div_lt_iff_lt_mul (Nat.two_pow_pos n)).mp d
    rw [Nat.one_mul] at e
    exact e
  · exact Nat.div_eq_of_lt
theorem cr_amt (s : Int64) : ∃ n, n < 64 ∧ s &&& 63 = lN n ∧ (s.toUInt64 &&& Int64.toUInt64 63).toNat % 64 = n := by
  have e : (s.toUInt64 &&& Int64.toUInt64 63).toNat = s.toUInt64.toNat % 2 ^ 6 := by
    rw [UInt64.toNat_and, show (Int64.toUInt64 63).toNat = 2 ^ 6 - 1 from by decide, Nat.and_two_pow_sub_one_eq_mod]
  refine ⟨s.toUInt64.toNat % 2 ^ 6, by omega, ?_, by omega⟩
  rw [← Int64.toBitVec_inj, ← BitVec.toNat_inj]
  show (s.toUInt64 &&& Int64.toUInt64 63).toNat = (BitVec.ofNat 64 (s.toUInt64.toNat % 2 ^ 6)).toNat
  rw [e, BitVec.toNat_ofNat]
  omega
end
section
/-! pure basics: updates, sums, lists -/
def fu_u {α : Type} (f : Nat → α) (k : Nat) (x : α) : Nat → α := fun j => if j = k then x else f j
theorem fu_s {α : Type} {f : Nat → α} {k : Nat} {x : α} : fu_u f k x k = x := if_pos rfl
theorem fu_n {α : Type} {f : Nat → α} {k j : Nat} {x : α} (h : j ≠ k) : fu_u f k x j = f j := if_neg h
theorem fu_e {α : Type} {f : Nat → α} {k : Nat} {x : α} (h : f k = x) : fu_u f k x = f := by
  funext j
  unfold fu_u
  split
  · rename_i e; rw [e, h]
  · rfl
theorem fu_uu {α : Type} {f : Nat → α} {k : Nat} {x y : α} : fu_u (fu_u f k x) k y = fu_u f k y := by
  funext j
  unfold fu_u
  split <;> rfl
theorem fu_c {α : Type} {f : Nat → α} {k l : Nat} {x y : α} (h : k ≠ l) : fu_u (fu_u f k x) l y = fu_u (fu_u f l y) k x := by
  funext j
  unfold fu_u
  by_cases h1 : j = k
  · by_cases h2 : j = l
    · exact absurd (h1.symm.trans h2) h
    · simp [h1, h]
  · simp [h1]
def sm_n (f : Nat → Nat) : Nat → Nat
  | 0 => 0
  | m + 1 => sm_n f m + f m
theorem sm_ext {f g : Nat → Nat} : ∀ {m : Nat}, (∀ j, j < m → f j = g j) → sm_n f m = sm_n g m
  | 0, _ => rfl
  | m + 1, h => by
    have a := sm_ext (f := f) (g := g) (m := m) (fun j hj => h j (by omega))
    have b := h m (by omega)
    simp only [sm_n]; omega
theorem sm_ch {f g : Nat → Nat} {k : Nat} : ∀ {m : Nat}, k < m → (∀ j, j < m → j ≠ k → g j = f j) → sm_n g m + f k = sm_n f m + g k
  | 0, hk, _ => by omega
  | m + 1, hk, h => by
    simp only [sm_n]
    by_cases e : k = m
    · subst e
      have a := sm_ext (f := g) (g := f) (m := k) (fun j hj => h j (by omega) (by omega))
      omega
    · have a := sm_ch (f := f) (g := g) (m := m) (k := k) (by omega) (fun j hj hn => h j (by omega) hn)
      have b := h m (by omega) (by omega)
      omega
theorem sm_le {f g : Nat → Nat} : ∀ {m : Nat}, (∀ j, j < m → f j ≤ g j) → sm_n f m ≤ sm_n g m
  | 0, _ => Nat.le_refl _
  | m + 1, h => by
    have a := sm_le (f := f) (g := g) (m := m) (fun j hj => h j (by omega))
    have b := h m (by omega)
    simp only [sm_n]; omega
theorem sm_one {f : Nat → Nat} {k : Nat} : ∀ {m : Nat}, k < m → f k ≤ sm_n f m
  | 0, h => by omega
  | m + 1, h => by
    simp only [sm_n]
    by_cases e : k = m
    · subst e; omega
    · have a := sm_one (f := f) (k := k) (m := m) (by omega)
      omega
theorem sm_z {f : Nat → Nat} : ∀ {m : Nat}, sm_n f m = 0 → ∀ j, j < m → f j = 0
  | 0, _, j, hj => by omega
  | m + 1, h, j, hj => by
    simp only [sm_n] at h
    by_cases e : j = m
    · subst e; omega
    · exact sm_z (m := m) (by omega) j (by omega)
theorem sm_z0 {f : Nat → Nat} {m : Nat} (h : ∀ j, j < m → f j = 0) : sm_n f m = 0 := by
  rw [sm_ext (g := fun _ => 0) h]
  induction m with
  | zero => rfl
  | succ m ih => simp only [sm_n]; rw [ih (fun j hj => h j (by omega))]
theorem sm_ne {f : Nat → Nat} {m : Nat} (h : sm_n f m ≠ 0) : ∃ j, j < m ∧ f j ≠ 0 := by
  apply Classical.byContradiction
  intro c
  apply h
  apply sm_z0
  intro j hj
  apply Classical.byContradiction
  intro d
  exact c ⟨j, hj, d⟩
theorem sm_bd {f : Nat → Nat} {b : Nat} : ∀ {m : Nat}, (∀ j, j < m → f j ≤ b) → sm_n f m ≤ m * b
  | 0, _ => by simp [sm_n]
  | m + 1, h => by
    have a := sm_bd (f := f) (b := b) (m := m) (fun j hj => h j (by omega))
    have c := h m (by omega)
    simp only [sm_n, Nat.succ_mul]; omega
theorem sm_plus {f g : Nat → Nat} : ∀ {m : Nat}, sm_n (fun j => f j + g j) m = sm_n f m + sm_n g m
  | 0 => rfl
  | m + 1 => by
    have a := sm_plus (f := f) (g := g) (m := m)
    simp only [sm_n]; omega
theorem ls_len : ∀ (m : Nat) (l : List Nat), l.Nodup → (∀ x, x ∈ l → x < m) → l.length ≤ m
  | 0, l, _, h => by
    cases l with
    | nil => simp
    | cons a t => exact absurd (h a (by simp)) (by omega)
  | m + 1, l, hn, h => by
    by_cases hm : m ∈ l
    · have a := ls_len m (l.erase m) (hn.erase m) (fun x hx => by
        have b := (hn.mem_erase_iff).mp hx
        have c := h x b.2
        have d := b.1
        omega)
      have b := List.length_erase_of_mem hm
      omega
    · have a := ls_len m l hn (fun x hx => by
        have c := h x hx
        by_cases e : x = m
        · exact absurd (e ▸ hx) hm
        · omega)
      omega
theorem ls_inj {α β : Type} (Rl : α → β → Prop) : ∀ (l1 : List α) (l2 : List β), l1.Nodup → (∀ a, a ∈ l1 → ∃ b, b ∈ l2 ∧ Rl a b) → (∀ a a' b, a ∈ l1 → a' ∈ l1 → Rl a b → Rl a' b → a = a') → l1.length ≤ l2.length
  | [], l2, _, _, _ => by simp
  | a :: t, l2, hn, hx, hi => by
    obtain ⟨b, hb, hr⟩ := hx a (by simp)
    obtain ⟨s, t2, rfl⟩ := List.append_of_mem hb
    have hna : a ∉ t ∧ t.Nodup := by simpa using hn
    have k := ls_inj Rl t (s ++ t2) hna.2 (fun a' ha' => by
      obtain ⟨b', hb', hr'⟩ := hx a' (by simp [ha'])
      refine ⟨b', ?_, hr'⟩
      rcases List.mem_append.mp hb' with z | z
      · exact List.mem_append.mpr (Or.inl z)
      · rcases List.mem_cons.mp z with e | z
        · subst e
          have := hi a a' b' (by simp) (by simp [ha']) hr hr'
          subst this
          exact absurd ha' hna.1
        · exact List.mem_append.mpr (Or.inr z))
      (fun x x' y h1 h2 => hi x x' y (by simp [h1]) (by simp [h2]))
    simp only [List.length_append, List.length_cons] at k ⊢
    omega
def ls_r (P : Nat → Bool) (m : Nat) : List Nat := (List.range m).filter P
theorem ls_rm {P : Nat → Bool} {m x : Nat} : x ∈ ls_r P m ↔ x < m ∧ P x = true := by
  unfold ls_r
  rw [List.mem_filter, List.mem_range]
theorem ls_rn {P : Nat → Bool} {m : Nat} : (ls_r P m).Nodup := List.Pairwise.filter P List.nodup_range
theorem ls_rl {P : Nat → Bool} : ∀ {m : Nat}, (ls_r P m).length = sm_n (fun i => (P i).toNat) m
  | 0 => rfl
  | m + 1 => by
    have a := ls_rl (P := P) (m := m)
    unfold ls_r at a ⊢
    rw [List.range_succ, List.filter_append, List.length_append, a]
    simp only [sm_n]
    cases h : P m <;> simp [h]
end
section
/-! the diagram's meaning: nodes, edges, order -/
abbrev BF_ : Type := (Nat → Bool) → Bool
def ef_ (φ : Nat → BF_) (e : Nat) : BF_ := fun a => (φ (e / 2) a) ^^ decide (e % 2 = 1)
def al_ (V : Nat → Nat) (i : Nat) : Prop := i < 1024 ∧ V i < 6
def ok_ (V : Nat → Nat) (i : Nat) : Prop := i = 0 ∨ al_ V i
def Sm_ (n : Nat) (V L H : Nat → Nat) (φ : Nat → BF_) : Prop :=
  (n ≤ 6 ∧ V 0 = 6 ∧ ∀ a, φ 0 a = false) ∧
  (∀ i, al_ V i → V i < n ∧ L i < 2048 ∧ H i < 2048 ∧ L i % 2 = 0 ∧ L i ≠ H i ∧ ok_ V (L i / 2) ∧ ok_ V (H i / 2)) ∧
  (∀ i, al_ V i → ∀ a, φ i a = if a (V i) = true then ef_ φ (H i) a else ef_ φ (L i) a) ∧
  (∀ i, al_ V i → ∀ a b, ef_ φ (L i) (fu_u a (V i) b) = ef_ φ (L i) a ∧ ef_ φ (H i) (fu_u a (V i) b) = ef_ φ (H i) a) ∧
  (∀ i, ok_ V i → φ i (fun _ => false) = false) ∧
  (∀ i j, ok_ V i → ok_ V j → (∀ a, φ i a = φ j a) → i = j)
def Od_ (K : Nat) (lev V L H : Nat → Nat) : Prop := ∀ i, al_ V i → K ≤ lev (V i) → lev (V i) < lev (V (L i / 2)) ∧ lev (V i) < lev (V (H i / 2))
theorem ok_0 {V : Nat → Nat} : ok_ V 0 := Or.inl rfl
theorem ok_lt {V : Nat → Nat} {i : Nat} (h : ok_ V i) : i < 1024 := by
  rcases h with h | h
  · omega
  · exact h.1
theorem ef_lt {V : Nat → Nat} {e : Nat} (h : ok_ V (e / 2)) : e < 2048 := by
  have := ok_lt h; omega
theorem Sm_.ne0 {n : Nat} {V L H : Nat → Nat} {φ : Nat → BF_} (S : Sm_ n V L H φ) {i : Nat} (h : al_ V i) : i ≠ 0 := by
  intro e
  subst e
  have := h.2
  have := S.1.2.1
  omega
theorem Sm_.v6 {n : Nat} {V L H : Nat → Nat} {φ : Nat → BF_} (S : Sm_ n V L H φ) {i : Nat} (h : ok_ V i) : V i ≤ 6 := by
  rcases h with h | h
  · subst h; exact Nat.le_of_eq S.1.2.1
  · have := h.2; omega
/-- edges with one function are one edge -/
theorem Sm_.can {n : Nat} {V L H : Nat → Nat} {φ : Nat → BF_} (S : Sm_ n V L H φ) {d e : Nat} (hd : ok_ V (d / 2)) (he : ok_ V (e / 2)) (h : ∀ a, ef_ φ d a = ef_ φ e a) : d = e := by
  have z := h (fun _ => false)
  unfold ef_ at z h
  rw [S.2.2.2.2.1 _ hd, S.2.2.2.2.1 _ he] at z
  have p : d % 2 = e % 2 := by
    by_cases h1 : d % 2 = 1 <;> by_cases h2 : e % 2 = 1 <;> simp [h1, h2] at z <;> omega
  have q : d / 2 = e / 2 := S.2.2.2.2.2 _ _ hd he (fun a => by
    have w := h a
    rw [p] at w
    cases h1 : φ (d / 2) a <;> cases h2 : φ (e / 2) a <;> cases h3 : decide (e % 2 = 1) <;> simp [h1, h2, h3] at w ⊢)
  omega
theorem Sm_.tru {n : Nat} {V L H : Nat → Nat} {φ : Nat → BF_} (S : Sm_ n V L H φ) {i : Nat} (h : al_ V i) (a : Nat → Bool) : φ i (fu_u a (V i) true) = ef_ φ (H i) a := by
  rw [S.2.2.1 i h, fu_s, if_pos rfl]
  exact (S.2.2.2.1 i h a true).2
theorem Sm_.fal {n : Nat} {V L H : Nat → Nat} {φ : Nat → BF_} (S : Sm_ n V L H φ) {i : Nat} (h : al_ V i) (a : Nat → Bool) : φ i (fu_u a (V i) false) = ef_ φ (L i) a := by
  rw [S.2.2.1 i h, fu_s, if_neg (by decide)]
  exact (S.2.2.2.1 i h a false).1
/-- the top variable is essential -/
theorem Sm_.top {n : Nat} {V L H : Nat → Nat} {φ : Nat → BF_} (S : Sm_ n V L H φ) {i : Nat} (h : al_ V i) (c : ∀ a, φ i (fu_u a (V i) true) = φ i (fu_u a (V i) false)) : False := by
  obtain ⟨-, -, -, -, hne, h1, h2⟩ := S.2.1 i h
  exact hne (S.can h1 h2 (fun a => by rw [← S.fal h, ← S.tru h]; exact (c a).symm))
/-- a node depends only on variables at its level or below it -/
theorem Sm_.dep {n K : Nat} {V L H lev : Nat → Nat} {φ : Nat → BF_} (S : Sm_ n V L H φ) (hl : ∀ w, w ≤ 6 → lev w ≤ 6) (O : Od_ K lev V L H) : ∀ d i, ok_ V i → K ≤ lev (V i) → 6 - lev (V i) < d → ∀ a b : Nat → Bool, (∀ w, w < n → lev (V i) ≤ lev w → a w = b w) → φ i a = φ i b
  | 0, _, _, _, h, _, _, _ => by omega
  | d + 1, i, ho, hK, hd, a, b, hab => by
    rcases ho with h | h
    · subst h; rw [S.1.2.2, S.1.2.2]
    · obtain ⟨hv, -, -, -, -, h1, h2⟩ := S.2.1 i h
      obtain ⟨o1, o2⟩ := O i h hK
      have l1 := hl _ (S.v6 h1)
      have l2 := hl _ (S.v6 h2)
      rw [S.2.2.1 i h, S.2.2.1 i h, hab (V i) hv (Nat.le_refl _)]
      have e1 := Sm_.dep S hl O d (L i / 2) h1 (by omega) (by omega) a b (fun w hw hle => hab w hw (by omega))
      have e2 := Sm_.dep S hl O d (H i / 2) h2 (by omega) (by omega) a b (fun w hw hle => hab w hw (by omega))
      unfold ef_
      rw [e1, e2]
theorem Sm_.edep {n K : Nat} {V L H lev : Nat → Nat} {φ : Nat → BF_} (S : Sm_ n V L H φ) (hl : ∀ w, w ≤ 6 → lev w ≤ 6) (O : Od_ K lev V L H) {e : Nat} (he : ok_ V (e / 2)) (hK : K ≤ lev (V (e / 2))) {a b : Nat → Bool} (h : ∀ w, w < n → lev (V (e / 2)) ≤ lev w → a w = b w) : ef_ φ e a = ef_ φ e b := by
  unfold ef_
  rw [S.dep hl O 7 (e / 2) he hK (by omega) a b h]
/-- an edge whose function ignores all levels above K lies at K or below -/
theorem Sm_.lvl {n K : Nat} {V L H lev : Nat → Nat} {φ : Nat → BF_} (S : Sm_ n V L H φ) (h6 : lev 6 = 6) (hK : K ≤ 6) {e : Nat} (he : ok_ V (e / 2)) (h : ∀ a b : Nat → Bool, (∀ w, w < n → K ≤ lev w → a w = b w) → ef_ φ e a = ef_ φ e b) : K ≤ lev (V (e / 2)) := by
  rcases he with z | z
  · rw [z, S.1.2.1, h6]; exact hK
  · apply Classical.byContradiction
    intro c
    apply S.top z
    intro a
    have w := h (fu_u a (V (e / 2)) true) (fu_u a (V (e / 2)) false) (fun w _ hw => by
      have hne : w ≠ V (e / 2) := fun x => c (x ▸ hw)
      rw [fu_n hne, fu_n hne])
    unfold ef_ at w
    cases h1 : φ (e / 2) (fu_u a (V (e / 2)) true) <;> cases h2 : φ (e / 2) (fu_u a (V (e / 2)) false) <;> simp [h1, h2] at w ⊢
/-- a node with the function (v ? b : a) is the node (v, a, b) -/
theorem Sm_.uni {n K : Nat} {V L H lev : Nat → Nat} {φ : Nat → BF_} (S : Sm_ n V L H φ) (hl : ∀ w, w ≤ 6 → lev w ≤ 6) (O : Od_ K lev V L H) {v a b j : Nat} (hv : v < n) (hK : K ≤ lev v + 1) (ha : ok_ V (a / 2)) (hb : ok_ V (b / 2)) (la : lev v < lev (V (a / 2))) (lb : lev v < lev (V (b / 2))) (hab : a ≠ b) (hj : al_ V j) (h : ∀ s : Nat → Bool, φ j s = if s v = true then ef_ φ b s else ef_ φ a s) : V j = v ∧ L j = a ∧ H j = b := by
  have da : ∀ s t : Nat → Bool, (∀ w, w < n → lev v < lev w → s w = t w) → ef_ φ a s = ef_ φ a t := fun s t k => S.edep hl O ha (by omega) (fun w hw hle => k w hw (by omega))
  have db : ∀ s t : Nat → Bool, (∀ w, w < n → lev v < lev w → s w = t w) → ef_ φ b s = ef_ φ b t := fun s t k => S.edep hl O hb (by omega) (fun w hw hle => k w hw (by omega))
  obtain ⟨jv, -, -, -, -, j1, j2⟩ := S.2.1 j hj
  have hva : ∀ s x, ef_ φ a (fu_u s v x) = ef_ φ a s := fun s x => da _ _ (fun w _ hw => fu_n (fun e => by subst e; omega))
  have hvb : ∀ s x, ef_ φ b (fu_u s v x) = ef_ φ b s := fun s x => db _ _ (fun w _ hw => fu_n (fun e => by subst e; omega))
  have e0 : ∀ s, φ j (fu_u s v false) = ef_ φ a s := fun s => by rw [h, fu_s, if_neg (by decide), hva]
  have e1 : ∀ s, φ j (fu_u s v true) = ef_ φ b s := fun s => by rw [h, fu_s, if_pos rfl, hvb]
  have key : V j = v := by
    apply Classical.byContradiction
    intro c
    by_cases g : lev v < lev (V j)
    · apply hab
      apply S.can ha hb
      intro s
      rw [← e0, ← e1]
      exact S.dep hl O 7 j (Or.inr hj) (by omega) (by omega) _ _ (fun w _ hw => by
        have hne : w ≠ v := fun e => by subst e; omega
        rw [fu_n hne, fu_n hne])
    · apply S.top hj
      intro s
      have hne : v ≠ V j := fun e => c e.symm
      rw [h, h, fu_n hne, fu_n hne]
      have hw : ∀ w, w < n → lev v < lev w → fu_u s (V j) true w = fu_u s (V j) false w := fun w _ hw => by
        have hne : w ≠ V j := fun e => by subst e; exact g hw
        rw [fu_n hne, fu_n hne]
      rw [da _ _ hw, db _ _ hw]
  refine ⟨key, ?_, ?_⟩
  · apply S.can j1 ha
    intro s
    rw [← S.fal hj, key, e0]
  · apply S.can j2 hb
    intro s
    rw [← S.tru hj, key, e1]
end
section
/-! the node table: chains, free list, references, counts -/
abbrev TN_ : Type := Nat × Nat × Nat × (Nat → Nat) × (Nat → Nat) × (Nat → Nat) × (Nat → Nat) × (Nat → Nat) × (Nat → Nat) × (Nat → Nat)
abbrev tb_fh (T : TN_) : Nat := T.1
abbrev tb_lo (T : TN_) : Nat := T.2.1
abbrev tb_to (T : TN_) : Nat := T.2.2.1
abbrev tb_V (T : TN_) : Nat → Nat := T.2.2.2.1
abbrev tb_L (T : TN_) : Nat → Nat := T.2.2.2.2.1
abbrev tb_H (T : TN_) : Nat → Nat := T.2.2.2.2.2.1
abbrev tb_R (T : TN_) : Nat → Nat := T.2.2.2.2.2.2.1
abbrev tb_X (T : TN_) : Nat → Nat := T.2.2.2.2.2.2.2.1
abbrev tb_D (T : TN_) : Nat → Nat := T.2.2.2.2.2.2.2.2.1
abbrev tb_Q (T : TN_) : Nat → Nat := T.2.2.2.2.2.2.2.2.2
def hs_ (l h : Nat) : Nat := ((((nI l * 12582917) + (nI h * 4256249)).toUInt32 >>> ((14 : Int32).toUInt32 &&& Int32.toUInt32 31)).toInt32 &&& 31).toNatClampNeg
def bk_ (v l h : Nat) : Nat := v * 32 + hs_ l h
theorem hs_lt (l h : Nat) : hs_ l h < 32 := by
  unfold hs_
  obtain ⟨j, hj, e⟩ := pk_andE (((nI l * 12582917) + (nI h * 4256249)).toUInt32 >>> ((14 : Int32).toUInt32 &&& Int32.toUInt32 31)).toInt32 (m := 31) 5 (by decide)
  rw [e, nI_clamp (by omega)]
  exact hj
theorem bk_lt {v l h : Nat} (hv : v < 6) : bk_ v l h < 192 := by
  have := hs_lt l h
  unfold bk_; omega
theorem bk_v {v l h w l' h' : Nat} (e : bk_ v l h = bk_ w l' h') : v = w := by
  have := hs_lt l h
  have := hs_lt l' h'
  unfold bk_ at e; omega
def Lk_ (X : Nat → Nat) : Nat → List Nat → Prop
  | s, [] => s = 0
  | s, a :: l => s = a ∧ a ≠ 0 ∧ Lk_ X (X a) l
theorem Lk_upd {X : Nat → Nat} {k x : Nat} : ∀ {l : List Nat} {s : Nat}, k ∉ l → Lk_ X s l → Lk_ (fu_u X k x) s l
  | [], _, _, h => h
  | a :: l, s, hk, h => by
    have h1 : k ≠ a := fun e => hk (by simp [e])
    have h2 : k ∉ l := fun e => hk (by simp [e])
    refine ⟨h.1, h.2.1, ?_⟩
    rw [fu_n (fun e => h1 e.symm)]
    exact Lk_upd h2 h.2.2
theorem Lk_mid {X : Nat → Nat} {k : Nat} {q : List Nat} : ∀ {p : List Nat} {s : Nat}, Lk_ X s (p ++ k :: q) → k ≠ 0 ∧ Lk_ X (X k) q
  | [], _, h => ⟨h.2.1, h.2.2⟩
  | _ :: _, _, h => Lk_mid h.2.2
theorem Lk_cut {X : Nat → Nat} {k z : Nat} {q : List Nat} : ∀ {p : List Nat} {s : Nat}, (p ++ z :: k :: q).Nodup → Lk_ X s (p ++ z :: k :: q) → Lk_ (fu_u X z (X k)) s (p ++ z :: q)
  | [], s, hn, h => by
    obtain ⟨h1, h2, h3, h4, h5⟩ := h
    refine ⟨h1, h2, ?_⟩
    rw [fu_s]
    refine Lk_upd ?_ h5
    intro c
    have hn' : z ∉ k :: q := by
      have := List.nodup_cons.mp hn
      exact this.1
    exact hn' (by simp [c])
  | a :: p, s, hn, h => by
    have hn' := List.nodup_cons.mp hn
    obtain ⟨h1, h2, h3⟩ := h
    refine ⟨h1, h2, ?_⟩
    have hz : a ≠ z := fun e => hn'.1 (by simp [e])
    rw [fu_n hz]
    exact Lk_cut hn'.2 h3
def Ch_ (x : Nat) (V L H X D : Nat → Nat) (ch : Nat → List Nat) : Prop :=
  ∀ b, b < 192 → Lk_ X (D b) (ch b) ∧ (ch b).Nodup ∧ ∀ j, j ∈ ch b ↔ (al_ V j ∧ j ≠ x) ∧ bk_ (V j) (L j) (H j) = b
def Fl_ (fh : Nat) (V X : Nat → Nat) (fl : List Nat) : Prop :=
  Lk_ X fh fl ∧ fl.Nodup ∧ (∀ j, j ∈ fl ↔ 0 < j ∧ j < 1024 ∧ ¬ V j < 6) ∧ ∀ j, j ∈ fl → V j = 7
def hr_ (E : Nat → Nat) (i : Nat) : Nat := sm_n (fun h => if 2 ≤ h ∧ E h < 2048 ∧ E h / 2 = i then 1 else 0) 10
def nw_ (V L H : Nat → Nat) (i j : Nat) : Nat := if V j < 6 then (if L j / 2 = i then 1 else 0) + (if H j / 2 = i then 1 else 0) else 0
def nr_ (V L H : Nat → Nat) (i : Nat) : Nat := sm_n (nw_ V L H i) 1024
def Rf_ (E V L H R : Nat → Nat) : Prop := ∀ i, ok_ V i → R i = (if i = 0 then 1 else 0) + hr_ E i + nr_ V L H i
def lc_ (V R : Nat → Nat) : Nat := sm_n (fun j => if V j < 6 ∧ R j = 0 then 1 else 0) 1024
def tc_ (x : Nat) (V : Nat → Nat) : Nat := sm_n (fun j => if V j < 6 ∧ j ≠ x then 1 else 0) 1024
def vc_ (x : Nat) (V : Nat → Nat) (v : Nat) : Nat := sm_n (fun j => if V j = v ∧ j ≠ x then 1 else 0) 1024
def Ti_ (n : Nat) (E : Nat → Nat) (x : Nat) (T : TN_) (φ : Nat → BF_) : Prop :=
  Sm_ n (tb_V T) (tb_L T) (tb_H T) φ ∧ (∃ ch, Ch_ x (tb_V T) (tb_L T) (tb_H T) (tb_X T) (tb_D T) ch) ∧ (∃ fl, Fl_ (tb_fh T) (tb_V T) (tb_X T) fl) ∧
  Rf_ E (tb_V T) (tb_L T) (tb_H T) (tb_R T) ∧ tb_lo T = lc_ (tb_V T) (tb_R T) ∧ (tb_to T = tc_ x (tb_V T) ∧ ∀ v, v < 6 → tb_Q T v = vc_ x (tb_V T) v) ∧
  ∀ h, 2 ≤ h → h < 10 → E h < 2048 → ok_ (tb_V T) (E h / 2)
/-! steps of the table -/
def ta_ (e : Nat) (T : TN_) : TN_ := (tb_fh T, if tb_R T (e / 2) = 0 then tb_lo T - 1 else tb_lo T, tb_to T, tb_V T, tb_L T, tb_H T, fu_u (tb_R T) (e / 2) (tb_R T (e / 2) + 1), tb_X T, tb_D T, tb_Q T)
def td_ (e : Nat) (T : TN_) : TN_ := (tb_fh T, if tb_R T (e / 2) = 1 then tb_lo T + 1 else tb_lo T, tb_to T, tb_V T, tb_L T, tb_H T, fu_u (tb_R T) (e / 2) (tb_R T (e / 2) - 1), tb_X T, tb_D T, tb_Q T)
def tl_ (k : Nat) (T : TN_) : TN_ := (tb_fh T, tb_lo T, tb_to T + 1, tb_V T, tb_L T, tb_H T, tb_R T, fu_u (tb_X T) k (tb_D T (bk_ (tb_V T k) (tb_L T k) (tb_H T k))), fu_u (tb_D T) (bk_ (tb_V T k) (tb_L T k) (tb_H T k)) k, fu_u (tb_Q T) (tb_V T k) (tb_Q T (tb_V T k) + 1))
/-- k taken from the free list and written -/
def tw_ (v a b : Nat) (T : TN_) : TN_ := (tb_X T (tb_fh T), tb_lo T + 1, tb_to T, fu_u (tb_V T) (tb_fh T) v, fu_u (tb_L T) (tb_fh T) a, fu_u (tb_H T) (tb_fh T) b, fu_u (tb_R T) (tb_fh T) 0, tb_X T, tb_D T, tb_Q T)
/-- k out of its chain, z ahead of it there (0: none) -/
def tu_ (k z : Nat) (T : TN_) : TN_ := (tb_fh T, tb_lo T, tb_to T - 1, tb_V T, tb_L T, tb_H T, tb_R T, if z = 0 then tb_X T else fu_u (tb_X T) z (tb_X T k), if z = 0 then fu_u (tb_D T) (bk_ (tb_V T k) (tb_L T k) (tb_H T k)) (tb_X T k) else tb_D T, fu_u (tb_Q T) (tb_V T k) (tb_Q T (tb_V T k) - 1))
/-- k to the free list -/
def tf_ (k : Nat) (T : TN_) : TN_ := (k, tb_lo T - 1, tb_to T, fu_u (tb_V T) k 7, tb_L T, tb_H T, tb_R T, fu_u (tb_X T) k (tb_fh T), tb_D T, tb_Q T)
/-- k rewritten -/
def tr_ (k v a b : Nat) (T : TN_) : TN_ := (tb_fh T, tb_lo T, tb_to T, fu_u (tb_V T) k v, fu_u (tb_L T) k a, fu_u (tb_H T) k b, tb_R T, tb_X T, tb_D T, tb_Q T)
/-! sums under one change -/
theorem nr_upd {V L H : Nat → Nat} {k v a b i : Nat} (hk : k < 1024) : nr_ (fu_u V k v) (fu_u L k a) (fu_u H k b) i + nw_ V L H i k = nr_ V L H i + (if v < 6 then (if a / 2 = i then 1 else 0) + (if b / 2 = i then 1 else 0) else 0) := by
  have h := sm_ch (f := nw_ V L H i) (g := nw_ (fu_u V k v) (fu_u L k a) (fu_u H k b) i) (k := k) (m := 1024) hk (fun j _ hn => by unfold nw_; rw [fu_n hn, fu_n hn, fu_n hn])
  unfold nr_
  rw [h]
  conv => lhs; rhs; unfold nw_
  rw [fu_s, fu_s, fu_s]
theorem nr_no {n : Nat} {V L H : Nat → Nat} {φ : Nat → BF_} (S : Sm_ n V L H φ) {i : Nat} (h : ¬ ok_ V i) : nr_ V L H i = 0 := by
  apply sm_z0
  intro j hj
  unfold nw_
  by_cases hv : V j < 6
  · obtain ⟨-, -, -, -, -, h1, h2⟩ := S.2.1 j ⟨hj, hv⟩
    rw [if_pos hv, if_neg (fun e : L j / 2 = i => h (e ▸ h1)), if_neg (fun e : H j / 2 = i => h (e ▸ h2))]
  · rw [if_neg hv]
theorem hr_no {E V : Nat → Nat} (hE : ∀ h, 2 ≤ h → h < 10 → E h < 2048 → ok_ V (E h / 2)) {i : Nat} (h : ¬ ok_ V i) : hr_ E i = 0 := by
  apply sm_z0
  intro j hj
  rw [if_neg]
  intro c
  exact h (c.2.2 ▸ hE j c.1 hj c.2.1)
theorem nr_bd (V L H : Nat → Nat) (i : Nat) : nr_ V L H i ≤ 2048 := by
  have := sm_bd (f := nw_ V L H i) (b := 2) (m := 1024) (fun j _ => by unfold nw_; split <;> (try split) <;> (try split) <;> omega)
  unfold nr_; omega
theorem hr_bd (E : Nat → Nat) (i : Nat) : hr_ E i ≤ 10 := by
  have := sm_bd (f := fun h => if 2 ≤ h ∧ E h < 2048 ∧ E h / 2 = i then 1 else 0) (b := 1) (m := 10) (fun j _ => by (try dsimp only); split <;> omega)
  unfold hr_; omega
theorem Rf_.bd {E V L H R : Nat → Nat} (h : Rf_ E V L H R) {i : Nat} (hi : ok_ V i) : R i ≤ 3000 := by
  have := h i hi
  have := nr_bd V L H i
  have := hr_bd E i
  split at * <;> omega
theorem Rf_.r0 {E V L H R : Nat → Nat} (h : Rf_ E V L H R) : 0 < R 0 := by
  have := h 0 ok_0
  rw [if_pos rfl] at this
  omega
/-- an unreferenced node has no parent and no handle -/
theorem nr_z {V L H : Nat → Nat} {i j : Nat} (h : nr_ V L H i = 0) (hj : al_ V j) : L j / 2 ≠ i ∧ H j / 2 ≠ i := by
  have := sm_z h j hj.1
  unfold nw_ at this
  rw [if_pos hj.2] at this
  constructor
  · intro e; rw [if_pos e] at this; omega
  · intro e; rw [if_pos e] at this; omega
theorem nr_nz {V L H : Nat → Nat} {i : Nat} (h : nr_ V L H i ≠ 0) : ∃ j, al_ V j ∧ (L j / 2 = i ∨ H j / 2 = i) := by
  obtain ⟨j, hj, hw⟩ := sm_ne h
  unfold nw_ at hw
  by_cases hv : V j < 6
  · rw [if_pos hv] at hw
    refine ⟨j, ⟨hj, hv⟩, ?_⟩
    by_cases h1 : L j / 2 = i
    · exact Or.inl h1
    · by_cases h2 : H j / 2 = i
      · exact Or.inr h2
      · rw [if_neg h1, if_neg h2] at hw; omega
  · rw [if_neg hv] at hw; omega
theorem hr_z {E : Nat → Nat} {i h : Nat} (z : hr_ E i = 0) (h2 : 2 ≤ h) (h10 : h < 10) (he : E h < 2048) : E h / 2 ≠ i := by
  have := sm_z z h h10
  intro e
  rw [if_pos ⟨h2, he, e⟩] at this
  omega
theorem hr_nz {E : Nat → Nat} {i : Nat} (z : hr_ E i ≠ 0) : ∃ h, 2 ≤ h ∧ h < 10 ∧ E h < 2048 ∧ E h / 2 = i := by
  obtain ⟨j, hj, hw⟩ := sm_ne z
  by_cases c : 2 ≤ j ∧ E j < 2048 ∧ E j / 2 = i
  · exact ⟨j, c.1, hj, c.2.1, c.2.2⟩
  · try dsimp only at hw
    rw [if_neg c] at hw; omega
theorem lc_add {V R : Nat → Nat} {k : Nat} (hk : k < 1024) (h : V k < 6 ∨ R k ≠ 0) : lc_ V (fu_u R k (R k + 1)) = if R k = 0 then lc_ V R - 1 else lc_ V R := by
  have s := sm_ch (f := fun j => if V j < 6 ∧ R j = 0 then 1 else 0) (g := fun j => if V j < 6 ∧ fu_u R k (R k + 1) j = 0 then 1 else 0) (k := k) (m := 1024) hk (fun j _ hn => by (try dsimp only); rw [fu_n hn])
  try dsimp only at s
  rw [fu_s] at s
  unfold lc_
  rw [if_neg (c := V k < 6 ∧ R k + 1 = 0) (fun c => by have := c.2; omega)] at s
  by_cases z : R k = 0
  · rw [if_pos (c := V k < 6 ∧ R k = 0) ⟨h.elim id (fun c => absurd z c), z⟩] at s
    rw [if_pos z]; omega
  · rw [if_neg (c := V k < 6 ∧ R k = 0) (fun c => z c.2)] at s
    rw [if_neg z]; omega
theorem lc_drop {V R : Nat → Nat} {k : Nat} (hk : k < 1024) (h0 : R k ≠ 0) (h : V k < 6 ∨ R k ≠ 1) : lc_ V (fu_u R k (R k - 1)) = if R k = 1 then lc_ V R + 1 else lc_ V R := by
  have s := sm_ch (f := fun j => if V j < 6 ∧ R j = 0 then 1 else 0) (g := fun j => if V j < 6 ∧ fu_u R k (R k - 1) j = 0 then 1 else 0) (k := k) (m := 1024) hk (fun j _ hn => by (try dsimp only); rw [fu_n hn])
  try dsimp only at s
  rw [fu_s] at s
  unfold lc_
  rw [if_neg (c := V k < 6 ∧ R k = 0) (fun c => h0 c.2)] at s
  by_cases z : R k = 1
  · rw [if_pos ⟨h.elim id (fun c => absurd z c), by omega⟩] at s
    rw [if_pos z]; omega
  · rw [if_neg (fun c => by have := c.2; omega)] at s
    rw [if_neg z]; omega
theorem lc_pos {V R : Nat → Nat} {k : Nat} (hk : al_ V k) (h : R k = 0) : 0 < lc_ V R := by
  have := sm_one (f := fun j => if V j < 6 ∧ R j = 0 then 1 else 0) (k := k) (m := 1024) hk.1
  try dsimp only at this
  rw [if_pos ⟨hk.2, h⟩] at this
  unfold lc_; omega
theorem lc_z {V R : Nat → Nat} (h : lc_ V R = 0) {k : Nat} (hk : al_ V k) : R k ≠ 0 := by
  intro z
  have := lc_pos hk z
  omega
theorem lc_0 {V R : Nat → Nat} (h : ∀ k, al_ V k → R k ≠ 0) : lc_ V R = 0 := by
  apply sm_z0
  intro j hj
  rw [if_neg]
  intro c
  exact h j ⟨hj, c.1⟩ c.2
end
section
/-! the encoding of the blocks into the component's state -/
abbrev CN_ : Type := (Nat → Nat) × (Nat → Nat) × (Nat → Nat) × (Nat → Nat)
abbrev MN_ : Type := Nat × Nat × Nat × Nat × (Nat → Nat) × (Nat → Nat) × (Nat → Nat) × (Nat → Nat) × (Nat → Nat) × (Nat → Nat) × (Nat → Nat)
abbrev GN_ : Type := Nat × (Nat → Nat) × (Nat → Nat) × (Nat → Nat) × (Nat → Nat)
abbrev WN_ : Type := Nat × (Nat → Nat)
abbrev SN_ : Type := (Nat → Nat) × (Nat → Nat)
abbrev ca_F (C : CN_) : Nat → Nat := C.1
abbrev ca_G (C : CN_) : Nat → Nat := C.2.1
abbrev ca_H (C : CN_) : Nat → Nat := C.2.2.1
abbrev ca_R (C : CN_) : Nat → Nat := C.2.2.2
abbrev ma_F (M : MN_) : Nat := M.1
abbrev ma_G (M : MN_) : Nat := M.2.1
abbrev ma_H (M : MN_) : Nat := M.2.2.1
abbrev ma_n (M : MN_) : Nat := M.2.2.2.1
abbrev ma_f (M : MN_) : Nat → Nat := M.2.2.2.2.1
abbrev ma_g (M : MN_) : Nat → Nat := M.2.2.2.2.2.1
abbrev ma_h (M : MN_) : Nat → Nat := M.2.2.2.2.2.2.1
abbrev ma_v (M : MN_) : Nat → Nat := M.2.2.2.2.2.2.2.1
abbrev ma_p (M : MN_) : Nat → Nat := M.2.2.2.2.2.2.2.2.1
abbrev ma_l (M : MN_) : Nat → Nat := M.2.2.2.2.2.2.2.2.2.1
abbrev ma_b (M : MN_) : Nat → Nat := M.2.2.2.2.2.2.2.2.2.2
abbrev ga_n (G : GN_) : Nat := G.1
abbrev ga_r (G : GN_) : Nat → Nat := G.2.1
abbrev ga_s (G : GN_) : Nat → Nat := G.2.2.1
abbrev ga_i (G : GN_) : Nat → Nat := G.2.2.2.1
abbrev ga_w (G : GN_) : Nat → Nat := G.2.2.2.2
abbrev wo_n (W : WN_) : Nat := W.1
abbrev wo_w (W : WN_) : Nat → Nat := W.2
abbrev si_z (S : SN_) : Nat → Nat := S.1
abbrev si_c (S : SN_) : Nat → Nat := S.2
def en_I (f : Nat → Nat) : Nat → Int32 := fun i => nI (f i)
def en_V (f : Nat → Nat) : Nat → Int32 := fun i => if f i < 7 then nI (f i) else -1
def en_E (f : Nat → Nat) : Nat → Int32 := fun i => if f i < 2048 then nI (f i) else -1
def st_ (n la li : Nat) (E hh va lv : Nat → Nat) (T : TN_) (C : CN_) (M : MN_) (G : GN_) (W : WN_) (S : SN_) : SX := ((nI n), (nI la), (nI li), (nI (tb_fh T)), (nI (tb_lo T)), (nI (tb_to T)), (nI (ma_F M)), (nI (ma_G M)), (nI (ma_H M)), (nI (ma_n M)), (nI (ga_n G)), (nI (wo_n W)), (en_E E), (en_I hh), (en_I va), (en_I lv), (en_V (tb_V T)), (en_I (tb_L T)), (en_I (tb_H T)), (en_I (tb_R T)), (en_I (tb_X T)), (en_I (tb_D T)), (en_I (tb_Q T)), (en_I (ca_F C)), (en_I (ca_G C)), (en_I (ca_H C)), (en_I (ca_R C)), (en_I (ma_f M)), (en_I (ma_g M)), (en_I (ma_h M)), (en_I (ma_v M)), (en_I (ma_p M)), (en_I (ma_l M)), (en_I (ma_b M)), (en_I (ga_r G)), (en_I (ga_s G)), (en_I (ga_i G)), (en_I (ga_w G)), (en_I (wo_w W)), (en_I (si_z S)), (en_I (si_c S)))
theorem en_uI {f : Nat → Nat} {k x : Nat} : upd (en_I f) k (nI x) = en_I (fu_u f k x) := by
  funext j; unfold upd en_I fu_u; split <;> rfl
theorem en_uV {f : Nat → Nat} {k x : Nat} (h : x < 7) : upd (en_V f) k (nI x) = en_V (fu_u f k x) := by
  funext j; unfold upd en_V fu_u
  by_cases e : j = k
  · rw [if_pos e, if_pos e, if_pos h]
  · rw [if_neg e, if_neg e]
theorem en_uV7 {f : Nat → Nat} {k : Nat} : upd (en_V f) k (-1) = en_V (fu_u f k 7) := by
  funext j; unfold upd en_V fu_u
  by_cases e : j = k
  · rw [if_pos e, if_pos e, if_neg (by omega)]
  · rw [if_neg e, if_neg e]
theorem en_uE {f : Nat → Nat} {k x : Nat} (h : x < 2048) : upd (en_E f) k (nI x) = en_E (fu_u f k x) := by
  funext j; unfold upd en_E fu_u
  by_cases e : j = k
  · rw [if_pos e, if_pos e, if_pos h]
  · rw [if_neg e, if_neg e]
theorem en_uEn {f : Nat → Nat} {k : Nat} : upd (en_E f) k (-1) = en_E (fu_u f k 2048) := by
  funext j; unfold upd en_E fu_u
  by_cases e : j = k
  · rw [if_pos e, if_pos e, if_neg (by omega)]
  · rw [if_neg e, if_neg e]
theorem en_Vk {f : Nat → Nat} {k : Nat} (h : f k < 7) : en_V f k = nI (f k) := if_pos h
theorem en_Ek {f : Nat → Nat} {k : Nat} (h : f k < 2048) : en_E f k = nI (f k) := if_pos h
theorem en_En {f : Nat → Nat} {k : Nat} (h : ¬ f k < 2048) : en_E f k = -1 := if_neg h
theorem nn_half {e : Nat} (h : e < 2 ^ 31) : nI e >>> ((1 : Int32) &&& 31) = nI (e / 2) := pk_shrN h _ 1 (by decide)
theorem nn_low {e : Nat} (h : e < 2 ^ 31) : nI e &&& 1 = nI (e % 2) := pk_andN (by omega) 1 (by decide)
theorem nn_or (a b : Nat) : nI a ||| nI b = nI (a ||| b) := by
  apply Int32.toBitVec_inj.mp
  apply BitVec.eq_of_toNat_eq
  rw [Int32.toBitVec_or, BitVec.toNat_or]
  show (BitVec.ofNat 32 _).toNat ||| (BitVec.ofNat 32 _).toNat = (BitVec.ofNat 32 _).toNat
  rw [BitVec.toNat_ofNat, BitVec.toNat_ofNat, BitVec.toNat_ofNat, Nat.or_mod_two_pow]
theorem xr_d {e b : Nat} (hb : b < 2) : (e ^^^ b) / 2 = e / 2 := by
  rw [Nat.xor_div_two, Nat.div_eq_of_lt hb, Nat.xor_zero]
theorem xr_m {e b : Nat} : (e ^^^ b) % 2 = (e + b) % 2 := by
  have h := Nat.xor_mod_two_eq_one (a := e) (b := b)
  by_cases h1 : (e ^^^ b) % 2 = 1
  · have := h.mp h1
    by_cases h2 : e % 2 = 1 <;> by_cases h3 : b % 2 = 1 <;> simp [h2, h3] at this <;> omega
  · have : ¬ ¬ (e % 2 = 1 ↔ b % 2 = 1) := fun z => h1 (h.mpr z)
    by_cases h2 : e % 2 = 1 <;> by_cases h3 : b % 2 = 1 <;> simp [h2, h3] at this <;> omega
theorem xr_lt {e b : Nat} (hb : b < 2) (h : e < 2048) : e ^^^ b < 2048 := by
  have := xr_d (e := e) hb; omega
theorem nn_dbl {k f : Nat} (hk : k < 2 ^ 30) (hf : f < 2) : (nI k <<< ((1 : Int32) &&& 31)) ||| nI f = nI (2 * k + f) := by
  rw [pk_shlN _ 1 (by decide) (by omega), nn_or]
  congr 1
  have h1 : (k * 2 ^ 1 ||| f) / 2 = k := by rw [Nat.or_div_two, Nat.div_eq_of_lt hf, Nat.or_zero]; omega
  have h2 : (k * 2 ^ 1 ||| f) % 2 = f := by
    rcases (by omega : f = 0 ∨ f = 1) with h | h
    · subst h; rw [Nat.or_zero]; omega
    · subst h
      have := Nat.or_mod_two_eq_one (a := k * 2 ^ 1) (b := 1)
      omega
  omega
theorem ef_x {φ : Nat → BF_} {e b : Nat} (hb : b < 2) (a : Nat → Bool) : ef_ φ (e ^^^ b) a = (ef_ φ e a ^^ decide (b = 1)) := by
  unfold ef_
  rw [xr_d hb, xr_m]
  have h : decide ((e + b) % 2 = 1) = (decide (e % 2 = 1) ^^ decide (b = 1)) := by
    rcases (by omega : b = 0 ∨ b = 1) with h | h <;> subst h <;> rcases (by omega : e % 2 = 0 ∨ e % 2 = 1) with g | g
    · simp [g]
    · simp [g]
    · have : (e + 1) % 2 = 1 := by omega
      simp [g, this]
    · have : (e + 1) % 2 = 0 := by omega
      simp [g, this]
  rw [h, Bool.xor_assoc]
theorem bk_w (v a b : Nat) : (nI v * 32) + ((((nI a * 12582917) + (nI b * 4256249)).toUInt32 >>> ((14 : Int32).toUInt32 &&& Int32.toUInt32 31)).toInt32 &&& 31) = nI (bk_ v a b) := by
  unfold bk_ hs_
  obtain ⟨j, hj, e⟩ := pk_andE (((nI a * 12582917) + (nI b * 4256249)).toUInt32 >>> ((14 : Int32).toUInt32 &&& Int32.toUInt32 31)).toInt32 (m := 31) 5 (by decide)
  rw [e, nI_clamp (by omega), ← nI_add, ← pk_mul]
  rfl
theorem xw_bucket {post : Int32 → Prop} {u : SX} {v a b : Nat} (h : post (nI (bk_ v a b))) : wpX_bucket post u (nI v) (nI a) (nI b) := by
  rcases u with ⟨u1, u2, u3, u4, u5, u6, u7, u8, u9, u10, u11, u12, u13, u14, u15, u16, u17, u18, u19, u20, u21, u22, u23, u24, u25, u26, u27, u28, u29, u30, u31, u32, u33, u34, u35, u36, u37, u38, u39, u40, u41⟩
  intro x ex
  subst ex
  rw [bk_w]
  exact h
end
section
/-! walks of the table's small steps -/
section
variable {n la li : Nat} {E hh va lv : Nat → Nat} {T : TN_} {C : CN_} {M : MN_} {G : GN_} {W : WN_} {S : SN_}
theorem xw_addRef {post : SX → Prop} {e : Nat} (he : e < 2048) (hR : tb_R T (e / 2) < 4000) (hl : tb_R T (e / 2) = 0 → 0 < tb_lo T) (h : post (st_ n la li E hh va lv (ta_ e T) C M G W S)) : wpX_addRef post (st_ n la li E hh va lv T C M G W S) (nI e) := by
  have hi : vp_in (nI (e / 2)) 1024 := vp_in_nI (by omega) (by omega)
  unfold wpX_addRef st_
  dsimp only
  refine nm_r (nn_half (by omega)) ?_
  unfold wX_addRef_23
  rw [nI_clamp (by omega)]
  refine ⟨hi, pk_eq (tb_R T (e / 2)) 0 (fun z => ?_) (fun z => ?_)⟩
  · have hl' := hl z
    refine nm_r (e' := nI (tb_lo T - 1)) (pk_sub (b := 1) (by omega)) ⟨hi, hi, nm_r (e' := en_I (fu_u (tb_R T) (e / 2) (tb_R T (e / 2) + 1))) ?_ ?_⟩
    · rw [← en_uI, ← nI_1]; rfl
    · unfold ta_ at h
      rw [if_pos z] at h
      exact h
  · refine ⟨hi, hi, nm_r (e' := en_I (fu_u (tb_R T) (e / 2) (tb_R T (e / 2) + 1))) ?_ ?_⟩
    · rw [← en_uI, ← nI_1]; rfl
    · unfold ta_ at h
      rw [if_neg z] at h
      exact h
theorem xw_dropRef {post : SX → Prop} {e : Nat} (he : e < 2048) (hR : tb_R T (e / 2) < 4000) (h0 : 0 < tb_R T (e / 2)) (h : post (st_ n la li E hh va lv (td_ e T) C M G W S)) : wpX_dropRef post (st_ n la li E hh va lv T C M G W S) (nI e) := by
  have hi : vp_in (nI (e / 2)) 1024 := vp_in_nI (by omega) (by omega)
  unfold wpX_dropRef st_
  dsimp only
  refine nm_r (nn_half (by omega)) ?_
  rw [nI_clamp (by omega)]
  refine ⟨hi, hi, nm_r (e' := en_I (fu_u (tb_R T) (e / 2) (tb_R T (e / 2) - 1))) ?_ ⟨hi, ?_⟩⟩
  · rw [← en_uI]
    exact congrArg _ (pk_sub (b := 1) (by omega))
  · refine pk_eq (tb_R T (e / 2) - 1) 0 (fun z => ?_) (fun z => ?_) (by show nI (fu_u _ _ _ _) = _; rw [fu_s])
    · refine nm_r (e' := nI (tb_lo T + 1)) (nI_1 _) ?_
      unfold td_ at h
      rw [if_pos (by omega)] at h
      exact h
    · unfold td_ at h
      rw [if_neg (by omega)] at h
      exact h
theorem xw_link {post : SX → Prop} {k : Nat} (hk : k < 1024) (hv : tb_V T k < 6) (h : post (st_ n la li E hh va lv (tl_ k T) C M G W S)) : wpX_link post (st_ n la li E hh va lv T C M G W S) (nI k) := by
  have hi : vp_in (nI k) 1024 := vp_in_nI hk (by omega)
  have hb : bk_ (tb_V T k) (tb_L T k) (tb_H T k) < 192 := bk_lt hv
  have hbi : vp_in (nI (bk_ (tb_V T k) (tb_L T k) (tb_H T k))) 192 := vp_in_nI hb (by omega)
  have hvi : vp_in (nI (tb_V T k)) 6 := vp_in_nI hv (by omega)
  unfold wpX_link st_
  dsimp only
  rw [nI_clamp (by omega)]
  refine ⟨hi, nm_r (en_Vk (by omega)) ⟨hi, hi, ?_⟩⟩
  refine xw_bucket (v := tb_V T k) (a := tb_L T k) (b := tb_H T k) ?_
  rw [nI_clamp (n := bk_ (tb_V T k) (tb_L T k) (tb_H T k)) (by omega), nI_clamp (n := tb_V T k) (by omega)]
  refine ⟨hbi, hi, nm_r (en_uI (x := tb_D T (bk_ (tb_V T k) (tb_L T k) (tb_H T k)))) ⟨hbi, nm_r (en_uI (x := k)) ⟨hvi, hvi, nm_r (e' := en_I (fu_u (tb_Q T) (tb_V T k) (tb_Q T (tb_V T k) + 1))) ?_ (nm_r (e' := nI (tb_to T + 1)) (nI_1 _) h)⟩⟩⟩
  rw [← en_uI, ← nI_1]; rfl
theorem xw_unlinkE {post : SX → Prop} {k z : Nat} (hk : k < 1024) (hz : z < 1024) (hv : tb_V T k < 6) (ht : 0 < tb_to T) (hq : 0 < tb_Q T (tb_V T k)) (h : post (st_ n la li E hh va lv (tu_ k z T) C M G W S)) : wX_unlink_77 post (nI k) (nI (tb_V T k)) (nI (bk_ (tb_V T k) (tb_L T k) (tb_H T k))) (nI z) (nI k) (nI n) (nI la) (nI li) (nI (tb_fh T)) (nI (tb_lo T)) (nI (tb_to T)) (nI (ma_F M)) (nI (ma_G M)) (nI (ma_H M)) (nI (ma_n M)) (nI (ga_n G)) (nI (wo_n W)) (en_E E) (en_I hh) (en_I va) (en_I lv) (en_V (tb_V T)) (en_I (tb_L T)) (en_I (tb_H T)) (en_I (tb_R T)) (en_I (tb_X T)) (en_I (tb_D T)) (en_I (tb_Q T)) (en_I (ca_F C)) (en_I (ca_G C)) (en_I (ca_H C)) (en_I (ca_R C)) (en_I (ma_f M)) (en_I (ma_g M)) (en_I (ma_h M)) (en_I (ma_v M)) (en_I (ma_p M)) (en_I (ma_l M)) (en_I (ma_b M)) (en_I (ga_r G)) (en_I (ga_s G)) (en_I (ga_i G)) (en_I (ga_w G)) (en_I (wo_w W)) (en_I (si_z S)) (en_I (si_c S)) := by
  have hi : vp_in (nI k) 1024 := vp_in_nI hk (by omega)
  have hb : bk_ (tb_V T k) (tb_L T k) (tb_H T k) < 192 := bk_lt hv
  have hbi : vp_in (nI (bk_ (tb_V T k) (tb_L T k) (tb_H T k))) 192 := vp_in_nI hb (by omega)
  have hvi : vp_in (nI (tb_V T k)) 6 := vp_in_nI hv (by omega)
  have hQ : upd (en_I (tb_Q T)) (tb_V T k) (en_I (tb_Q T) (tb_V T k) - 1) = en_I (fu_u (tb_Q T) (tb_V T k) (tb_Q T (tb_V T k) - 1)) := by
    rw [← en_uI]
    exact congrArg _ (pk_sub (b := 1) (by omega))
  unfold wX_unlink_77 wX_unlink_117
  rw [nI_clamp (n := bk_ (tb_V T k) (tb_L T k) (tb_H T k)) (by omega), nI_clamp (n := tb_V T k) (by omega), nI_clamp (n := k) (by omega), nI_clamp (n := z) (by omega)]
  refine br_t rfl (pk_eq z 0 (fun e => ?_) (fun e => ?_))
  · unfold tu_ at h
    rw [if_pos e, if_pos e] at h
    exact ⟨hi, hbi, nm_r (en_uI (x := tb_X T k)) ⟨hvi, hvi, nm_r hQ (nm_r (e' := nI (tb_to T - 1)) (pk_sub (b := 1) (by omega)) h)⟩⟩
  · unfold tu_ at h
    rw [if_neg e, if_neg e] at h
    exact ⟨hi, vp_in_nI hz (by omega), nm_r (en_uI (x := tb_X T k)) ⟨hvi, hvi, nm_r hQ (nm_r (e' := nI (tb_to T - 1)) (pk_sub (b := 1) (by omega)) h)⟩⟩
theorem xw_unlinkL {post : SX → Prop} {k : Nat} {q : List Nat} (hk : k < 1024) (hv : tb_V T k < 6) (ht : 0 < tb_to T) (hq : 0 < tb_Q T (tb_V T k)) : ∀ (p : List Nat) (z c s N : Nat), z < 1024 → Lk_ (tb_X T) c (p ++ k :: q) → k ∉ p → (∀ x, x ∈ p → x < 1024) → s + p.length < 1024 → p.length < N → post (st_ n la li E hh va lv (tu_ k (p.getLastD z) T) C M G W S) → wX_unlink_39 post (nI k) (nI (tb_V T k)) (nI (bk_ (tb_V T k) (tb_L T k) (tb_H T k))) (nI n) (nI la) (nI li) (nI (tb_fh T)) (nI (tb_lo T)) (nI (tb_to T)) (nI (ma_F M)) (nI (ma_G M)) (nI (ma_H M)) (nI (ma_n M)) (nI (ga_n G)) (nI (wo_n W)) (en_E E) (en_I hh) (en_I va) (en_I lv) (en_V (tb_V T)) (en_I (tb_L T)) (en_I (tb_H T)) (en_I (tb_R T)) (en_I (tb_X T)) (en_I (tb_D T)) (en_I (tb_Q T)) (en_I (ca_F C)) (en_I (ca_G C)) (en_I (ca_H C)) (en_I (ca_R C)) (en_I (ma_f M)) (en_I (ma_g M)) (en_I (ma_h M)) (en_I (ma_v M)) (en_I (ma_p M)) (en_I (ma_l M)) (en_I (ma_b M)) (en_I (ga_r G)) (en_I (ga_s G)) (en_I (ga_i G)) (en_I (ga_w G)) (en_I (wo_w W)) (en_I (si_z S)) (en_I (si_c S)) N (nI z) (nI c) (nI s)
  | [], z, c, s, N, hz, hl, _, _, hs, hN, h => by
    obtain ⟨N, rfl⟩ : ∃ m, N = m + 1 := ⟨N - 1, by simp at hN; omega⟩
    have e : c = k := hl.1
    have hk0 : k ≠ 0 := hl.2.1
    subst e
    simp only [List.length_nil] at hs
    exact pk_le 1024 s (fun g => by omega) (fun _ => pk_eq c 0 (fun g => absurd g hk0) (fun _ => br_t rfl (xw_unlinkE hk hz hv ht hq h)))
  | x :: p, z, c, s, N, hz, hl, hnp, hlt, hs, hN, h => by
    obtain ⟨N, rfl⟩ : ∃ m, N = m + 1 := ⟨N - 1, by simp at hN; omega⟩
    obtain ⟨e, hx0, hl'⟩ := hl
    subst e
    have hc : c < 1024 := hlt c (by simp)
    have hck : c ≠ k := fun e => hnp (by simp [e])
    simp only [List.length_cons] at hs hN
    refine pk_le 1024 s (fun g => by omega) (fun _ => pk_eq c 0 (fun g => absurd g hx0) (fun _ => pk_eq c k (fun g => absurd g hck) (fun _ => ⟨vp_in_nI hc (by omega), nm_r (e' := nI (tb_X T c)) ?_ (nm_r (e' := nI (s + 1)) (nI_1 _) ?_)⟩)))
    · rw [nI_clamp (by omega)]; rfl
    · refine xw_unlinkL hk hv ht hq p c (tb_X T c) (s + 1) N hc hl' (fun e => hnp (by simp [e])) (fun y hy => hlt y (by simp [hy])) (by omega) (by omega) ?_
      rw [List.getLastD_cons] at h
      exact h
theorem xw_unlink {post : SX → Prop} {k : Nat} {p q : List Nat} (hk : k < 1024) (hv : tb_V T k < 6) (ht : 0 < tb_to T) (hq : 0 < tb_Q T (tb_V T k)) (hl : Lk_ (tb_X T) (tb_D T (bk_ (tb_V T k) (tb_L T k) (tb_H T k))) (p ++ k :: q)) (hnp : k ∉ p) (hlt : ∀ x, x ∈ p → x < 1024) (hp : p.length < 1024) (h : post (st_ n la li E hh va lv (tu_ k (p.getLastD 0) T) C M G W S)) : wpX_unlink post (st_ n la li E hh va lv T C M G W S) (nI k) := by
  have hi : vp_in (nI k) 1024 := vp_in_nI hk (by omega)
  have hb : bk_ (tb_V T k) (tb_L T k) (tb_H T k) < 192 := bk_lt hv
  have hbi : vp_in (nI (bk_ (tb_V T k) (tb_L T k) (tb_H T k))) 192 := vp_in_nI hb (by omega)
  unfold wpX_unlink st_
  dsimp only
  rw [nI_clamp (n := k) (by omega)]
  refine ⟨hi, nm_r (en_Vk (by omega)) ⟨hi, hi, ?_⟩⟩
  refine xw_bucket (v := tb_V T k) (a := tb_L T k) (b := tb_H T k) ?_
  rw [nI_clamp (n := bk_ (tb_V T k) (tb_L T k) (tb_H T k)) (by omega)]
  exact ⟨hbi, nm_r (e' := nI (tb_D T (bk_ (tb_V T k) (tb_L T k) (tb_H T k)))) rfl ⟨p.length + 1, xw_unlinkL hk hv ht hq p 0 _ 0 _ (by omega) hl hnp hlt (by omega) (by omega) h⟩⟩
/-- the search of make -/
theorem xw_makeL {post : Int32 → SX → Prop} {x2 f a b : Nat} {x1 : Int32} (hf : f < 2) (ha : a < 2048) (hb : b < 2048) : ∀ (l : List Nat) (c s N : Nat), (∀ j, j ∈ l → tb_L T j < 2048) → (∀ j, j ∈ l → tb_H T j < 2048) → Lk_ (tb_X T) c l → (∀ x, x ∈ l → x < 1024) → s + l.length < 1024 → l.length < N → (∀ j, j ∈ l → tb_L T j = a → tb_H T j = b → post (nI (2 * j + f)) (st_ n la li E hh va lv T C M G W S)) → ((∀ j, j ∈ l → ¬ (tb_L T j = a ∧ tb_H T j = b)) → wX_make_107 post x1 (nI x2) (nI f) (nI a) (nI b) (nI n) (nI la) (nI li) (nI (tb_fh T)) (nI (tb_lo T)) (nI (tb_to T)) (nI (ma_F M)) (nI (ma_G M)) (nI (ma_H M)) (nI (ma_n M)) (nI (ga_n G)) (nI (wo_n W)) (en_E E) (en_I hh) (en_I va) (en_I lv) (en_V (tb_V T)) (en_I (tb_L T)) (en_I (tb_H T)) (en_I (tb_R T)) (en_I (tb_X T)) (en_I (tb_D T)) (en_I (tb_Q T)) (en_I (ca_F C)) (en_I (ca_G C)) (en_I (ca_H C)) (en_I (ca_R C)) (en_I (ma_f M)) (en_I (ma_g M)) (en_I (ma_h M)) (en_I (ma_v M)) (en_I (ma_p M)) (en_I (ma_l M)) (en_I (ma_b M)) (en_I (ga_r G)) (en_I (ga_s G)) (en_I (ga_i G)) (en_I (ga_w G)) (en_I (wo_w W)) (en_I (si_z S)) (en_I (si_c S))) → wX_make_47 post x1 (nI x2) (nI f) (nI a) (nI b) (nI n) (nI la) (nI li) (nI (tb_fh T)) (nI (tb_lo T)) (nI (tb_to T)) (nI (ma_F M)) (nI (ma_G M)) (nI (ma_H M)) (nI (ma_n M)) (nI (ga_n G)) (nI (wo_n W)) (en_E E) (en_I hh) (en_I va) (en_I lv) (en_V (tb_V T)) (en_I (tb_L T)) (en_I (tb_H T)) (en_I (tb_R T)) (en_I (tb_X T)) (en_I (tb_D T)) (en_I (tb_Q T)) (en_I (ca_F C)) (en_I (ca_G C)) (en_I (ca_H C)) (en_I (ca_R C)) (en_I (ma_f M)) (en_I (ma_g M)) (en_I (ma_h M)) (en_I (ma_v M)) (en_I (ma_p M)) (en_I (ma_l M)) (en_I (ma_b M)) (en_I (ga_r G)) (en_I (ga_s G)) (en_I (ga_i G)) (en_I (ga_w G)) (en_I (wo_w W)) (en_I (si_z S)) (en_I (si_c S)) N (nI c) (nI s)
  | [], c, s, N, _, _, hl, _, hs, hN, _, h => by
    obtain ⟨N, rfl⟩ : ∃ m, N = m + 1 := ⟨N - 1, by simp at hN; omega⟩
    have e : c = 0 := hl
    subst e
    simp only [List.length_nil] at hs
    exact pk_le 1024 s (fun g => by omega) (fun _ => br_t rfl (h (by simp)))
  | x :: l, c, s, N, hL, hH, hl, hlt, hs, hN, hp, h => by
    obtain ⟨N, rfl⟩ : ∃ m, N = m + 1 := ⟨N - 1, by simp at hN; omega⟩
    obtain ⟨e, hx0, hl'⟩ := hl
    subst e
    have hc : c < 1024 := hlt c (by simp)
    have hi : vp_in (nI c) 1024 := vp_in_nI hc (by omega)
    have hLc := hL c (by simp)
    have hHc := hH c (by simp)
    simp only [List.length_cons] at hs hN
    have go : ¬ (tb_L T c = a ∧ tb_H T c = b) → wX_make_47 post x1 (nI x2) (nI f) (nI a) (nI b) (nI n) (nI la) (nI li) (nI (tb_fh T)) (nI (tb_lo T)) (nI (tb_to T)) (nI (ma_F M)) (nI (ma_G M)) (nI (ma_H M)) (nI (ma_n M)) (nI (ga_n G)) (nI (wo_n W)) (en_E E) (en_I hh) (en_I va) (en_I lv) (en_V (tb_V T)) (en_I (tb_L T)) (en_I (tb_H T)) (en_I (tb_R T)) (en_I (tb_X T)) (en_I (tb_D T)) (en_I (tb_Q T)) (en_I (ca_F C)) (en_I (ca_G C)) (en_I (ca_H C)) (en_I (ca_R C)) (en_I (ma_f M)) (en_I (ma_g M)) (en_I (ma_h M)) (en_I (ma_v M)) (en_I (ma_p M)) (en_I (ma_l M)) (en_I (ma_b M)) (en_I (ga_r G)) (en_I (ga_s G)) (en_I (ga_i G)) (en_I (ga_w G)) (en_I (wo_w W)) (en_I (si_z S)) (en_I (si_c S)) N (nI (tb_X T c)) (nI (s + 1)) := fun hne =>
      xw_makeL hf ha hb l (tb_X T c) (s + 1) N (fun j hj => hL j (by simp [hj])) (fun j hj => hH j (by simp [hj])) hl' (fun y hy => hlt y (by simp [hy])) (by omega) (by omega) (fun j hj => hp j (by simp [hj])) (fun hall => h (fun j hj => by
        rcases List.mem_cons.mp hj with e | e
        · subst e; exact hne
        · exact hall j e))
    refine pk_le 1024 s (fun g => by omega) (fun _ => pk_eq c 0 (fun g => absurd g hx0) (fun _ => ?_))
    rw [nI_clamp (n := c) (by omega)]
    refine ⟨hi, pk_eq (tb_L T c) a (fun g1 => ⟨hi, pk_eq (tb_H T c) b (fun g2 => ?_) (fun g2 => ⟨hi, nm_r (e' := nI (tb_X T c)) rfl (nm_r (e' := nI (s + 1)) (nI_1 _) (go (fun z => g2 z.2)))⟩)⟩) (fun g1 => ⟨hi, nm_r (e' := nI (tb_X T c)) rfl (nm_r (e' := nI (s + 1)) (nI_1 _) (go (fun z => g1 z.1)))⟩)⟩
    rw [nn_dbl (by omega) hf]
    exact hp c (by simp) g1 g2
end
end
section
/-! what the table's steps keep -/
theorem i1_c {P Q : Prop} [Decidable P] [Decidable Q] (h : P ↔ Q) : (if P then 1 else 0 : Nat) = if Q then 1 else 0 := by
  by_cases p : P
  · rw [if_pos p, if_pos (h.mp p)]
  · rw [if_neg p, if_neg (fun q => p (h.mpr q))]
theorem al_fu {V : Nat → Nat} {k v j : Nat} (h : j ≠ k) : al_ (fu_u V k v) j ↔ al_ V j := by
  unfold al_; rw [fu_n h]
theorem al_fk {V : Nat → Nat} {k v : Nat} (hk : k < 1024) (hv : v < 6) : al_ (fu_u V k v) k := by
  unfold al_; rw [fu_s]; exact ⟨hk, hv⟩
theorem ok_fu {V : Nat → Nat} {k v j : Nat} (h : j ≠ k) : ok_ (fu_u V k v) j ↔ ok_ V j := by
  unfold ok_; rw [al_fu h]
theorem ef_fu {φ : Nat → BF_} {k e : Nat} {g : BF_} (h : e / 2 ≠ k) : ef_ (fu_u φ k g) e = ef_ φ e := by
  unfold ef_; rw [fu_n h]
theorem ch_link {x x' k : Nat} {V L H X D V' L' H' : Nat → Nat} {ch : Nat → List Nat} (hc : Ch_ x V L H X D ch) (h0 : k ≠ 0) (hk : ¬ (al_ V k ∧ k ≠ x)) (hk' : al_ V' k ∧ k ≠ x') (hs : ∀ j, j ≠ k → ((al_ V' j ∧ j ≠ x') ↔ (al_ V j ∧ j ≠ x))) (hV : ∀ j, j ≠ k → V' j = V j ∧ L' j = L j ∧ H' j = H j) : Ch_ x' V' L' H' (fu_u X k (D (bk_ (V' k) (L' k) (H' k)))) (fu_u D (bk_ (V' k) (L' k) (H' k)) k) (fu_u ch (bk_ (V' k) (L' k) (H' k)) (k :: ch (bk_ (V' k) (L' k) (H' k)))) := by
  intro b hb
  obtain ⟨c1, c2, c3⟩ := hc b hb
  have hn : k ∉ ch b := fun e => hk ((c3 k).mp e).1
  have key : ∀ j, j ≠ k → (((al_ V' j ∧ j ≠ x') ∧ bk_ (V' j) (L' j) (H' j) = b) ↔ j ∈ ch b) := by
    intro j hj
    obtain ⟨e1, e2, e3⟩ := hV j hj
    rw [e1, e2, e3, hs j hj, c3 j]
  by_cases e : b = bk_ (V' k) (L' k) (H' k)
  · rw [← e, fu_s, fu_s]
    refine ⟨⟨rfl, h0, ?_⟩, List.nodup_cons.mpr ⟨hn, c2⟩, fun j => ?_⟩
    · rw [fu_s]; exact Lk_upd hn c1
    · by_cases hj : j = k
      · subst hj
        constructor
        · intro _; exact ⟨hk', e.symm⟩
        · intro _; simp
      · rw [key j hj, List.mem_cons]
        constructor
        · intro z; exact z.elim (fun z => absurd z hj) id
        · intro z; exact Or.inr z
  · rw [fu_n e, fu_n e]
    refine ⟨Lk_upd hn c1, c2, fun j => ?_⟩
    by_cases hj : j = k
    · subst hj
      constructor
      · intro z; exact absurd z hn
      · intro z; exact absurd z.2.symm e
    · exact (key j hj).symm
theorem tc_one {x x' k : Nat} {V V' : Nat → Nat} (hk : k < 1024) (h0 : ¬ (V k < 6 ∧ k ≠ x)) (h1 : V' k < 6 ∧ k ≠ x') (h : ∀ j, j < 1024 → j ≠ k → ((V' j < 6 ∧ j ≠ x') ↔ (V j < 6 ∧ j ≠ x))) : tc_ x' V' = tc_ x V + 1 := by
  have s := sm_ch (f := fun j => if V j < 6 ∧ j ≠ x then 1 else 0) (g := fun j => if V' j < 6 ∧ j ≠ x' then 1 else 0) (k := k) (m := 1024) hk (fun j hj hn => i1_c (h j hj hn))
  try dsimp only at s
  rw [if_neg h0, if_pos h1] at s
  unfold tc_; omega
theorem vc_one {x x' k : Nat} {V V' : Nat → Nat} (hk : k < 1024) (h0 : ¬ (V k < 6 ∧ k ≠ x)) (h1 : k ≠ x') (hv : V' k < 6) (h : ∀ j, j < 1024 → j ≠ k → V' j = V j ∧ (V j < 6 → (j ≠ x' ↔ j ≠ x))) {w : Nat} (hw : w < 6) : vc_ x' V' w = if w = V' k then vc_ x V w + 1 else vc_ x V w := by
  have s := sm_ch (f := fun j => if V j = w ∧ j ≠ x then 1 else 0) (g := fun j => if V' j = w ∧ j ≠ x' then 1 else 0) (k := k) (m := 1024) hk (fun j hj hn => by
    obtain ⟨e1, e2⟩ := h j hj hn
    try dsimp only
    rw [e1]
    by_cases e : V j = w
    · have := e2 (by omega)
      exact i1_c (by rw [this])
    · rw [if_neg (fun c => e c.1), if_neg (fun c => e c.1)])
  try dsimp only at s
  rw [if_neg (c := V k = w ∧ k ≠ x) (fun c => h0 ⟨by omega, c.2⟩)] at s
  unfold vc_
  by_cases e : w = V' k
  · rw [if_pos ⟨e.symm, h1⟩] at s
    rw [if_pos e]; omega
  · rw [if_neg (fun c => e c.1.symm)] at s
    rw [if_neg e]; omega
theorem sm_new {n k v a b : Nat} {V L H : Nat → Nat} {φ : Nat → BF_} (S : Sm_ n V L H φ) (h0 : k ≠ 0) (hk : k < 1024) (hV : ¬ V k < 6) (hv : v < n) (ha : ok_ V (a / 2)) (hb : ok_ V (b / 2)) (hae : a % 2 = 0) (hab : a ≠ b)
    (ia : ∀ s x, ef_ φ a (fu_u s v x) = ef_ φ a s) (ib : ∀ s x, ef_ φ b (fu_u s v x) = ef_ φ b s) (nw : ∀ j, al_ V j → ¬ ∀ s : Nat → Bool, φ j s = if s v = true then ef_ φ b s else ef_ φ a s) :
    Sm_ n (fu_u V k v) (fu_u L k a) (fu_u H k b) (fu_u φ k (fun s => if s v = true then ef_ φ b s else ef_ φ a s)) := by
  have hn6 := S.1.1
  have nk : ∀ j, ok_ V j → j ≠ k := fun j hj e => by
    subst e
    exact hj.elim h0 (fun z => hV z.2)
  have okk : ∀ j, ok_ V j → ok_ (fu_u V k v) j := fun j hj => (ok_fu (nk j hj)).mpr hj
  have n0 : ¬ ∀ s : Nat → Bool, false = if s v = true then ef_ φ b s else ef_ φ a s := by
    intro c
    apply hab
    apply S.can ha hb
    intro s
    have c0 := c (fu_u s v false)
    have c1 := c (fu_u s v true)
    rw [fu_s, if_neg (by decide), ia] at c0
    rw [fu_s, if_pos rfl, ib] at c1
    rw [← c0, ← c1]
  have nwo : ∀ j, ok_ V j → ¬ ∀ s : Nat → Bool, φ j s = if s v = true then ef_ φ b s else ef_ φ a s := by
    intro j hj
    rcases hj with e | e
    · subst e; intro c; apply n0; intro s; rw [← c s, S.1.2.2]
    · exact nw j e
  refine ⟨⟨hn6, ?_, ?_⟩, ?_, ?_, ?_, ?_, ?_⟩
  · rw [fu_n (fun e => h0 e.symm)]; exact S.1.2.1
  · intro s; rw [fu_n (fun e => h0 e.symm)]; exact S.1.2.2 s
  · intro i hi
    by_cases e : i = k
    · subst e
      rw [fu_s, fu_s, fu_s]
      exact ⟨hv, ef_lt ha, ef_lt hb, hae, hab, okk _ ha, okk _ hb⟩
    · rw [fu_n e, fu_n e, fu_n e]
      obtain ⟨s1, s2, s3, s4, s5, s6, s7⟩ := S.2.1 i ((al_fu e).mp hi)
      exact ⟨s1, s2, s3, s4, s5, okk _ s6, okk _ s7⟩
  · intro i hi s
    by_cases e : i = k
    · subst e
      rw [fu_s, fu_s, fu_s, fu_s, ef_fu (nk _ ha), ef_fu (nk _ hb)]
    · obtain ⟨s1, s2, s3, s4, s5, s6, s7⟩ := S.2.1 i ((al_fu e).mp hi)
      rw [fu_n e, fu_n e, fu_n e, fu_n e, ef_fu (nk _ s6), ef_fu (nk _ s7)]
      exact S.2.2.1 i ((al_fu e).mp hi) s
  · intro i hi s x
    by_cases e : i = k
    · subst e
      rw [fu_s, fu_s, fu_s, ef_fu (nk _ ha), ef_fu (nk _ hb)]
      exact ⟨ia s x, ib s x⟩
    · obtain ⟨s1, s2, s3, s4, s5, s6, s7⟩ := S.2.1 i ((al_fu e).mp hi)
      rw [fu_n e, fu_n e, fu_n e, ef_fu (nk _ s6), ef_fu (nk _ s7)]
      exact S.2.2.2.1 i ((al_fu e).mp hi) s x
  · intro i hi
    by_cases e : i = k
    · subst e
      rw [fu_s, if_neg (by simp)]
      unfold ef_
      rw [S.2.2.2.2.1 _ ha, hae]
      rfl
    · rw [fu_n e]
      exact S.2.2.2.2.1 i ((ok_fu e).mp hi)
  · intro i j hi hj hij
    by_cases e : i = k
    · by_cases e' : j = k
      · rw [e, e']
      · exfalso
        subst e
        refine nwo j ((ok_fu e').mp hj) (fun s => ?_)
        have := hij s
        rw [fu_s, fu_n e'] at this
        exact this.symm
    · by_cases e' : j = k
      · exfalso
        subst e'
        refine nwo i ((ok_fu e).mp hi) (fun s => ?_)
        have := hij s
        rw [fu_s, fu_n e] at this
        exact this
      · refine S.2.2.2.2.2 i j ((ok_fu e).mp hi) ((ok_fu e').mp hj) (fun s => ?_)
        have := hij s
        rw [fu_n e, fu_n e'] at this
        exact this
/-- the table with one node more -/
theorem ti_new {n x v a b : Nat} {E : Nat → Nat} {T : TN_} {φ : Nat → BF_} (I : Ti_ n E x T φ) (hfh : tb_fh T ≠ 0) (hx : x = 0 ∨ al_ (tb_V T) x) (hv : v < n) (ha : ok_ (tb_V T) (a / 2)) (hb : ok_ (tb_V T) (b / 2)) (hae : a % 2 = 0) (hab : a ≠ b)
    (ia : ∀ s x, ef_ φ a (fu_u s v x) = ef_ φ a s) (ib : ∀ s x, ef_ φ b (fu_u s v x) = ef_ φ b s) (nw : ∀ j, al_ (tb_V T) j → ¬ ∀ s : Nat → Bool, φ j s = if s v = true then ef_ φ b s else ef_ φ a s) :
    (tb_fh T < 1024 ∧ ¬ tb_V T (tb_fh T) < 6) ∧ Ti_ n E x (tl_ (tb_fh T) (ta_ b (ta_ a (tw_ v a b T)))) (fu_u φ (tb_fh T) (fun s => if s v = true then ef_ φ b s else ef_ φ a s)) := by
  obtain ⟨fh, lo, to, V, L, H, R, X, D, Q⟩ := T
  obtain ⟨S, ⟨ch, hch⟩, ⟨fl, f1, f2, f3, f7⟩, hR, hlo, ⟨hto, hQ⟩, hE⟩ := I
  dsimp only [tb_fh, tb_lo, tb_to, tb_V, tb_L, tb_H, tb_R, tb_X, tb_D, tb_Q] at S hch f1 f2 f3 f7 hR hlo hto hQ hE hfh ha hb ia ib nw hx ⊢
  have hn6 := S.1.1
  obtain ⟨fl, rfl⟩ : ∃ t, fl = fh :: t := by
    cases fl with
    | nil => exact absurd f1 hfh
    | cons c t => exact ⟨t, by rw [f1.1]⟩
  obtain ⟨-, -, f1⟩ := f1
  obtain ⟨k0, k1, k2⟩ := (f3 fh).mp (by simp)
  have f4 := List.nodup_cons.mp f2
  have nk : ∀ j, ok_ V j → j ≠ fh := fun j hj e => by
    subst e
    exact hj.elim hfh (fun z => k2 z.2)
  have kal : ¬ al_ V fh := fun z => k2 z.2
  have hv6 : v < 6 := by omega
  have xk : fh ≠ x := fun e => by
    rcases hx with z | z
    · omega
    · exact kal (e ▸ z)
  have hcl := ch_link (x := x) (x' := x) (V' := fu_u V fh v) (L' := fu_u L fh a) (H' := fu_u H fh b) hch hfh (fun z => kal z.1) ⟨al_fk k1 hv6, xk⟩ (fun j hj => by rw [al_fu hj]) (fun j hj => ⟨fu_n hj, fu_n hj, fu_n hj⟩)
  refine ⟨⟨k1, k2⟩, sm_new S hfh k1 k2 hv ha hb hae hab ia ib nw, ⟨_, hcl⟩, ⟨fl, ?_⟩, ?_, ?_, ⟨?_, ?_⟩, ?_⟩
  · refine ⟨Lk_upd f4.1 f1, f4.2, fun j => ?_, fun j hj => ?_⟩
    rotate_left
    · show fu_u V fh v j = 7
      have e : j ≠ fh := fun e => f4.1 (e ▸ hj)
      rw [fu_n e]; exact f7 j (by simp [hj])
    show j ∈ fl ↔ 0 < j ∧ j < 1024 ∧ ¬ fu_u V fh v j < 6
    by_cases e : j = fh
    · subst e
      rw [fu_s]
      constructor
      · intro z; exact absurd z f4.1
      · intro z; exact absurd hv6 z.2.2
    · rw [fu_n e, ← f3 j, List.mem_cons]
      constructor
      · intro z; exact Or.inr z
      · intro z; exact z.elim (fun z => absurd z e) id
  · intro i hi
    show fu_u (fu_u (fu_u R fh 0) (a / 2) (fu_u R fh 0 (a / 2) + 1)) (b / 2) (fu_u (fu_u R fh 0) (a / 2) (fu_u R fh 0 (a / 2) + 1) (b / 2) + 1) i = (if i = 0 then 1 else 0) + hr_ E i + nr_ (fu_u V fh v) (fu_u L fh a) (fu_u H fh b) i
    have hna := nk _ ha
    have hnb := nk _ hb
    have u := nr_upd (V := V) (L := L) (H := H) (v := v) (a := a) (b := b) (i := i) k1
    rw [if_pos hv6] at u
    have w0 : nw_ V L H i fh = 0 := by unfold nw_; rw [if_neg k2]
    rw [w0] at u
    by_cases e : i = fh
    · subst e
      rw [fu_n (fun e => hnb e.symm), fu_n (fun e => hna e.symm), fu_s, if_neg hfh, hr_no hE (fun z => nk _ z rfl)]
      rw [nr_no S (fun z => nk _ z rfl), if_neg hna, if_neg hnb] at u
      omega
    · have r := hR i ((ok_fu e).mp hi)
      by_cases e1 : i = a / 2
      · by_cases e2 : i = b / 2
        · rw [← e2, fu_s, ← e1, fu_s, fu_n e]
          rw [if_pos e1.symm, if_pos e2.symm] at u
          omega
        · rw [fu_n e2, ← e1, fu_s, fu_n e]
          rw [if_pos e1.symm, if_neg (fun z => e2 z.symm)] at u
          omega
      · by_cases e2 : i = b / 2
        · rw [← e2, fu_s, fu_n e1, fu_n e]
          rw [if_neg (fun z => e1 z.symm), if_pos e2.symm] at u
          omega
        · rw [fu_n e2, fu_n e1, fu_n e]
          rw [if_neg (fun z => e1 z.symm), if_neg (fun z => e2 z.symm)] at u
          omega
  · have s := sm_ch (f := fun j => if V j < 6 ∧ R j = 0 then 1 else 0) (g := fun j => if fu_u V fh v j < 6 ∧ fu_u R fh 0 j = 0 then 1 else 0) (k := fh) (m := 1024) k1 (fun j _ hn => by (try dsimp only); rw [fu_n hn, fu_n hn])
    try dsimp only at s
    rw [fu_s, fu_s, if_neg (fun z => k2 z.1), if_pos ⟨hv6, rfl⟩] at s
    have g : ∀ e, ok_ V (e / 2) → fu_u V fh v (e / 2) < 6 ∨ 0 < R (e / 2) := fun e he => by
      rcases he with z | z
      · rw [z]; exact Or.inr hR.r0
      · rw [fu_n (nk _ (Or.inr z))]; exact Or.inl z.2
    have l1 := lc_add (V := fu_u V fh v) (R := fu_u R fh 0) (k := a / 2) (ok_lt ha) (by
      rw [fu_n (nk _ ha) (f := R)]
      exact (g a ha).imp id (fun z => by omega))
    have l2 := lc_add (V := fu_u V fh v) (R := fu_u (fu_u R fh 0) (a / 2) (fu_u R fh 0 (a / 2) + 1)) (k := b / 2) (ok_lt hb) (by
      refine (g b hb).imp id (fun z => ?_)
      by_cases e : b / 2 = a / 2
      · rw [e, fu_s]; omega
      · rw [fu_n e, fu_n (nk _ hb)]; omega)
    rw [l1] at l2
    show (if fu_u (fu_u R fh 0) (a / 2) (fu_u R fh 0 (a / 2) + 1) (b / 2) = 0 then (if fu_u R fh 0 (a / 2) = 0 then lo + 1 - 1 else lo + 1) - 1 else (if fu_u R fh 0 (a / 2) = 0 then lo + 1 - 1 else lo + 1)) = lc_ (fu_u V fh v) (fu_u (fu_u (fu_u R fh 0) (a / 2) (fu_u R fh 0 (a / 2) + 1)) (b / 2) (fu_u (fu_u R fh 0) (a / 2) (fu_u R fh 0 (a / 2) + 1) (b / 2) + 1))
    have e : lc_ (fu_u V fh v) (fu_u R fh 0) = lo + 1 := by unfold lc_ at hlo ⊢; omega
    rw [l2, e]
  · show to + 1 = _
    rw [hto]
    exact (tc_one (V' := fu_u V fh v) k1 (fun z => k2 z.1) ⟨by rw [fu_s]; exact hv6, xk⟩ (fun j _ hn => by rw [fu_n hn])).symm
  · intro w hw
    show fu_u Q (fu_u V fh v fh) (Q (fu_u V fh v fh) + 1) w = vc_ x (fu_u V fh v) w
    rw [vc_one (V := V) (V' := fu_u V fh v) (x := x) (x' := x) k1 (fun z => k2 z.1) xk (by rw [fu_s]; exact hv6) (fun j _ hn => ⟨fu_n hn, fun _ => Iff.rfl⟩) hw, fu_s]
    by_cases e : w = v
    · rw [if_pos e, e, fu_s, hQ v hv6]
    · rw [if_neg e, fu_n e, hQ w hw]
  · intro h h2 h10 he
    exact (ok_fu (nk _ (hE h h2 h10 he))).mpr (hE h h2 h10 he)
end
section
/-! unlink, free, rewrite -/
theorem Lk_nz {X : Nat → Nat} : ∀ {l : List Nat} {s a : Nat}, Lk_ X s l → a ∈ l → a ≠ 0
  | [], _, _, _, h => by simp at h
  | c :: l, s, a, hl, h => by
    rcases List.mem_cons.mp h with e | e
    · rw [e]; exact hl.2.1
    · exact Lk_nz hl.2.2 e
theorem ra_2 {R : Nat → Nat} {a b : Nat} (i : Nat) : fu_u (fu_u R a (R a + 1)) b (fu_u R a (R a + 1) b + 1) i = R i + ((if a = i then 1 else 0) + (if b = i then 1 else 0)) := by
  by_cases e1 : i = a
  · by_cases e2 : i = b
    · rw [← e2, fu_s, ← e1, fu_s, if_pos rfl]
    · rw [fu_n e2, ← e1, fu_s, if_pos rfl, if_neg (fun z => e2 z.symm)]
  · by_cases e2 : i = b
    · rw [← e2, fu_s, fu_n e1, if_pos rfl, if_neg (fun z => e1 z.symm)] <;> omega
    · rw [fu_n e2, fu_n e1, if_neg (fun z => e1 z.symm), if_neg (fun z => e2 z.symm)] <;> omega
theorem rd_2 {R : Nat → Nat} {a b : Nat} (i : Nat) (h : (if a = i then 1 else 0) + (if b = i then 1 else 0) ≤ R i) : fu_u (fu_u R a (R a - 1)) b (fu_u R a (R a - 1) b - 1) i + ((if a = i then 1 else 0) + (if b = i then 1 else 0)) = R i := by
  by_cases e1 : i = a
  · by_cases e2 : i = b
    · rw [if_pos e1.symm, if_pos e2.symm] at h
      rw [← e2, fu_s, ← e1, fu_s, if_pos rfl]; omega
    · rw [if_pos e1.symm, if_neg (fun z => e2 z.symm)] at h
      rw [fu_n e2, ← e1, fu_s, if_pos rfl, if_neg (fun z => e2 z.symm)]; omega
  · by_cases e2 : i = b
    · rw [if_neg (fun z => e1 z.symm), if_pos e2.symm] at h
      rw [← e2, fu_s, fu_n e1, if_pos rfl, if_neg (fun z => e1 z.symm)]; omega
    · rw [fu_n e2, fu_n e1, if_neg (fun z => e1 z.symm), if_neg (fun z => e2 z.symm)]; omega
theorem Rf_.ge {E V L H R : Nat → Nat} (h : Rf_ E V L H R) {i k : Nat} (hi : ok_ V i) (hk : al_ V k) : (if i = 0 then 1 else 0) + ((if L k / 2 = i then 1 else 0) + (if H k / 2 = i then 1 else 0)) ≤ R i := by
  have r := h i hi
  have o := sm_one (f := nw_ V L H i) (k := k) (m := 1024) hk.1
  unfold nw_ at o
  rw [if_pos hk.2] at o
  unfold nr_ nw_ at r
  omega
theorem lc_V {V R : Nat → Nat} {k y : Nat} (hk : V k < 6) (hy : y < 6) : lc_ (fu_u V k y) R = lc_ V R := by
  apply sm_ext
  intro j _
  by_cases e : j = k
  · subst e; rw [fu_s]; exact i1_c (by constructor <;> intro z <;> exact ⟨by omega, z.2⟩)
  · rw [fu_n e]
theorem ti_cut {n k : Nat} {E : Nat → Nat} {T : TN_} {φ : Nat → BF_} (I : Ti_ n E 0 T φ) (hk : al_ (tb_V T) k) : ∃ p q, Lk_ (tb_X T) (tb_D T (bk_ (tb_V T k) (tb_L T k) (tb_H T k))) (p ++ k :: q) ∧ k ∉ p ∧ (∀ x, x ∈ p → x < 1024) ∧ p.length < 1024 ∧ 0 < tb_to T ∧ 0 < tb_Q T (tb_V T k) ∧ Ti_ n E k (tu_ k (p.getLastD 0) T) φ := by
  obtain ⟨fh, lo, to, V, L, H, R, X, D, Q⟩ := T
  obtain ⟨S, ⟨ch, hch⟩, ⟨fl, f1, f2, f3, f7⟩, hR, hlo, ⟨hto, hQ⟩, hE⟩ := I
  dsimp only [tb_fh, tb_lo, tb_to, tb_V, tb_L, tb_H, tb_R, tb_X, tb_D, tb_Q] at S hch f1 f2 f3 f7 hR hlo hto hQ hE hk ⊢
  have hk0 := S.ne0 hk
  have hb := bk_lt (l := L k) (h := H k) hk.2
  obtain ⟨c1, c2, c3⟩ := hch _ hb
  have hm : k ∈ ch (bk_ (V k) (L k) (H k)) := (c3 k).mpr ⟨⟨hk, hk0⟩, rfl⟩
  obtain ⟨p, q, hpq⟩ := List.append_of_mem hm
  have c1' := c1
  have c2' := c2
  rw [hpq] at c1' c2'
  have nd := List.nodup_append.mp c2'
  have nq := List.nodup_cons.mp nd.2.1
  have kp : k ∉ p := fun z => nd.2.2 k z k (by simp) rfl
  have inch : ∀ x, x ∈ p → x ∈ ch (bk_ (V k) (L k) (H k)) := fun x hx => by rw [hpq]; simp [hx]
  have hp : ∀ x, x ∈ p → x < 1024 := fun x hx => ((c3 x).mp (inch x hx)).1.1.1
  have tc1 : tc_ 0 V = tc_ k V + 1 := tc_one (x := k) (x' := 0) hk.1 (fun z => z.2 rfl) ⟨hk.2, hk0⟩ (fun j _ hn => by
    constructor
    · intro z; exact ⟨z.1, hn⟩
    · intro z; refine ⟨z.1, fun e => ?_⟩
      subst e
      have := S.1.2.1
      omega)
  have vc1 : ∀ w, w < 6 → vc_ 0 V w = if w = V k then vc_ k V w + 1 else vc_ k V w := fun w hw => vc_one (x := k) (x' := 0) (V := V) (V' := V) hk.1 (fun z => z.2 rfl) hk0 hk.2 (fun j _ hn => ⟨rfl, fun hv => ⟨fun _ => hn, fun _ e => by
    subst e
    have := S.1.2.1
    omega⟩⟩) hw
  have hQk := hQ (V k) hk.2
  have vck := vc1 (V k) hk.2
  rw [if_pos rfl] at vck
  refine ⟨p, q, c1', kp, hp, ?_, by omega, by omega, S, ⟨fu_u ch (bk_ (V k) (L k) (H k)) (p ++ q), ?_⟩, ⟨fl, ?_⟩, hR, hlo, ⟨?_, ?_⟩, hE⟩
  · have := ls_len 1024 p nd.1 hp
    have := ls_len 1024 (p ++ k :: q) c2' (fun x hx => ((c3 x).mp (by rw [hpq]; exact hx)).1.1.1)
    simp at this
    omega
  · intro b hbb
    by_cases e : b = bk_ (V k) (L k) (H k)
    · subst e
      rw [fu_s]
      refine ⟨?_, ?_, ?_⟩
      · show Lk_ (if p.getLastD 0 = 0 then X else fu_u X (p.getLastD 0) (X k)) ((if p.getLastD 0 = 0 then fu_u D (bk_ (V k) (L k) (H k)) (X k) else D) (bk_ (V k) (L k) (H k))) (p ++ q)
        rcases List.eq_nil_or_concat p with z | ⟨p', w, z⟩
        · subst z
          rw [show ([] : List Nat).getLastD 0 = 0 from rfl, if_pos rfl, if_pos rfl, fu_s]
          exact c1'.2.2
        · rw [List.concat_eq_append] at z
          subst z
          have w0 : w ≠ 0 := Lk_nz c1' (by simp)
          rw [List.getLastD_concat, if_neg w0, if_neg w0]
          rw [List.append_assoc] at c1' c2' ⊢
          exact Lk_cut c2' c1'
      · rw [List.nodup_append]
        exact ⟨nd.1, nq.2, fun x hx y hy => nd.2.2 x hx y (by simp [hy])⟩
      · intro j
        have m := c3 j
        rw [hpq] at m
        show j ∈ p ++ q ↔ (al_ V j ∧ j ≠ k) ∧ bk_ (V j) (L j) (H j) = bk_ (V k) (L k) (H k)
        constructor
        · intro hj
          have hjk : j ≠ k := fun e => by
            subst e
            rcases List.mem_append.mp hj with z | z
            · exact kp z
            · exact nq.1 z
          have := m.mp (by
            rcases List.mem_append.mp hj with z | z
            · simp [z]
            · simp [z])
          exact ⟨⟨this.1.1, hjk⟩, this.2⟩
        · intro hj
          have := m.mpr ⟨⟨hj.1.1, S.ne0 hj.1.1⟩, hj.2⟩
          rcases List.mem_append.mp this with z | z
          · exact List.mem_append.mpr (Or.inl z)
          · rcases List.mem_cons.mp z with z | z
            · exact absurd z hj.1.2
            · exact List.mem_append.mpr (Or.inr z)
    · rw [fu_n e]
      obtain ⟨d1, d2, d3⟩ := hch b hbb
      refine ⟨?_, d2, fun j => ?_⟩
      · show Lk_ (if p.getLastD 0 = 0 then X else fu_u X (p.getLastD 0) (X k)) ((if p.getLastD 0 = 0 then fu_u D (bk_ (V k) (L k) (H k)) (X k) else D) b) (ch b)
        rcases List.eq_nil_or_concat p with z | ⟨p', w, z⟩
        · subst z
          rw [show ([] : List Nat).getLastD 0 = 0 from rfl, if_pos rfl, if_pos rfl, fu_n e]
          exact d1
        · rw [List.concat_eq_append] at z
          subst z
          have w0 : w ≠ 0 := Lk_nz c1' (by simp)
          rw [List.getLastD_concat, if_neg w0, if_neg w0]
          refine Lk_upd (fun c => e ?_) d1
          rw [← ((d3 w).mp c).2]
          exact ((c3 w).mp (inch w (by simp))).2
      · show j ∈ ch b ↔ (al_ V j ∧ j ≠ k) ∧ bk_ (V j) (L j) (H j) = b
        rw [d3 j]
        constructor
        · intro z
          exact ⟨⟨z.1.1, fun c => e (by subst c; exact z.2.symm)⟩, z.2⟩
        · intro z; exact ⟨⟨z.1.1, S.ne0 z.1.1⟩, z.2⟩
  · refine ⟨?_, f2, f3, f7⟩
    show Lk_ (if p.getLastD 0 = 0 then X else fu_u X (p.getLastD 0) (X k)) fh fl
    rcases List.eq_nil_or_concat p with z | ⟨p', w, z⟩
    · subst z
      rw [show ([] : List Nat).getLastD 0 = 0 from rfl, if_pos rfl]
      exact f1
    · rw [List.concat_eq_append] at z
      subst z
      have w0 : w ≠ 0 := Lk_nz c1' (by simp)
      rw [List.getLastD_concat, if_neg w0]
      refine Lk_upd (fun c => ?_) f1
      exact ((f3 w).mp c).2.2 ((c3 w).mp (inch w (by simp))).1.1.2
  · show to - 1 = tc_ k V
    omega
  · intro w hw
    show fu_u Q (V k) (Q (V k) - 1) w = vc_ k V w
    have a := vc1 w hw
    have b := hQ w hw
    by_cases e : w = V k
    · rw [if_pos e] at a
      rw [← e, fu_s]; omega
    · rw [if_neg e] at a
      rw [fu_n e]; omega
/-- dropping two references -/
theorem lc_dd {V R : Nat → Nat} {a b lo : Nat} (hg : ∀ i, ok_ V i → (if i = 0 then 1 else 0) + ((if a / 2 = i then 1 else 0) + (if b / 2 = i then 1 else 0)) ≤ R i) (h1 : ok_ V (a / 2)) (h2 : ok_ V (b / 2)) (hlo : lo = lc_ V R) :
    0 < R (a / 2) ∧ 0 < fu_u R (a / 2) (R (a / 2) - 1) (b / 2) ∧
    (if fu_u R (a / 2) (R (a / 2) - 1) (b / 2) = 1 then (if R (a / 2) = 1 then lo + 1 else lo) + 1 else (if R (a / 2) = 1 then lo + 1 else lo)) = lc_ V (fu_u (fu_u R (a / 2) (R (a / 2) - 1)) (b / 2) (fu_u R (a / 2) (R (a / 2) - 1) (b / 2) - 1)) := by
  have g1 := hg _ h1
  have g2 := hg _ h2
  rw [if_pos (c := a / 2 = a / 2) rfl] at g1
  rw [if_pos (c := b / 2 = b / 2) rfl] at g2
  have p1 : 0 < R (a / 2) := by omega
  have q1 : V (a / 2) < 6 ∨ R (a / 2) ≠ 1 := by
    rcases h1 with z | z
    · rw [if_pos z] at g1; right; omega
    · exact Or.inl z.2
  have p2 : 0 < fu_u R (a / 2) (R (a / 2) - 1) (b / 2) := by
    by_cases e : b / 2 = a / 2
    · rw [e, fu_s]
      rw [if_pos e.symm, e] at g2
      omega
    · rw [fu_n e]; omega
  have q2 : V (b / 2) < 6 ∨ fu_u R (a / 2) (R (a / 2) - 1) (b / 2) ≠ 1 := by
    rcases h2 with z | z
    · rw [if_pos z] at g2
      right
      by_cases e : b / 2 = a / 2
      · rw [e, fu_s]
        rw [if_pos e.symm, e] at g2
        omega
      · rw [fu_n e]; omega
    · exact Or.inl z.2
  have l1 := lc_drop (V := V) (R := R) (k := a / 2) (ok_lt h1) (by omega) q1
  have l2 := lc_drop (V := V) (R := fu_u R (a / 2) (R (a / 2) - 1)) (k := b / 2) (ok_lt h2) (by omega) q2
  refine ⟨p1, p2, ?_⟩
  rw [l2, l1, hlo]
/-- adding two references -/
theorem lc_aa {V R : Nat → Nat} {a b lo : Nat} (h0 : 0 < R 0) (h1 : ok_ V (a / 2)) (h2 : ok_ V (b / 2)) (hlo : lo = lc_ V R) :
    (R (a / 2) = 0 → 0 < lo) ∧ (fu_u R (a / 2) (R (a / 2) + 1) (b / 2) = 0 → 0 < (if R (a / 2) = 0 then lo - 1 else lo)) ∧
    (if fu_u R (a / 2) (R (a / 2) + 1) (b / 2) = 0 then (if R (a / 2) = 0 then lo - 1 else lo) - 1 else (if R (a / 2) = 0 then lo - 1 else lo)) = lc_ V (fu_u (fu_u R (a / 2) (R (a / 2) + 1)) (b / 2) (fu_u R (a / 2) (R (a / 2) + 1) (b / 2) + 1)) := by
  have q1 : V (a / 2) < 6 ∨ R (a / 2) ≠ 0 := by
    rcases h1 with z | z
    · rw [z]; right; omega
    · exact Or.inl z.2
  have q2 : V (b / 2) < 6 ∨ fu_u R (a / 2) (R (a / 2) + 1) (b / 2) ≠ 0 := by
    rcases h2 with z | z
    · right
      by_cases e : b / 2 = a / 2
      · rw [e, fu_s]; omega
      · rw [fu_n e, z]; omega
    · exact Or.inl z.2
  have l1 := lc_add (V := V) (R := R) (k := a / 2) (ok_lt h1) q1
  have l2 := lc_add (V := V) (R := fu_u R (a / 2) (R (a / 2) + 1)) (k := b / 2) (ok_lt h2) q2
  refine ⟨fun z => ?_, fun z => ?_, ?_⟩
  · rw [hlo]
    exact lc_pos ⟨ok_lt h1, q1.elim id (fun c => absurd z c)⟩ z
  · rw [hlo, ← l1]
    exact lc_pos ⟨ok_lt h2, q2.elim id (fun c => absurd z c)⟩ z
  · rw [l2, l1, hlo]
theorem ti_free {n k : Nat} {E : Nat → Nat} {T : TN_} {φ : Nat → BF_} (I : Ti_ n E k T φ) (hk : al_ (tb_V T) k) (h0 : tb_R T k = 0) :
    0 < tb_R T (tb_L T k / 2) ∧ 0 < tb_R (td_ (tb_L T k) T) (tb_H T k / 2) ∧ 0 < tb_lo (td_ (tb_H T k) (td_ (tb_L T k) T)) ∧ Ti_ n E 0 (tf_ k (td_ (tb_H T k) (td_ (tb_L T k) T))) φ := by
  obtain ⟨fh, lo, to, V, L, H, R, X, D, Q⟩ := T
  obtain ⟨S, ⟨ch, hch⟩, ⟨fl, f1, f2, f3, f7⟩, hR, hlo, ⟨hto, hQ⟩, hE⟩ := I
  dsimp only [tb_fh, tb_lo, tb_to, tb_V, tb_L, tb_H, tb_R, tb_X, tb_D, tb_Q] at S hch f1 f2 f3 f7 hR hlo hto hQ hE hk h0 ⊢
  have k0 := S.ne0 hk
  obtain ⟨v1, v2, v3, v4, v5, o1, o2⟩ := S.2.1 k hk
  have r := hR k (Or.inr hk)
  rw [if_neg k0, h0] at r
  have hn : nr_ V L H k = 0 := by omega
  have hh : hr_ E k = 0 := by omega
  obtain ⟨d1, d2, d3⟩ := lc_dd (a := L k) (b := H k) (fun i hi => hR.ge hi hk) o1 o2 hlo
  obtain ⟨n1, n2⟩ := nr_z hn hk
  have Rk : fu_u (fu_u R (L k / 2) (R (L k / 2) - 1)) (H k / 2) (fu_u R (L k / 2) (R (L k / 2) - 1) (H k / 2) - 1) k = 0 := by
    rw [fu_n (fun e => n2 e.symm), fu_n (fun e => n1 e.symm), h0]
  have lp := lc_pos hk Rk
  have okk : ∀ j, ok_ V j → j ≠ k → ok_ (fu_u V k 7) j := fun j hj e => (ok_fu e).mpr hj
  have alk : ∀ j, al_ (fu_u V k 7) j → j ≠ k ∧ al_ V j := fun j hj => by
    have e : j ≠ k := fun e => by
      subst e
      have := hj.2
      rw [fu_s] at this
      omega
    exact ⟨e, (al_fu e).mp hj⟩
  have okk' : ∀ j, ok_ (fu_u V k 7) j → j ≠ k ∧ ok_ V j := fun j hj => by
    rcases hj with e | e
    · exact ⟨fun c => k0 (c.symm.trans e), Or.inl e⟩
    · exact ⟨(alk j e).1, Or.inr (alk j e).2⟩
  refine ⟨d1, d2, ?_, ?_, ⟨ch, ?_⟩, ⟨k :: fl, ?_⟩, ?_, ?_, ⟨?_, ?_⟩, ?_⟩
  · show 0 < (if fu_u R (L k / 2) (R (L k / 2) - 1) (H k / 2) = 1 then (if R (L k / 2) = 1 then lo + 1 else lo) + 1 else (if R (L k / 2) = 1 then lo + 1 else lo))
    rw [d3]; exact lp
  · refine ⟨⟨S.1.1, ?_, S.1.2.2⟩, ?_, ?_, ?_, ?_, ?_⟩
    · show fu_u V k 7 0 = 6
      rw [fu_n (fun e => k0 e.symm)]; exact S.1.2.1
    · intro i hi
      obtain ⟨e, ha⟩ := alk i hi
      obtain ⟨w1, w2, w3, w4, w5, w6, w7⟩ := S.2.1 i ha
      obtain ⟨m1, m2⟩ := nr_z hn ha
      show fu_u V k 7 i < n ∧ _
      rw [fu_n e]
      exact ⟨w1, w2, w3, w4, w5, okk _ w6 m1, okk _ w7 m2⟩
    · intro i hi a
      obtain ⟨e, ha⟩ := alk i hi
      show φ i a = if a (fu_u V k 7 i) = true then _ else _
      rw [fu_n e]; exact S.2.2.1 i ha a
    · intro i hi a b
      obtain ⟨e, ha⟩ := alk i hi
      show ef_ φ (L i) (fu_u a (fu_u V k 7 i) b) = _ ∧ ef_ φ (H i) (fu_u a (fu_u V k 7 i) b) = _
      rw [fu_n e]; exact S.2.2.2.1 i ha a b
    · intro i hi
      exact S.2.2.2.2.1 i (okk' i hi).2
    · intro i j hi hj h
      exact S.2.2.2.2.2 i j (okk' i hi).2 (okk' j hj).2 h
  · intro b hb
    obtain ⟨c1, c2, c3⟩ := hch b hb
    refine ⟨Lk_upd (fun c => ((c3 k).mp c).1.2 rfl) c1, c2, fun j => ?_⟩
    show j ∈ ch b ↔ (al_ (fu_u V k 7) j ∧ j ≠ 0) ∧ bk_ (fu_u V k 7 j) (L j) (H j) = b
    rw [c3 j]
    constructor
    · intro z
      rw [al_fu z.1.2, fu_n z.1.2]
      exact ⟨⟨z.1.1, S.ne0 z.1.1⟩, z.2⟩
    · intro z
      obtain ⟨e, ha⟩ := alk j z.1.1
      have := z.2
      rw [fu_n e] at this
      exact ⟨⟨ha, e⟩, this⟩
  · have kf : k ∉ fl := fun c => ((f3 k).mp c).2.2 hk.2
    refine ⟨⟨rfl, k0, ?_⟩, List.nodup_cons.mpr ⟨kf, f2⟩, fun j => ?_, fun j hj => ?_⟩
    · show Lk_ (fu_u X k fh) (fu_u X k fh k) fl
      rw [fu_s]; exact Lk_upd kf f1
    rotate_left
    · show fu_u V k 7 j = 7
      rcases List.mem_cons.mp hj with e | e
      · rw [e, fu_s]
      · have c : j ≠ k := fun c => kf (c ▸ e)
        rw [fu_n c]; exact f7 j e
    · show j ∈ k :: fl ↔ 0 < j ∧ j < 1024 ∧ ¬ fu_u V k 7 j < 6
      rw [List.mem_cons]
      by_cases e : j = k
      · subst e
        rw [fu_s]
        constructor
        · intro _; exact ⟨by omega, hk.1, by omega⟩
        · intro _; exact Or.inl rfl
      · rw [fu_n e, f3 j]
        constructor
        · intro z; exact z.elim (fun z => absurd z e) id
        · intro z; exact Or.inr z
  · intro i hi
    obtain ⟨e, ho⟩ := okk' i hi
    have ri := hR i ho
    have g := hR.ge ho hk
    have d := rd_2 (R := R) (a := L k / 2) (b := H k / 2) i (by omega)
    have u := nr_upd (V := V) (L := L) (H := H) (k := k) (v := 7) (a := L k) (b := H k) (i := i) hk.1
    rw [if_neg (by omega), fu_e rfl, fu_e rfl] at u
    unfold nw_ at u
    rw [if_pos hk.2] at u
    show fu_u (fu_u R (L k / 2) (R (L k / 2) - 1)) (H k / 2) (fu_u R (L k / 2) (R (L k / 2) - 1) (H k / 2) - 1) i = _ + _ + nr_ (fu_u V k 7) L H i
    omega
  · show (if fu_u R (L k / 2) (R (L k / 2) - 1) (H k / 2) = 1 then (if R (L k / 2) = 1 then lo + 1 else lo) + 1 else (if R (L k / 2) = 1 then lo + 1 else lo)) - 1 = lc_ (fu_u V k 7) (fu_u (fu_u R (L k / 2) (R (L k / 2) - 1)) (H k / 2) (fu_u R (L k / 2) (R (L k / 2) - 1) (H k / 2) - 1))
    rw [d3]
    generalize fu_u (fu_u R (L k / 2) (R (L k / 2) - 1)) (H k / 2) (fu_u R (L k / 2) (R (L k / 2) - 1) (H k / 2) - 1) = R2 at Rk
    have s := sm_ch (f := fun j => if V j < 6 ∧ R2 j = 0 then 1 else 0) (g := fun j => if fu_u V k 7 j < 6 ∧ R2 j = 0 then 1 else 0) (k := k) (m := 1024) hk.1 (fun j _ hn => by (try dsimp only); rw [fu_n hn])
    try dsimp only at s
    rw [fu_s, if_pos ⟨hk.2, Rk⟩, if_neg (fun z => by have := z.1; omega)] at s
    unfold lc_; omega
  · show to = tc_ 0 (fu_u V k 7)
    rw [hto]
    apply sm_ext
    intro j _
    by_cases e : j = k
    · subst e; rw [fu_s, if_neg (fun z => z.2 rfl), if_neg (fun z => by have := z.1; omega)]
    · rw [fu_n e]
      refine i1_c ⟨fun z => ⟨z.1, fun c => ?_⟩, fun z => ⟨z.1, e⟩⟩
      subst c
      have := S.1.2.1
      omega
  · intro w hw
    show Q w = vc_ 0 (fu_u V k 7) w
    rw [hQ w hw]
    apply sm_ext
    intro j _
    by_cases e : j = k
    · subst e; rw [fu_s, if_neg (fun z => z.2 rfl), if_neg (fun z => by have := z.1; omega)]
    · rw [fu_n e]
      refine i1_c ⟨fun z => ⟨z.1, fun c => ?_⟩, fun z => ⟨z.1, e⟩⟩
      subst c
      have := S.1.2.1
      omega
  · intro h h2 h10 he
    exact okk _ (hE h h2 h10 he) (hr_z hh h2 h10 he)
end
section
/-! a node rewritten in place -/
theorem sm_rew {n k y a b : Nat} {V L H : Nat → Nat} {φ : Nat → BF_} (S : Sm_ n V L H φ) (hk : al_ V k) (hy : y < n) (ha : ok_ V (a / 2)) (hb : ok_ V (b / 2)) (hae : a % 2 = 0) (hab : a ≠ b)
    (he : ∀ s : Nat → Bool, φ k s = if s y = true then ef_ φ b s else ef_ φ a s) (ia : ∀ s x, ef_ φ a (fu_u s y x) = ef_ φ a s) (ib : ∀ s x, ef_ φ b (fu_u s y x) = ef_ φ b s) :
    Sm_ n (fu_u V k y) (fu_u L k a) (fu_u H k b) φ := by
  have hn6 := S.1.1
  have k0 := S.ne0 hk
  have alk : ∀ j, al_ (fu_u V k y) j ↔ al_ V j := fun j => by
    by_cases e : j = k
    · subst e
      constructor
      · intro _; exact hk
      · intro _; exact al_fk hk.1 (by omega)
    · exact al_fu e
  have okk : ∀ j, ok_ (fu_u V k y) j ↔ ok_ V j := fun j => by unfold ok_; rw [alk j]
  refine ⟨⟨hn6, ?_, S.1.2.2⟩, ?_, ?_, ?_, ?_, ?_⟩
  · rw [fu_n (fun e => k0 e.symm)]; exact S.1.2.1
  · intro i hi
    rw [okk, okk]
    by_cases e : i = k
    · subst e
      rw [fu_s, fu_s, fu_s]
      exact ⟨hy, ef_lt ha, ef_lt hb, hae, hab, ha, hb⟩
    · rw [fu_n e, fu_n e, fu_n e]
      exact S.2.1 i ((alk i).mp hi)
  · intro i hi s
    by_cases e : i = k
    · subst e
      rw [fu_s, fu_s, fu_s]; exact he s
    · rw [fu_n e, fu_n e, fu_n e]
      exact S.2.2.1 i ((alk i).mp hi) s
  · intro i hi s x
    by_cases e : i = k
    · subst e
      rw [fu_s, fu_s, fu_s]; exact ⟨ia s x, ib s x⟩
    · rw [fu_n e, fu_n e, fu_n e]
      exact S.2.2.2.1 i ((alk i).mp hi) s x
  · intro i hi
    exact S.2.2.2.2.1 i ((okk i).mp hi)
  · intro i j hi hj h
    exact S.2.2.2.2.2 i j ((okk i).mp hi) ((okk j).mp hj) h
theorem ti_rew {n k y a b : Nat} {E : Nat → Nat} {T : TN_} {φ : Nat → BF_} (I : Ti_ n E k T φ) (hk : al_ (tb_V T) k) (hy : y < n) (ha : ok_ (tb_V T) (a / 2)) (hb : ok_ (tb_V T) (b / 2)) (hae : a % 2 = 0) (hab : a ≠ b)
    (he : ∀ s : Nat → Bool, φ k s = if s y = true then ef_ φ b s else ef_ φ a s) (ia : ∀ s x, ef_ φ a (fu_u s y x) = ef_ φ a s) (ib : ∀ s x, ef_ φ b (fu_u s y x) = ef_ φ b s) :
    (tb_R T (a / 2) = 0 → 0 < tb_lo T) ∧ (tb_R (ta_ a T) (b / 2) = 0 → 0 < tb_lo (ta_ a T)) ∧ 0 < tb_R (ta_ b (ta_ a T)) (tb_L T k / 2) ∧ 0 < tb_R (td_ (tb_L T k) (ta_ b (ta_ a T))) (tb_H T k / 2) ∧
    Ti_ n E 0 (tl_ k (tr_ k y a b (td_ (tb_H T k) (td_ (tb_L T k) (ta_ b (ta_ a T)))))) φ := by
  obtain ⟨fh, lo, to, V, L, H, R, X, D, Q⟩ := T
  obtain ⟨S, ⟨ch, hch⟩, ⟨fl, f1, f2, f3, f7⟩, hR, hlo, ⟨hto, hQ⟩, hE⟩ := I
  dsimp only [tb_fh, tb_lo, tb_to, tb_V, tb_L, tb_H, tb_R, tb_X, tb_D, tb_Q] at S hch f1 f2 f3 f7 hR hlo hto hQ hE hk ha hb ⊢
  have hn6 := S.1.1
  have k0 := S.ne0 hk
  have hy6 : y < 6 := by omega
  obtain ⟨-, -, -, -, -, o1, o2⟩ := S.2.1 k hk
  obtain ⟨a1, a2, a3⟩ := lc_aa (a := a) (b := b) hR.r0 ha hb hlo
  have r2 := ra_2 (R := R) (a := a / 2) (b := b / 2)
  obtain ⟨d1, d2, d3⟩ := lc_dd (V := V) (R := fu_u (fu_u R (a / 2) (R (a / 2) + 1)) (b / 2) (fu_u R (a / 2) (R (a / 2) + 1) (b / 2) + 1)) (a := L k) (b := H k) (fun i hi => by
    have := hR.ge hi hk
    have := r2 i
    omega) o1 o2 a3
  have alk : ∀ j, al_ (fu_u V k y) j ↔ al_ V j := fun j => by
    by_cases e : j = k
    · subst e
      constructor
      · intro _; exact hk
      · intro _; exact al_fk hk.1 hy6
    · exact al_fu e
  have okk : ∀ j, ok_ (fu_u V k y) j ↔ ok_ V j := fun j => by unfold ok_; rw [alk j]
  have h06 : V 0 = 6 := S.1.2.1
  have hcl := ch_link (x := k) (x' := 0) (V' := fu_u V k y) (L' := fu_u L k a) (H' := fu_u H k b) hch k0 (fun z => z.2 rfl) ⟨al_fk hk.1 hy6, k0⟩ (fun j hj => by
    rw [al_fu hj]
    exact ⟨fun z => ⟨z.1, hj⟩, fun z => ⟨z.1, S.ne0 z.1⟩⟩) (fun j hj => ⟨fu_n hj, fu_n hj, fu_n hj⟩)
  refine ⟨a1, a2, d1, d2, sm_rew S hk hy ha hb hae hab he ia ib, ⟨_, hcl⟩, ⟨fl, ?_⟩, ?_, ?_, ⟨?_, ?_⟩, ?_⟩
  · have kf : k ∉ fl := fun c => ((f3 k).mp c).2.2 hk.2
    refine ⟨Lk_upd kf f1, f2, fun j => ?_, fun j hj => ?_⟩
    rotate_left
    · show fu_u V k y j = 7
      have c : j ≠ k := fun c => kf (c ▸ hj)
      rw [fu_n c]; exact f7 j hj
    show j ∈ fl ↔ 0 < j ∧ j < 1024 ∧ ¬ fu_u V k y j < 6
    by_cases e : j = k
    · subst e
      rw [fu_s]
      constructor
      · intro z; exact absurd z kf
      · intro z; exact absurd hy6 z.2.2
    · rw [fu_n e]; exact f3 j
  · intro i hi
    have ho := (okk i).mp hi
    have ri := hR i ho
    have g := hR.ge ho hk
    have q := r2 i
    have d := rd_2 (R := fu_u (fu_u R (a / 2) (R (a / 2) + 1)) (b / 2) (fu_u R (a / 2) (R (a / 2) + 1) (b / 2) + 1)) (a := L k / 2) (b := H k / 2) i (by omega)
    have u := nr_upd (V := V) (L := L) (H := H) (k := k) (v := y) (a := a) (b := b) (i := i) hk.1
    unfold nw_ at u
    rw [if_pos hk.2, if_pos hy6] at u
    have hs : ∀ R2 : Nat → Nat, R2 = fu_u (fu_u R (a / 2) (R (a / 2) + 1)) (b / 2) (fu_u R (a / 2) (R (a / 2) + 1) (b / 2) + 1) → fu_u (fu_u R2 (L k / 2) (R2 (L k / 2) - 1)) (H k / 2) (fu_u R2 (L k / 2) (R2 (L k / 2) - 1) (H k / 2) - 1) i = (if i = 0 then 1 else 0) + hr_ E i + nr_ (fu_u V k y) (fu_u L k a) (fu_u H k b) i := by
      intro R2 eR
      rw [← eR] at q d
      omega
    exact hs _ rfl
  · refine Eq.trans ?_ (lc_V (R := _) hk.2 hy6).symm
    exact d3
  · show to + 1 = tc_ 0 (fu_u V k y)
    rw [hto]
    refine (tc_one (x := k) (x' := 0) (V := V) (V' := fu_u V k y) hk.1 (fun z => z.2 rfl) ⟨by rw [fu_s]; exact hy6, k0⟩ (fun j _ hn => ?_)).symm
    rw [fu_n hn]
    constructor
    · intro z; exact ⟨z.1, hn⟩
    · intro z; exact ⟨z.1, fun e => by subst e; omega⟩
  · intro w hw
    show fu_u Q (fu_u V k y k) (Q (fu_u V k y k) + 1) w = vc_ 0 (fu_u V k y) w
    rw [vc_one (x := k) (x' := 0) (V := V) (V' := fu_u V k y) hk.1 (fun z => z.2 rfl) k0 (by rw [fu_s]; exact hy6) (fun j _ hn => ⟨fu_n hn, fun hv => ⟨fun _ => hn, fun _ e => by subst e; omega⟩⟩) hw, fu_s]
    by_cases e : w = y
    · rw [if_pos e, e, fu_s, hQ y hy6]
    · rw [if_neg e, fu_n e, hQ w hw]
  · intro h h2 h10 hx
    exact (okk _).mpr (hE h h2 h10 hx)
end
section
/-! make -/
theorem tc_full {V : Nat → Nat} (h : ∀ j, 0 < j → j < 1024 → V j < 6) : 1023 ≤ tc_ 0 V := by
  have k : ∀ m, m ≤ 1024 → m - 1 ≤ sm_n (fun j => if V j < 6 ∧ j ≠ 0 then 1 else 0) m := by
    intro m
    induction m with
    | zero => intro _; omega
    | succ m ih =>
      intro hm
      have a := ih (by omega)
      simp only [sm_n]
      by_cases e : m = 0
      · subst e; omega
      · rw [if_pos ⟨h m (by omega) (by omega), e⟩]; omega
  exact k 1024 (Nat.le_refl _)
theorem Ti_.room {n x : Nat} {E : Nat → Nat} {T : TN_} {φ : Nat → BF_} (I : Ti_ n E x T φ) (h : tc_ 0 (tb_V T) < 1023) : tb_fh T ≠ 0 := by
  obtain ⟨S, -, ⟨fl, f1, f2, f3, f7⟩, -⟩ := I
  intro e
  have : fl = [] := by
    cases fl with
    | nil => rfl
    | cons c t => exact absurd (f1.1.symm.trans e) f1.2.1
  subst this
  have := tc_full (V := tb_V T) (fun j h1 h2 => by
    apply Classical.byContradiction
    intro c
    have := (f3 j).mpr ⟨h1, h2, c⟩
    simp at this)
  omega
theorem Ti_.chl {n x : Nat} {E : Nat → Nat} {T : TN_} {φ : Nat → BF_} (I : Ti_ n E x T φ) {b : Nat} (hb : b < 192) : ∃ l : List Nat, Lk_ (tb_X T) (tb_D T b) l ∧ l.Nodup ∧ l.length < 1024 ∧ (∀ j, j ∈ l ↔ (al_ (tb_V T) j ∧ j ≠ x) ∧ bk_ (tb_V T j) (tb_L T j) (tb_H T j) = b) := by
  obtain ⟨S, ⟨ch, hch⟩, -⟩ := I
  obtain ⟨c1, c2, c3⟩ := hch b hb
  refine ⟨ch b, c1, c2, ?_, c3⟩
  have h0 : 0 ∉ ch b := fun z => by
    have := ((c3 0).mp z).1.1
    exact S.ne0 this rfl
  have := ls_len 1024 (0 :: ch b) (List.nodup_cons.mpr ⟨h0, c2⟩) (fun y hy => by
    rcases List.mem_cons.mp hy with e | e
    · omega
    · exact ((c3 y).mp e).1.1.1)
  simp only [List.length_cons] at this
  omega
/-- T' has T's nodes, with their functions -/
def Xt_ (T : TN_) (φ : Nat → BF_) (T' : TN_) (φ' : Nat → BF_) : Prop :=
  (∀ j, al_ (tb_V T) j → al_ (tb_V T') j ∧ tb_V T' j = tb_V T j ∧ tb_L T' j = tb_L T j ∧ tb_H T' j = tb_H T j ∧ tb_R T j ≤ tb_R T' j) ∧ (∀ j, ok_ (tb_V T) j → φ' j = φ j)
theorem Xt_.refl (T : TN_) (φ : Nat → BF_) : Xt_ T φ T φ := ⟨fun _ h => ⟨h, rfl, rfl, rfl, Nat.le_refl _⟩, fun _ _ => rfl⟩
theorem Xt_.ok {T T' : TN_} {φ φ' : Nat → BF_} (h : Xt_ T φ T' φ') {j : Nat} (hj : ok_ (tb_V T) j) : ok_ (tb_V T') j := hj.imp id (fun z => (h.1 j z).1)
theorem Xt_.ef {T T' : TN_} {φ φ' : Nat → BF_} (h : Xt_ T φ T' φ') {e : Nat} (he : ok_ (tb_V T) (e / 2)) : ef_ φ' e = ef_ φ e := by
  unfold ef_; rw [h.2 _ he]
theorem Xt_.trans {T T' T'' : TN_} {φ φ' φ'' : Nat → BF_} (h : Xt_ T φ T' φ') (k : Xt_ T' φ' T'' φ'') : Xt_ T φ T'' φ'' := by
  refine ⟨fun j hj => ?_, fun j hj => ?_⟩
  · obtain ⟨a1, a2, a3, a4, a5⟩ := h.1 j hj
    obtain ⟨b1, b2, b3, b4, b5⟩ := k.1 j a1
    exact ⟨b1, b2.trans a2, b3.trans a3, b4.trans a4, by omega⟩
  · rw [k.2 j (h.ok hj), h.2 j hj]
section
variable {n la li : Nat} {E hh va lv : Nat → Nat} {T : TN_} {C : CN_} {M : MN_} {G : GN_} {W : WN_} {S : SN_}
theorem xw_make107 {post : Int32 → SX → Prop} {v a b f : Nat} {x2 : Int32} (hf : f < 2) (hfh : tb_fh T ≠ 0) (hfl : tb_fh T < 1024) (hv : v < 6) (ha : a < 2048) (hb : b < 2048)
    (hR1 : tb_R (tw_ v a b T) (a / 2) < 4000) (hR2 : tb_R (ta_ a (tw_ v a b T)) (b / 2) < 4000) (hl2 : tb_R (ta_ a (tw_ v a b T)) (b / 2) = 0 → 0 < tb_lo (ta_ a (tw_ v a b T)))
    (h : post (nI (2 * tb_fh T + f)) (st_ n la li E hh va lv (tl_ (tb_fh T) (ta_ b (ta_ a (tw_ v a b T)))) C M G W S)) : wX_make_107 post (nI v) x2 (nI f) (nI a) (nI b) (nI n) (nI la) (nI li) (nI (tb_fh T)) (nI (tb_lo T)) (nI (tb_to T)) (nI (ma_F M)) (nI (ma_G M)) (nI (ma_H M)) (nI (ma_n M)) (nI (ga_n G)) (nI (wo_n W)) (en_E E) (en_I hh) (en_I va) (en_I lv) (en_V (tb_V T)) (en_I (tb_L T)) (en_I (tb_H T)) (en_I (tb_R T)) (en_I (tb_X T)) (en_I (tb_D T)) (en_I (tb_Q T)) (en_I (ca_F C)) (en_I (ca_G C)) (en_I (ca_H C)) (en_I (ca_R C)) (en_I (ma_f M)) (en_I (ma_g M)) (en_I (ma_h M)) (en_I (ma_v M)) (en_I (ma_p M)) (en_I (ma_l M)) (en_I (ma_b M)) (en_I (ga_r G)) (en_I (ga_s G)) (en_I (ga_i G)) (en_I (ga_w G)) (en_I (wo_w W)) (en_I (si_z S)) (en_I (si_c S)) := by
  have hi : vp_in (nI (tb_fh T)) 1024 := vp_in_nI hfl (by omega)
  unfold wX_make_107
  rw [nI_clamp (n := tb_fh T) (by omega)]
  refine pk_eq (tb_fh T) 0 (fun z => absurd z hfh) (fun _ => ⟨hi, nm_r (e' := nI (tb_X T (tb_fh T))) rfl ⟨hi, nm_r (en_uV (by omega)) ⟨hi, nm_r en_uI ⟨hi, nm_r en_uI ⟨hi, nm_r (en_uI (x := 0)) (nm_r (e' := nI (tb_lo T + 1)) (nI_1 _) ?_)⟩⟩⟩⟩⟩)
  refine xw_addRef (T := tw_ v a b T) ha hR1 (fun _ => Nat.succ_pos _) ?_
  dsimp only [st_]
  refine xw_addRef (T := ta_ a (tw_ v a b T)) hb hR2 hl2 ?_
  dsimp only [st_]
  refine xw_link (T := ta_ b (ta_ a (tw_ v a b T))) hfl (by show fu_u _ _ _ _ < 6; rw [fu_s]; exact hv) ?_
  dsimp only [st_]
  rw [nn_dbl (by omega) hf]
  exact h
theorem xm_make {v a b x : Nat} {φ : Nat → BF_} (I : Ti_ n E x T φ) (hx : x = 0 ∨ al_ (tb_V T) x) (hv : v < n) (ha : ok_ (tb_V T) (a / 2)) (hb : ok_ (tb_V T) (b / 2))
    (ia : ∀ s y, ef_ φ a (fu_u s v y) = ef_ φ a s) (ib : ∀ s y, ef_ φ b (fu_u s v y) = ef_ φ b s) (room : tc_ 0 (tb_V T) < 1023)
    (un : ∀ a' b' j, a' / 2 = a / 2 → b' / 2 = b / 2 → a' ≠ b' → al_ (tb_V T) j → (∀ s : Nat → Bool, φ j s = if s v = true then ef_ φ b' s else ef_ φ a' s) → (tb_V T j = v ∧ tb_L T j = a' ∧ tb_H T j = b') ∧ j ≠ x) :
    ∃ r T' φ', Ti_ n E x T' φ' ∧ ok_ (tb_V T') (r / 2) ∧ (∀ s : Nat → Bool, ef_ φ' r s = if s v = true then ef_ φ b s else ef_ φ a s) ∧ Xt_ T φ T' φ' ∧
      (∀ j, al_ (tb_V T') j → al_ (tb_V T) j ∨ (tb_V T' j = v ∧ tb_L T' j / 2 = a / 2 ∧ tb_H T' j / 2 = b / 2 ∧ tb_R T' j = 0 ∧ j = r / 2)) ∧ tc_ 0 (tb_V T') ≤ tc_ 0 (tb_V T) + 1 ∧ r % 2 = a % 2 ∧
      ∀ post : Int32 → SX → Prop, post (nI r) (st_ n la li E hh va lv T' C M G W S) → wpX_make post (st_ n la li E hh va lv T C M G W S) (nI v) (nI a) (nI b) := by
  have S0 := I.1
  have hn6 := S0.1.1
  have hal := ef_lt ha
  have hbl := ef_lt hb
  have hf : a % 2 < 2 := Nat.mod_lt _ (by omega)
  by_cases e : a = b
  · subst e
    refine ⟨a, T, φ, I, ha, fun s => by rw [ite_self], Xt_.refl _ _, fun j hj => Or.inl hj, by omega, rfl, fun post hp => ?_⟩
    unfold wpX_make st_
    dsimp only
    exact br_t rfl hp
  · have ax : (a ^^^ (a % 2)) / 2 = a / 2 := xr_d hf
    have bx : (b ^^^ (a % 2)) / 2 = b / 2 := xr_d hf
    have am : (a ^^^ (a % 2)) % 2 = 0 := by rw [xr_m]; omega
    have ane : a ^^^ (a % 2) ≠ b ^^^ (a % 2) := fun c => by
      apply e
      have h1 := xr_m (e := a) (b := a % 2)
      have h2 := xr_m (e := b) (b := a % 2)
      rw [c] at h1
      rw [c] at ax
      omega
    have axl := xr_lt hf hal
    have bxl := xr_lt hf hbl
    generalize hA : a ^^^ (a % 2) = a' at *
    generalize hB : b ^^^ (a % 2) = b' at *
    have ea : ∀ s, ef_ φ a' s = (ef_ φ a s ^^ decide (a % 2 = 1)) := fun s => by rw [← hA]; exact ef_x hf s
    have eb : ∀ s, ef_ φ b' s = (ef_ φ b s ^^ decide (a % 2 = 1)) := fun s => by rw [← hB]; exact ef_x hf s
    obtain ⟨l, l1, l2, l3, l4⟩ := I.chl (b := bk_ v a' b') (bk_lt (by omega))
    have walk : ∀ post : Int32 → SX → Prop, (∀ j, j ∈ l → tb_L T j = a' → tb_H T j = b' → post (nI (2 * j + a % 2)) (st_ n la li E hh va lv T C M G W S)) → ((∀ j, j ∈ l → ¬ (tb_L T j = a' ∧ tb_H T j = b')) → wX_make_107 post (nI v) (nI a) (nI (a % 2)) (nI a') (nI b') (nI n) (nI la) (nI li) (nI (tb_fh T)) (nI (tb_lo T)) (nI (tb_to T)) (nI (ma_F M)) (nI (ma_G M)) (nI (ma_H M)) (nI (ma_n M)) (nI (ga_n G)) (nI (wo_n W)) (en_E E) (en_I hh) (en_I va) (en_I lv) (en_V (tb_V T)) (en_I (tb_L T)) (en_I (tb_H T)) (en_I (tb_R T)) (en_I (tb_X T)) (en_I (tb_D T)) (en_I (tb_Q T)) (en_I (ca_F C)) (en_I (ca_G C)) (en_I (ca_H C)) (en_I (ca_R C)) (en_I (ma_f M)) (en_I (ma_g M)) (en_I (ma_h M)) (en_I (ma_v M)) (en_I (ma_p M)) (en_I (ma_l M)) (en_I (ma_b M)) (en_I (ga_r G)) (en_I (ga_s G)) (en_I (ga_i G)) (en_I (ga_w G)) (en_I (wo_w W)) (en_I (si_z S)) (en_I (si_c S))) → wpX_make post (st_ n la li E hh va lv T C M G W S) (nI v) (nI a) (nI b) := by
      intro post h1 h2
      unfold wpX_make st_
      dsimp only
      refine pk_eq a b (fun z => absurd z e) (fun _ => nm_r (nn_low (by omega)) (nm_r (e' := nI a') (by rw [nx_xor, hA]) (nm_r (e' := nI b') (by rw [nx_xor, hB]) ?_)))
      refine xw_bucket (v := v) (a := a') (b := b') ?_
      rw [nI_clamp (n := bk_ v a' b') (by have := bk_lt (v := v) (l := a') (h := b') (by omega); omega)]
      refine ⟨vp_in_nI (bk_lt (by omega)) (by omega), nm_r (e' := nI (tb_D T (bk_ v a' b'))) rfl ⟨l.length + 1, ?_⟩⟩
      exact xw_makeL hf axl bxl l _ 0 _ (fun j hj => (S0.2.1 j ((l4 j).mp hj).1.1).2.1) (fun j hj => (S0.2.1 j ((l4 j).mp hj).1.1).2.2.1) l1 (fun y hy => ((l4 y).mp hy).1.1.1) (by omega) (by omega) h1 h2
    by_cases hj : ∃ j, al_ (tb_V T) j ∧ ∀ s : Nat → Bool, φ j s = if s v = true then ef_ φ b' s else ef_ φ a' s
    · obtain ⟨j, j1, j2⟩ := hj
      obtain ⟨⟨u1, u2, u3⟩, u4⟩ := un a' b' j ax bx ane j1 j2
      refine ⟨2 * j + a % 2, T, φ, I, ?_, fun s => ?_, Xt_.refl _ _, fun j hj => Or.inl hj, by omega, by omega, fun post hp => ?_⟩
      · rw [show (2 * j + a % 2) / 2 = j from by omega]; exact Or.inr j1
      · unfold ef_
        rw [show (2 * j + a % 2) / 2 = j from by omega, show (2 * j + a % 2) % 2 = a % 2 from by omega, j2 s, ea, eb]
        unfold ef_
        split
        · rw [Bool.xor_assoc, Bool.xor_self, Bool.xor_false]
        · rw [Bool.xor_assoc, Bool.xor_self, Bool.xor_false]
      · refine walk post (fun i i1 i2 i3 => ?_) (fun hall => ?_)
        · have hi := ((l4 i).mp i1)
          have vi : tb_V T i = v := bk_v hi.2
          have : i = j := S0.2.2.2.2.2 i j (Or.inr hi.1.1) (Or.inr j1) (fun s => by rw [S0.2.2.1 i hi.1.1 s, vi, i2, i3, j2 s])
          subst this
          exact hp
        · exact absurd ⟨u2, u3⟩ (hall j ((l4 j).mpr ⟨⟨j1, u4⟩, by rw [u1, u2, u3]⟩))
    · have nw : ∀ j, al_ (tb_V T) j → ¬ ∀ s : Nat → Bool, φ j s = if s v = true then ef_ φ b' s else ef_ φ a' s := fun j h1 h2 => hj ⟨j, h1, h2⟩
      have hfh := I.room room
      have oka : ok_ (tb_V T) (a' / 2) := by rw [ax]; exact ha
      have okb : ok_ (tb_V T) (b' / 2) := by rw [bx]; exact hb
      have ia' : ∀ s y, ef_ φ a' (fu_u s v y) = ef_ φ a' s := fun s y => by rw [ea, ea, ia]
      have ib' : ∀ s y, ef_ φ b' (fu_u s v y) = ef_ φ b' s := fun s y => by rw [eb, eb, ib]
      obtain ⟨⟨k1, k2⟩, I'⟩ := ti_new I hfh hx hv oka okb am ane ia' ib' nw
      have nk : ∀ j, ok_ (tb_V T) j → j ≠ tb_fh T := fun j hj e => by
        subst e
        exact hj.elim hfh (fun z => k2 z.2)
      have hR := I.2.2.2.1
      refine ⟨2 * tb_fh T + a % 2, _, _, I', ?_, fun s => ?_, ⟨fun j hj => ?_, fun j hj => fu_n (nk j hj)⟩, fun j hj => ?_, ?_, by omega, fun post hp => ?_⟩
      · rw [show (2 * tb_fh T + a % 2) / 2 = tb_fh T from by omega]
        exact Or.inr (al_fk k1 (by omega))
      · show (fu_u φ (tb_fh T) (fun s => if s v = true then ef_ φ b' s else ef_ φ a' s) ((2 * tb_fh T + a % 2) / 2) s ^^ decide ((2 * tb_fh T + a % 2) % 2 = 1)) = _
        rw [show (2 * tb_fh T + a % 2) / 2 = tb_fh T from by omega, show (2 * tb_fh T + a % 2) % 2 = a % 2 from by omega, fu_s, ea, eb]
        split
        · rw [Bool.xor_assoc, Bool.xor_self, Bool.xor_false]
        · rw [Bool.xor_assoc, Bool.xor_self, Bool.xor_false]
      · have e := nk j (Or.inr hj)
        refine ⟨(al_fu e).mpr hj, fu_n e, fu_n e, fu_n e, ?_⟩
        show tb_R T j ≤ fu_u (fu_u (fu_u (tb_R T) (tb_fh T) 0) (a' / 2) (fu_u (tb_R T) (tb_fh T) 0 (a' / 2) + 1)) (b' / 2) (fu_u (fu_u (tb_R T) (tb_fh T) 0) (a' / 2) (fu_u (tb_R T) (tb_fh T) 0 (a' / 2) + 1) (b' / 2) + 1) j
        rw [ra_2, fu_n e]; omega
      · by_cases e : j = tb_fh T
        · right
          subst e
          refine ⟨fu_s, ?_, ?_, ?_, by omega⟩
          · show fu_u _ _ _ _ / 2 = _; rw [fu_s, ax]
          · show fu_u _ _ _ _ / 2 = _; rw [fu_s, bx]
          · show fu_u (fu_u (fu_u (tb_R T) (tb_fh T) 0) (a' / 2) (fu_u (tb_R T) (tb_fh T) 0 (a' / 2) + 1)) (b' / 2) (fu_u (fu_u (tb_R T) (tb_fh T) 0) (a' / 2) (fu_u (tb_R T) (tb_fh T) 0 (a' / 2) + 1) (b' / 2) + 1) (tb_fh T) = 0
            rw [ra_2, fu_s, if_neg (nk _ oka), if_neg (nk _ okb)]
        · exact Or.inl ((al_fu e).mp hj)
      · refine Nat.le_of_eq (tc_one (x := 0) (x' := 0) k1 (fun z => k2 z.1) ⟨?_, hfh⟩ (fun j _ hn => ?_))
        · show fu_u _ _ _ _ < 6; rw [fu_s]; omega
        · show (fu_u _ _ _ _ < 6 ∧ _) ↔ _
          rw [fu_n hn]
      · refine walk post (fun i i1 i2 i3 => ?_) (fun _ => ?_)
        · have hi := ((l4 i).mp i1)
          have vi : tb_V T i = v := bk_v hi.2
          exact absurd (fun s => by rw [S0.2.2.1 i hi.1.1 s, vi, i2, i3]) (nw i hi.1.1)
        · have b1 := hR.bd oka
          have b2 := hR.bd okb
          refine xw_make107 hf hfh k1 (by omega) axl bxl ?_ ?_ ?_ hp
          · show fu_u _ _ _ _ < 4000; rw [fu_n (nk _ oka)]; omega
          · show fu_u (fu_u _ _ _) _ (fu_u _ _ _ _ + 1) _ < 4000
            by_cases e : b' / 2 = a' / 2
            · rw [e, fu_s, fu_n (nk _ oka)]; omega
            · rw [fu_n e, fu_n (nk _ okb)]; omega
          · intro z
            show 0 < if fu_u (tb_R T) (tb_fh T) 0 (a' / 2) = 0 then tb_lo T + 1 - 1 else tb_lo T + 1
            by_cases c : fu_u (tb_R T) (tb_fh T) 0 (a' / 2) = 0
            · rw [if_pos c]
              have z' : fu_u (fu_u (tb_R T) (tb_fh T) 0) (a' / 2) (fu_u (tb_R T) (tb_fh T) 0 (a' / 2) + 1) (b' / 2) = 0 := z
              have e : b' / 2 ≠ a' / 2 := fun e => by rw [e, fu_s] at z'; omega
              rw [fu_n e, fu_n (nk _ okb)] at z'
              have : al_ (tb_V T) (b' / 2) := okb.elim (fun w => by rw [w] at z'; have := hR.r0; omega) id
              have := lc_pos this z'
              have := I.2.2.2.2.1
              omega
            · rw [if_neg c]; omega
end
end
section
/-! listNodes, freeNode -/
def wl_ (wk : Nat → Nat) : Nat → List Nat → (Nat → Nat)
  | _, [] => wk
  | wc, a :: l => wl_ (fu_u wk wc a) (wc + 1) l
theorem wl_lo {l : List Nat} : ∀ {wk : Nat → Nat} {wc j : Nat}, j < wc → wl_ wk wc l j = wk j := by
  induction l with
  | nil => intro wk wc j _; rfl
  | cons a l ih =>
    intro wk wc j h
    show wl_ (fu_u wk wc a) (wc + 1) l j = _
    rw [ih (by omega), fu_n (by omega)]
theorem wl_at {l : List Nat} : ∀ {wk : Nat → Nat} {wc i : Nat} (h : i < l.length), wl_ wk wc l (wc + i) = l[i] := by
  induction l with
  | nil => intro wk wc i h; simp at h
  | cons a l ih =>
    intro wk wc i h
    show wl_ (fu_u wk wc a) (wc + 1) l (wc + i) = _
    cases i with
    | zero => rw [wl_lo (by omega)]; simp [fu_s]
    | succ i =>
      simp only [List.length_cons] at h
      rw [show wc + (i + 1) = (wc + 1) + i from by omega, ih (by omega)]
      simp
theorem wl_app {l2 : List Nat} : ∀ {l1 : List Nat} {wk : Nat → Nat} {wc : Nat}, wl_ (wl_ wk wc l1) (wc + l1.length) l2 = wl_ wk wc (l1 ++ l2)
  | [], _, _ => rfl
  | a :: l1, wk, wc => by
    show wl_ (wl_ (fu_u wk wc a) (wc + 1) l1) (wc + (l1.length + 1)) l2 = wl_ (fu_u wk wc a) (wc + 1) (l1 ++ l2)
    rw [← wl_app (l1 := l1) (wk := fu_u wk wc a) (wc := wc + 1), show wc + (l1.length + 1) = wc + 1 + l1.length from by omega]
def cs_ (ch : Nat → List Nat) (v : Nat) : Nat → List Nat
  | 0 => []
  | b + 1 => cs_ ch v b ++ ch (v * 32 + b)
theorem cs_mem {ch : Nat → List Nat} {v j : Nat} : ∀ {b : Nat}, j ∈ cs_ ch v b ↔ ∃ c, c < b ∧ j ∈ ch (v * 32 + c)
  | 0 => by
    constructor
    · intro h; simp [cs_] at h
    · intro ⟨c, h, _⟩; omega
  | b + 1 => by
    show j ∈ cs_ ch v b ++ ch (v * 32 + b) ↔ _
    rw [List.mem_append, cs_mem (b := b)]
    constructor
    · intro h
      rcases h with ⟨c, h1, h2⟩ | h
      · exact ⟨c, by omega, h2⟩
      · exact ⟨b, by omega, h⟩
    · intro ⟨c, h1, h2⟩
      by_cases e : c = b
      · subst e; exact Or.inr h2
      · exact Or.inl ⟨c, by omega, h2⟩
section
variable {n la li : Nat} {E hh va lv : Nat → Nat} {T : TN_} {C : CN_} {M : MN_} {G : GN_} {W : WN_} {S : SN_}
theorem xw_listI {post : SX → Prop} {J : Int32 → Int32 → (Nat → Int32) → (Nat → Int32) → (Nat → Int32) → (Nat → Int32) → (Nat → Int32) → (Nat → Int32) → (Nat → Int32) → (Nat → Int32) → (Nat → Int32) → (Nat → Int32) → (Nat → Int32) → (Nat → Int32) → (Nat → Int32) → (Nat → Int32) → (Nat → Int32) → (Nat → Int32) → (Nat → Int32) → (Nat → Int32) → (Nat → Int32) → (Nat → Int32) → (Nat → Int32) → (Nat → Int32) → (Nat → Int32) → (Nat → Int32) → (Nat → Int32) → (Nat → Int32) → (Nat → Int32) → (Nat → Int32) → (Nat → Int32) → Prop} {x1 : Int32} {b : Nat} : ∀ (l : List Nat) (c wc : Nat) (wk : Nat → Nat) (N : Nat), Lk_ (tb_X T) c l → (∀ x, x ∈ l → x < 1024) → wc + l.length < 1024 → l.length < N → J (nI (b + 1)) (nI (wo_n ((wc + l.length, wl_ wk wc l)))) (en_E E) (en_I hh) (en_I va) (en_I lv) (en_V (tb_V T)) (en_I (tb_L T)) (en_I (tb_H T)) (en_I (tb_R T)) (en_I (tb_X T)) (en_I (tb_D T)) (en_I (tb_Q T)) (en_I (ca_F C)) (en_I (ca_G C)) (en_I (ca_H C)) (en_I (ca_R C)) (en_I (ma_f M)) (en_I (ma_g M)) (en_I (ma_h M)) (en_I (ma_v M)) (en_I (ma_p M)) (en_I (ma_l M)) (en_I (ma_b M)) (en_I (ga_r G)) (en_I (ga_s G)) (en_I (ga_i G)) (en_I (ga_w G)) (en_I (wo_w ((wc + l.length, wl_ wk wc l)))) (en_I (si_z S)) (en_I (si_c S)) → wX_listNodes_25 post J x1 (nI b) (nI n) (nI la) (nI li) (nI (tb_fh T)) (nI (tb_lo T)) (nI (tb_to T)) (nI (ma_F M)) (nI (ma_G M)) (nI (ma_H M)) (nI (ma_n M)) (nI (ga_n G)) N (nI c) (nI (wo_n ((wc, wk)))) (en_E E) (en_I hh) (en_I va) (en_I lv) (en_V (tb_V T)) (en_I (tb_L T)) (en_I (tb_H T)) (en_I (tb_R T)) (en_I (tb_X T)) (en_I (tb_D T)) (en_I (tb_Q T)) (en_I (ca_F C)) (en_I (ca_G C)) (en_I (ca_H C)) (en_I (ca_R C)) (en_I (ma_f M)) (en_I (ma_g M)) (en_I (ma_h M)) (en_I (ma_v M)) (en_I (ma_p M)) (en_I (ma_l M)) (en_I (ma_b M)) (en_I (ga_r G)) (en_I (ga_s G)) (en_I (ga_i G)) (en_I (ga_w G)) (en_I (wo_w ((wc, wk)))) (en_I (si_z S)) (en_I (si_c S))
  | [], c, wc, wk, N, hl, _, hs, hN, h => by
    obtain ⟨N, rfl⟩ : ∃ m, N = m + 1 := ⟨N - 1, by simp at hN; omega⟩
    have e : c = 0 := hl
    subst e
    exact br_t rfl (nm_r (nI_1 _) h)
  | x :: l, c, wc, wk, N, hl, hlt, hs, hN, h => by
    obtain ⟨N, rfl⟩ : ∃ m, N = m + 1 := ⟨N - 1, by simp at hN; omega⟩
    obtain ⟨e, hx0, hl'⟩ := hl
    subst e
    have hc : c < 1024 := hlt c (by simp)
    simp only [List.length_cons] at hs hN h
    refine pk_eq c 0 (fun z => absurd z hx0) (fun _ => pk_le 1024 wc (fun z => by omega) (fun _ => ⟨vp_in_nI (by omega) (by omega), nm_r (e' := en_I (fu_u wk wc c)) ?_ ⟨vp_in_nI hc (by omega), nm_r (e' := nI (tb_X T c)) ?_ (nm_r (e' := nI (wc + 1)) (nI_1 _) ?_)⟩⟩))
    · have e : (nI (wo_n (wc, wk))).toNatClampNeg = wc := nI_clamp (n := wc) (by omega)
      rw [← en_uI, e]
    · rw [nI_clamp (by omega)]; rfl
    · refine xw_listI l (tb_X T c) (wc + 1) (fu_u wk wc c) N hl' (fun y hy => hlt y (by simp [hy])) (by omega) (by omega) ?_
      rw [show wc + 1 + l.length = wc + (l.length + 1) from by omega]
      exact h
theorem xw_listO {post : SX → Prop} {v : Nat} {ch : Nat → List Nat} {lz : List Nat} {wk : Nat → Nat} (hz : cs_ ch v 32 = lz) (hv : v < 6) (hc : ∀ b, b < 192 → Lk_ (tb_X T) (tb_D T b) (ch b) ∧ ∀ x, x ∈ ch b → x < 1024) (hlen : lz.length < 1024) (hmono : ∀ b, b ≤ 32 → (cs_ ch v b).length ≤ lz.length) (h : post (st_ n la li E hh va lv T C M G ((lz.length, wl_ wk 0 lz)) S)) : ∀ (m b : Nat), b + m = 32 → wX_listNodes_7 post (nI v) (nI n) (nI la) (nI li) (nI (tb_fh T)) (nI (tb_lo T)) (nI (tb_to T)) (nI (ma_F M)) (nI (ma_G M)) (nI (ma_H M)) (nI (ma_n M)) (nI (ga_n G)) (m + 1) (nI b) (nI (wo_n (((cs_ ch v b).length, wl_ wk 0 (cs_ ch v b))))) (en_E E) (en_I hh) (en_I va) (en_I lv) (en_V (tb_V T)) (en_I (tb_L T)) (en_I (tb_H T)) (en_I (tb_R T)) (en_I (tb_X T)) (en_I (tb_D T)) (en_I (tb_Q T)) (en_I (ca_F C)) (en_I (ca_G C)) (en_I (ca_H C)) (en_I (ca_R C)) (en_I (ma_f M)) (en_I (ma_g M)) (en_I (ma_h M)) (en_I (ma_v M)) (en_I (ma_p M)) (en_I (ma_l M)) (en_I (ma_b M)) (en_I (ga_r G)) (en_I (ga_s G)) (en_I (ga_i G)) (en_I (ga_w G)) (en_I (wo_w (((cs_ ch v b).length, wl_ wk 0 (cs_ ch v b))))) (en_I (si_z S)) (en_I (si_c S))
  | 0, b, hb => by
    have e : b = 32 := by omega
    rw [e, hz]
    exact br_t (by decide) h
  | m + 1, b, hb => by
    have e : nI v * 32 + nI b = nI (v * 32 + b) := by rw [← nI_add, ← pk_mul]; rfl
    obtain ⟨c1, c2⟩ := hc (v * 32 + b) (by omega)
    have hm := hmono (b + 1) (by omega)
    have hcs : (cs_ ch v (b + 1)).length = (cs_ ch v b).length + (ch (v * 32 + b)).length := by
      show (cs_ ch v b ++ ch (v * 32 + b)).length = _
      rw [List.length_append]
    refine pk_le 32 b (fun z => by omega) (fun _ => ?_)
    rw [e, nI_clamp (by omega)]
    refine ⟨vp_in_nI (by omega) (by omega), nm_r (e' := nI (tb_D T (v * 32 + b))) rfl ⟨(ch (v * 32 + b)).length + 1, ?_⟩⟩
    refine xw_listI (ch (v * 32 + b)) _ _ _ _ c1 c2 (by omega) (by omega) ?_
    have k := xw_listO hz hv hc hlen hmono h m (b + 1) (by omega)
    rw [hcs] at k
    rw [show wl_ (wl_ wk 0 (cs_ ch v b)) (cs_ ch v b).length (ch (v * 32 + b)) = wl_ wk 0 (cs_ ch v (b + 1)) from by
      have := wl_app (l1 := cs_ ch v b) (l2 := ch (v * 32 + b)) (wk := wk) (wc := 0)
      rw [Nat.zero_add] at this
      exact this]
    exact k
theorem xm_list {x v : Nat} {φ : Nat → BF_} (I : Ti_ n E x T φ) (hv : v < 6) : ∃ W', (wo_n W' < 1024 ∧ (∀ k, k < wo_n W' → al_ (tb_V T) (wo_w W' k) ∧ wo_w W' k ≠ x ∧ tb_V T (wo_w W' k) = v) ∧ (∀ j, al_ (tb_V T) j → j ≠ x → tb_V T j = v → ∃ k, k < wo_n W' ∧ wo_w W' k = j) ∧ (∀ k l, k < wo_n W' → l < wo_n W' → wo_w W' k = wo_w W' l → k = l)) ∧
    ∀ post : SX → Prop, post (st_ n la li E hh va lv T C M G W' S) → wpX_listNodes post (st_ n la li E hh va lv T C M G W S) (nI v) := by
  obtain ⟨S0, ⟨ch, hch⟩, -⟩ := I
  have hm : ∀ j, j ∈ cs_ ch v 32 ↔ al_ (tb_V T) j ∧ j ≠ x ∧ tb_V T j = v := by
    intro j
    rw [cs_mem]
    constructor
    · intro ⟨c, h1, h2⟩
      obtain ⟨-, -, c3⟩ := hch (v * 32 + c) (by omega)
      have := (c3 j).mp h2
      have hl := hs_lt (tb_L T j) (tb_H T j)
      have hb := this.2
      unfold bk_ at hb
      exact ⟨this.1.1, this.1.2, by omega⟩
    · intro ⟨h1, h2, h3⟩
      have hl := hs_lt (tb_L T j) (tb_H T j)
      obtain ⟨-, -, c3⟩ := hch (v * 32 + hs_ (tb_L T j) (tb_H T j)) (by omega)
      exact ⟨_, hl, (c3 j).mpr ⟨⟨h1, h2⟩, by unfold bk_; rw [h3]⟩⟩
  have hnd : ∀ b, b ≤ 32 → (cs_ ch v b).Nodup := by
    intro b
    induction b with
    | zero => intro _; exact List.nodup_nil
    | succ b ih =>
      intro hb
      obtain ⟨-, c2, c3⟩ := hch (v * 32 + b) (by omega)
      show (cs_ ch v b ++ ch (v * 32 + b)).Nodup
      rw [List.nodup_append]
      refine ⟨ih (by omega), c2, fun y hy z hz e => ?_⟩
      subst e
      obtain ⟨c, h1, h2⟩ := cs_mem.mp hy
      obtain ⟨-, -, d3⟩ := hch (v * 32 + c) (by omega)
      have a1 := ((c3 y).mp hz).2
      have a2 := ((d3 y).mp h2).2
      omega
  have hlen : (cs_ ch v 32).length < 1024 := by
    have h0 : 0 ∉ cs_ ch v 32 := fun z => S0.ne0 ((hm 0).mp z).1 rfl
    have := ls_len 1024 (0 :: cs_ ch v 32) (List.nodup_cons.mpr ⟨h0, hnd 32 (by omega)⟩) (fun y hy => by
      rcases List.mem_cons.mp hy with e | e
      · omega
      · exact ((hm y).mp e).1.1)
    simp only [List.length_cons] at this
    omega
  have hmono : ∀ d b, b + d = 32 → (cs_ ch v b).length ≤ (cs_ ch v 32).length := by
    intro d
    induction d with
    | zero => intro b hb; have : b = 32 := by omega
              subst this; exact Nat.le_refl _
    | succ d ih =>
      intro b hb
      have := ih (b + 1) (by omega)
      have e : (cs_ ch v (b + 1)).length = (cs_ ch v b).length + (ch (v * 32 + b)).length := by
        show (cs_ ch v b ++ ch (v * 32 + b)).length = _
        rw [List.length_append]
      omega
  have hnd32 := hnd 32 (by omega)
  have hmono' : ∀ b, b ≤ 32 → (cs_ ch v b).length ≤ (cs_ ch v 32).length := fun b hb => hmono (32 - b) b (by omega)
  obtain ⟨lz, hz⟩ : ∃ lz, cs_ ch v 32 = lz := ⟨_, rfl⟩
  rw [hz] at hlen hnd32 hmono'
  simp only [hz] at hm
  have hat : ∀ k (h : k < (lz).length), wl_ (wo_w W) 0 (lz) k = (lz)[k] := fun k h => by
    have := wl_at (wk := wo_w W) (wc := 0) h
    rw [Nat.zero_add] at this
    exact this
  refine ⟨((lz).length, wl_ (wo_w W) 0 (lz)), ⟨hlen, fun k hk => ?_, fun j h1 h2 h3 => ?_, fun k l hk hl e => ?_⟩, fun post hp => ?_⟩
  · show al_ _ (wl_ _ _ _ k) ∧ wl_ _ _ _ k ≠ x ∧ tb_V T (wl_ _ _ _ k) = v
    rw [hat k hk]
    exact (hm _).mp (List.getElem_mem hk)
  · obtain ⟨k, hk, e⟩ := List.getElem_of_mem ((hm j).mpr ⟨h1, h2, h3⟩)
    refine ⟨k, hk, ?_⟩
    show wl_ _ _ _ k = j
    rw [hat k hk, e]
  · have e' : wl_ (wo_w W) 0 (lz) k = wl_ (wo_w W) 0 (lz) l := e
    rw [hat k hk, hat l hl] at e'
    exact (List.getElem_inj hnd32).mp e'
  · unfold wpX_listNodes st_
    dsimp only
    refine ⟨32 + 1, ?_⟩
    have k := xw_listO (wk := wo_w W) hz hv (fun b hb => ⟨(hch b hb).1, fun y hy => (((hch b hb).2.2 y).mp hy).1.1.1⟩) hlen hmono' hp 32 0 (by omega)
    exact k
theorem xm_free {k : Nat} {φ : Nat → BF_} (I : Ti_ n E 0 T φ) (hk : al_ (tb_V T) k) (h0 : tb_R T k = 0) : ∃ T', Ti_ n E 0 T' φ ∧ (∀ j, al_ (tb_V T') j ↔ (al_ (tb_V T) j ∧ j ≠ k)) ∧ (∀ j, j ≠ k → tb_V T' j = tb_V T j) ∧ tb_L T' = tb_L T ∧ tb_H T' = tb_H T ∧ (∀ j, j ≠ tb_L T k / 2 → j ≠ tb_H T k / 2 → tb_R T' j = tb_R T j) ∧
    ∀ post : SX → Prop, post (st_ n la li E hh va lv T' C M G W S) → wpX_freeNode post (st_ n la li E hh va lv T C M G W S) (nI k) := by
  obtain ⟨p, q, l1, l2, l3, l4, l5, l6, I1⟩ := ti_cut I hk
  obtain ⟨d1, d2, d3, I2⟩ := ti_free I1 hk h0
  have S0 := I.1
  obtain ⟨-, -, -, -, -, o1, o2⟩ := S0.2.1 k hk
  have hR := I.2.2.2.1
  have b1 := hR.bd o1
  have b2 := hR.bd o2
  refine ⟨_, I2, fun j => ?_, fun j hj => fu_n hj, rfl, rfl, fun j h1 h2 => ?_, fun post hp => ?_⟩
  · show al_ (fu_u (tb_V T) k 7) j ↔ _
    by_cases e : j = k
    · subst e
      constructor
      · intro z
        have := z.2
        rw [fu_s] at this
        omega
      · intro z; exact absurd rfl z.2
    · rw [al_fu e]
      exact ⟨fun z => ⟨z, e⟩, fun z => z.1⟩
  · show fu_u (fu_u (tb_R T) (tb_L T k / 2) _) (tb_H T k / 2) _ j = _
    rw [fu_n h2, fu_n h1]
  · have hi : vp_in (nI k) 1024 := vp_in_nI hk.1 (by omega)
    have hkl := hk.1
    unfold wpX_freeNode st_
    dsimp only
    refine xw_unlink (p := p) (q := q) hk.1 hk.2 l5 l6 l1 l2 l3 l4 ?_
    dsimp only [st_]
    rw [nI_clamp (n := k) (by omega)]
    refine ⟨hi, ?_⟩
    refine xw_dropRef (T := tu_ k (p.getLastD 0) T) (e := tb_L T k) (ef_lt o1) (by show tb_R T _ < 4000; omega) d1 ?_
    dsimp only [st_]
    refine ⟨hi, ?_⟩
    refine xw_dropRef (T := td_ (tb_L T k) (tu_ k (p.getLastD 0) T)) (e := tb_H T k) (ef_lt o2) ?_ d2 ?_
    · show fu_u (tb_R T) (tb_L T k / 2) (tb_R T (tb_L T k / 2) - 1) (tb_H T k / 2) < 4000
      by_cases e : tb_H T k / 2 = tb_L T k / 2
      · rw [e, fu_s]; omega
      · rw [fu_n e]; omega
    dsimp only [st_]
    exact nm_r (pk_sub (b := 1) d3) ⟨hi, nm_r en_uV7 ⟨hi, nm_r en_uI hp⟩⟩
end
end
section
/-! sweepLoose and purgeCache -/
def Pm_ (n : Nat) (va lv : Nat → Nat) : Prop :=
  (2 ≤ n ∧ n ≤ 6 ∧ lv 6 = 6 ∧ ∀ w, w ≤ 6 → lv w ≤ 6) ∧ (∀ l, l < n → va l < n ∧ lv (va l) = l) ∧ (∀ v, v < n → lv v < n ∧ va (lv v) = v)
def Ca_ (V : Nat → Nat) (φ : Nat → BF_) (C : CN_) : Prop :=
  ∀ i, i < 256 → ca_F C i ≠ 0 → (ok_ V (ca_F C i / 2) ∧ ok_ V (ca_G C i / 2) ∧ ok_ V (ca_H C i / 2) ∧ ok_ V (ca_R C i / 2)) ∧ ∀ s : Nat → Bool, ef_ φ (ca_R C i) s = if ef_ φ (ca_F C i) s = true then ef_ φ (ca_G C i) s else ef_ φ (ca_H C i) s
def Cw_ (V : Nat → Nat) (φ : Nat → BF_) (C : CN_) : Prop :=
  ∀ i, i < 256 → ca_F C i ≠ 0 → (ca_F C i < 2048 ∧ ca_G C i < 2048 ∧ ca_H C i < 2048 ∧ ca_R C i < 2048) ∧ (ok_ V (ca_F C i / 2) → ok_ V (ca_G C i / 2) → ok_ V (ca_H C i / 2) → ok_ V (ca_R C i / 2) → ∀ s : Nat → Bool, ef_ φ (ca_R C i) s = if ef_ φ (ca_F C i) s = true then ef_ φ (ca_G C i) s else ef_ φ (ca_H C i) s)
def Sh_ (T T' : TN_) : Prop := (∀ j, al_ (tb_V T') j → al_ (tb_V T) j ∧ tb_V T' j = tb_V T j) ∧ tb_L T' = tb_L T ∧ tb_H T' = tb_H T
theorem Sh_.refl (T : TN_) : Sh_ T T := ⟨fun _ h => ⟨h, rfl⟩, rfl, rfl⟩
theorem Sh_.trans {T T' T'' : TN_} (h : Sh_ T T') (k : Sh_ T' T'') : Sh_ T T'' :=
  ⟨fun j hj => ⟨(h.1 j (k.1 j hj).1).1, (k.1 j hj).2.trans (h.1 j (k.1 j hj).1).2⟩, k.2.1.trans h.2.1, k.2.2.trans h.2.2⟩
theorem Sh_.ok {T T' : TN_} (h : Sh_ T T') {j : Nat} (hj : ok_ (tb_V T') j) : ok_ (tb_V T) j := hj.imp id (fun z => (h.1 j z).1)
theorem Sh_.V {T T' : TN_} (h : Sh_ T T') (h0 : tb_V T 0 = 6) (h0' : tb_V T' 0 = 6) {j : Nat} (hj : ok_ (tb_V T') j) : tb_V T' j = tb_V T j := by
  rcases hj with e | e
  · rw [e, h0, h0']
  · exact (h.1 j e).2
theorem Sh_.od {n K : Nat} {lev : Nat → Nat} {T T' : TN_} {φ φ' : Nat → BF_} (h : Sh_ T T') (S : Sm_ n (tb_V T) (tb_L T) (tb_H T) φ) (S' : Sm_ n (tb_V T') (tb_L T') (tb_H T') φ') (O : Od_ K lev (tb_V T) (tb_L T) (tb_H T)) : Od_ K lev (tb_V T') (tb_L T') (tb_H T') := by
  intro i hi hK
  obtain ⟨-, -, -, -, -, o1, o2⟩ := S'.2.1 i hi
  have e0 := (h.1 i hi).2
  rw [h.V S.1.2.1 S'.1.2.1 o1, h.V S.1.2.1 S'.1.2.1 o2, e0, h.2.1, h.2.2]
  rw [e0] at hK
  exact O i (h.1 i hi).1 hK
theorem Ti_.gone {n x : Nat} {E : Nat → Nat} {T : TN_} {φ : Nat → BF_} (I : Ti_ n E x T φ) {j : Nat} (hj : j < 1024) : (ok_ (tb_V T) j → ¬ en_V (tb_V T) j < 0) ∧ (¬ ok_ (tb_V T) j → en_V (tb_V T) j < 0) := by
  obtain ⟨S, -, ⟨fl, f1, f2, f3, f7⟩, -⟩ := I
  constructor
  · intro h
    have := S.v6 h
    rw [en_Vk (by omega)]
    exact nI_pos (by omega)
  · intro h
    have h7 : tb_V T j = 7 := f7 j ((f3 j).mpr ⟨by have : j ≠ 0 := fun e => h (Or.inl e); omega, hj, fun z => h (Or.inr ⟨hj, z⟩)⟩)
    unfold en_V
    rw [if_neg (by omega)]
    decide
section
variable {n la li : Nat} {E hh va lv : Nat → Nat} {T : TN_} {C : CN_} {M : MN_} {G : GN_} {W : WN_} {S : SN_}
theorem xw_purge {x : Nat} {φ : Nat → BF_} (I : Ti_ n E x T φ) : ∀ (m i : Nat) (C : CN_), i + m = 256 → Cw_ (tb_V T) φ C → (∀ j, j < i → ca_F C j ≠ 0 → (ok_ (tb_V T) (ca_F C j / 2) ∧ ok_ (tb_V T) (ca_G C j / 2) ∧ ok_ (tb_V T) (ca_H C j / 2) ∧ ok_ (tb_V T) (ca_R C j / 2))) →
    ∃ C', Ca_ (tb_V T) φ C' ∧ ∀ post : SX → Prop, post (st_ n la li E hh va lv T C' M G W S) → wX_purgeCache_2 post (nI n) (nI la) (nI li) (nI (tb_fh T)) (nI (tb_lo T)) (nI (tb_to T)) (nI (ma_F M)) (nI (ma_G M)) (nI (ma_H M)) (nI (ma_n M)) (nI (ga_n G)) (nI (wo_n W)) (m + 1) (nI i) (en_E E) (en_I hh) (en_I va) (en_I lv) (en_V (tb_V T)) (en_I (tb_L T)) (en_I (tb_H T)) (en_I (tb_R T)) (en_I (tb_X T)) (en_I (tb_D T)) (en_I (tb_Q T)) (en_I (ca_F C)) (en_I (ca_G C)) (en_I (ca_H C)) (en_I (ca_R C)) (en_I (ma_f M)) (en_I (ma_g M)) (en_I (ma_h M)) (en_I (ma_v M)) (en_I (ma_p M)) (en_I (ma_l M)) (en_I (ma_b M)) (en_I (ga_r G)) (en_I (ga_s G)) (en_I (ga_i G)) (en_I (ga_w G)) (en_I (wo_w W)) (en_I (si_z S)) (en_I (si_c S))
  | 0, i, C, hi, hw, hd => by
    refine ⟨C, fun j hj h0 => ?_, fun post hp => ?_⟩
    · have a := hd j (by omega) h0
      exact ⟨a, (hw j hj h0).2 a.1 a.2.1 a.2.2.1 a.2.2.2⟩
    · have e : i = 256 := by omega
      subst e
      exact br_t (by decide) hp
  | m + 1, i, C, hi, hw, hd => by
    have hvi : vp_in (nI i) 256 := vp_in_nI (by omega) (by omega)
    by_cases h0 : ca_F C i = 0
    · obtain ⟨C', c1, c2⟩ := xw_purge I m (i + 1) C (by omega) hw (fun j hj hn => by
        by_cases e : j = i
        · subst e; exact absurd h0 hn
        · exact hd j (by omega) hn)
      refine ⟨C', c1, fun post hp => ?_⟩
      refine pk_le 256 i (fun z => by omega) (fun _ => ?_)
      rw [nI_clamp (n := i) (by omega)]
      exact ⟨hvi, br_t (by show nI _ = 0; rw [h0]; rfl) (nm_r (nI_1 _) (c2 post hp))⟩
    · obtain ⟨⟨b1, b2, b3, b4⟩, hs⟩ := hw i (by omega) h0
      have e1 : en_I (ca_F C) i >>> ((1 : Int32) &&& 31) = nI (ca_F C i / 2) := nn_half (by omega)
      have e2 : en_I (ca_G C) i >>> ((1 : Int32) &&& 31) = nI (ca_G C i / 2) := nn_half (by omega)
      have e3 : en_I (ca_H C) i >>> ((1 : Int32) &&& 31) = nI (ca_H C i / 2) := nn_half (by omega)
      have e4 : en_I (ca_R C) i >>> ((1 : Int32) &&& 31) = nI (ca_R C i / 2) := nn_half (by omega)
      have g1 := I.gone (j := ca_F C i / 2) (by omega)
      have g2 := I.gone (j := ca_G C i / 2) (by omega)
      have g3 := I.gone (j := ca_H C i / 2) (by omega)
      have g4 := I.gone (j := ca_R C i / 2) (by omega)
      have v1 : vp_in (nI (ca_F C i / 2)) 1024 := vp_in_nI (by omega) (by omega)
      have v2 : vp_in (nI (ca_G C i / 2)) 1024 := vp_in_nI (by omega) (by omega)
      have v3 : vp_in (nI (ca_H C i / 2)) 1024 := vp_in_nI (by omega) (by omega)
      have v4 : vp_in (nI (ca_R C i / 2)) 1024 := vp_in_nI (by omega) (by omega)
      have hne : ¬ en_I (ca_F C) i = 0 := by show ¬ nI _ = 0; exact nI_ne0 (by omega) (by omega)
      by_cases hall : ok_ (tb_V T) (ca_F C i / 2) ∧ ok_ (tb_V T) (ca_G C i / 2) ∧ ok_ (tb_V T) (ca_H C i / 2) ∧ ok_ (tb_V T) (ca_R C i / 2)
      · obtain ⟨C', c1, c2⟩ := xw_purge I m (i + 1) C (by omega) hw (fun j hj hn => by
          by_cases e : j = i
          · subst e; exact hall
          · exact hd j (by omega) hn)
        refine ⟨C', c1, fun post hp => ?_⟩
        refine pk_le 256 i (fun z => by omega) (fun _ => ?_)
        rw [nI_clamp (n := i) (by omega), e1, e2, e3, e4, nI_clamp (n := ca_F C i / 2) (by omega), nI_clamp (n := ca_G C i / 2) (by omega), nI_clamp (n := ca_H C i / 2) (by omega), nI_clamp (n := ca_R C i / 2) (by omega)]
        exact ⟨hvi, br_f hne ⟨hvi, v1, br_f (g1.1 hall.1) ⟨hvi, v2, br_f (g2.1 hall.2.1) ⟨hvi, v3, br_f (g3.1 hall.2.2.1) ⟨hvi, v4, br_t (Int32.not_lt.mp (g4.1 hall.2.2.2)) (br_t rfl (nm_r (nI_1 _) (c2 post hp)))⟩⟩⟩⟩⟩
      · obtain ⟨C', c1, c2⟩ := xw_purge I m (i + 1) (fu_u (ca_F C) i 0, ca_G C, ca_H C, ca_R C) (by omega) (fun j hj hn => by
          have hn' : fu_u (ca_F C) i 0 j ≠ 0 := hn
          by_cases e : j = i
          · subst e; rw [fu_s] at hn'; exact absurd rfl hn'
          · rw [fu_n e] at hn'
            have := hw j hj hn'
            show (fu_u (ca_F C) i 0 j < 2048 ∧ _) ∧ (ok_ (tb_V T) (fu_u (ca_F C) i 0 j / 2) → _ → _ → _ → ∀ s : Nat → Bool, _ = if ef_ φ (fu_u (ca_F C) i 0 j) s = true then _ else _)
            rw [fu_n e]; exact this) (fun j hj hn => by
          have hn' : fu_u (ca_F C) i 0 j ≠ 0 := hn
          by_cases e : j = i
          · subst e; rw [fu_s] at hn'; exact absurd rfl hn'
          · rw [fu_n e] at hn'
            show ok_ (tb_V T) (fu_u (ca_F C) i 0 j / 2) ∧ _
            rw [fu_n e]; exact hd j (by omega) hn')
        refine ⟨C', c1, fun post hp => ?_⟩
        have c3 : wX_purgeCache_82 post (wX_purgeCache_2 post (nI n) (nI la) (nI li) (nI (tb_fh T)) (nI (tb_lo T)) (nI (tb_to T)) (nI (ma_F M)) (nI (ma_G M)) (nI (ma_H M)) (nI (ma_n M)) (nI (ga_n G)) (nI (wo_n W)) (m + 1)) (nI i) (nI n) (nI la) (nI li) (nI (tb_fh T)) (nI (tb_lo T)) (nI (tb_to T)) (nI (ma_F M)) (nI (ma_G M)) (nI (ma_H M)) (nI (ma_n M)) (nI (ga_n G)) (nI (wo_n W)) (en_E E) (en_I hh) (en_I va) (en_I lv) (en_V (tb_V T)) (en_I (tb_L T)) (en_I (tb_H T)) (en_I (tb_R T)) (en_I (tb_X T)) (en_I (tb_D T)) (en_I (tb_Q T)) (en_I (ca_F C)) (en_I (ca_G C)) (en_I (ca_H C)) (en_I (ca_R C)) (en_I (ma_f M)) (en_I (ma_g M)) (en_I (ma_h M)) (en_I (ma_v M)) (en_I (ma_p M)) (en_I (ma_l M)) (en_I (ma_b M)) (en_I (ga_r G)) (en_I (ga_s G)) (en_I (ga_i G)) (en_I (ga_w G)) (en_I (wo_w W)) (en_I (si_z S)) (en_I (si_c S)) := by
          unfold wX_purgeCache_82 wX_purgeCache_87
          rw [nI_clamp (n := i) (by omega)]
          exact br_f (by decide) ⟨hvi, nm_r (en_uI (x := 0)) (nm_r (nI_1 _) (c2 post hp))⟩
        refine pk_le 256 i (fun z => by omega) (fun _ => ?_)
        rw [nI_clamp (n := i) (by omega), e1, e2, e3, e4, nI_clamp (n := ca_F C i / 2) (by omega), nI_clamp (n := ca_G C i / 2) (by omega), nI_clamp (n := ca_H C i / 2) (by omega), nI_clamp (n := ca_R C i / 2) (by omega)]
        refine ⟨hvi, br_f hne ⟨hvi, v1, br_c (fun _ => c3) (fun z1 => ⟨hvi, v2, br_c (fun _ => c3) (fun z2 => ⟨hvi, v3, br_c (fun _ => c3) (fun z3 => ⟨hvi, v4, br_c (fun z4 => ?_) (fun _ => c3)⟩)⟩)⟩)⟩⟩
        exfalso
        apply hall
        refine ⟨?_, ?_, ?_, ?_⟩
        · exact Classical.byContradiction (fun c => z1 (g1.2 c))
        · exact Classical.byContradiction (fun c => z2 (g2.2 c))
        · exact Classical.byContradiction (fun c => z3 (g3.2 c))
        · exact Classical.byContradiction (fun c => Int32.not_lt.mpr z4 (g4.2 c))
theorem xw_sweepI {l : Nat} {φ : Nat → BF_} (P : Pm_ n va lv) (hl : l < n) (hw : wo_n W < 1024) (hinj : ∀ k k', k < wo_n W → k' < wo_n W → wo_w W k = wo_w W k' → k = k') : ∀ (m i : Nat) (T : TN_), i + m = wo_n W → Ti_ n E 0 T φ → Od_ 0 lv (tb_V T) (tb_L T) (tb_H T) → (∀ j, al_ (tb_V T) j → lv (tb_V T j) < l → tb_R T j ≠ 0) → (∀ k, k < i → al_ (tb_V T) (wo_w W k) → tb_R T (wo_w W k) ≠ 0) → (∀ k, i ≤ k → k < wo_n W → al_ (tb_V T) (wo_w W k) ∧ tb_V T (wo_w W k) = va l) → (∀ k, k < i → al_ (tb_V T) (wo_w W k) → tb_V T (wo_w W k) = va l) → (∀ j, al_ (tb_V T) j → tb_V T j = va l → ∃ k, k < wo_n W ∧ wo_w W k = j) →
    ∃ T', Ti_ n E 0 T' φ ∧ Od_ 0 lv (tb_V T') (tb_L T') (tb_H T') ∧ Sh_ T T' ∧ (∀ j, al_ (tb_V T') j → lv (tb_V T' j) < l + 1 → tb_R T' j ≠ 0) ∧ ∀ (post : SX → Prop) (N : Nat), wX_sweepLoose_10 post N (nI (l + 1)) (nI n) (nI la) (nI li) (nI (tb_fh T')) (nI (tb_lo T')) (nI (tb_to T')) (nI (ma_F M)) (nI (ma_G M)) (nI (ma_H M)) (nI (ma_n M)) (nI (ga_n G)) (nI (wo_n W)) (en_E E) (en_I hh) (en_I va) (en_I lv) (en_V (tb_V T')) (en_I (tb_L T')) (en_I (tb_H T')) (en_I (tb_R T')) (en_I (tb_X T')) (en_I (tb_D T')) (en_I (tb_Q T')) (en_I (ca_F C)) (en_I (ca_G C)) (en_I (ca_H C)) (en_I (ca_R C)) (en_I (ma_f M)) (en_I (ma_g M)) (en_I (ma_h M)) (en_I (ma_v M)) (en_I (ma_p M)) (en_I (ma_l M)) (en_I (ma_b M)) (en_I (ga_r G)) (en_I (ga_s G)) (en_I (ga_i G)) (en_I (ga_w G)) (en_I (wo_w W)) (en_I (si_z S)) (en_I (si_c S)) → wX_sweepLoose_37 post (wX_sweepLoose_10 post N) (nI l) (m + 1) (nI i) (nI n) (nI la) (nI li) (nI (tb_fh T)) (nI (tb_lo T)) (nI (tb_to T)) (nI (ma_F M)) (nI (ma_G M)) (nI (ma_H M)) (nI (ma_n M)) (nI (ga_n G)) (nI (wo_n W)) (en_E E) (en_I hh) (en_I va) (en_I lv) (en_V (tb_V T)) (en_I (tb_L T)) (en_I (tb_H T)) (en_I (tb_R T)) (en_I (tb_X T)) (en_I (tb_D T)) (en_I (tb_Q T)) (en_I (ca_F C)) (en_I (ca_G C)) (en_I (ca_H C)) (en_I (ca_R C)) (en_I (ma_f M)) (en_I (ma_g M)) (en_I (ma_h M)) (en_I (ma_v M)) (en_I (ma_p M)) (en_I (ma_l M)) (en_I (ma_b M)) (en_I (ga_r G)) (en_I (ga_s G)) (en_I (ga_i G)) (en_I (ga_w G)) (en_I (wo_w W)) (en_I (si_z S)) (en_I (si_c S))
  | 0, i, T, hi, I, O, h1, h2, _, _, h5 => by
    refine ⟨T, I, O, Sh_.refl T, fun j hj hlt => ?_, fun post N hp => ?_⟩
    · by_cases e : lv (tb_V T j) < l
      · exact h1 j hj e
      · have hv := (I.1.2.1 j hj).1
        have e2 : tb_V T j = va l := by
          have := (P.2.2 _ hv).2
          rw [show lv (tb_V T j) = l from by omega] at this
          exact this.symm
        obtain ⟨k, k1, k2⟩ := h5 j hj e2
        rw [← k2]
        exact h2 k (by omega) (by rw [k2]; exact hj)
    · exact pk_le (wo_n W) i (fun _ => nm_r (nI_1 _) hp) (fun z => by omega)
  | m + 1, i, T, hi, I, O, h1, h2, h3, h4, h5 => by
    obtain ⟨a1, a2⟩ := h3 i (Nat.le_refl _) (by omega)
    have hvk : vp_in (nI (wo_w W i)) 1024 := vp_in_nI a1.1 (by omega)
    have hvi : vp_in (nI i) 1024 := vp_in_nI (by omega) (by omega)
    have hlt := a1.1
    have hbd := I.2.2.2.1.bd (Or.inr a1)
    by_cases h0 : tb_R T (wo_w W i) = 0
    · obtain ⟨T1, I1, f1, f2, f3, f4, f5, f6⟩ := xm_free (la := la) (li := li) (hh := hh) (va := va) (lv := lv) (C := C) (M := M) (G := G) (W := W) (S := S) I a1 h0
      have sh : Sh_ T T1 := ⟨fun j hj => ⟨((f1 j).mp hj).1, f2 j ((f1 j).mp hj).2⟩, f3, f4⟩
      have O1 := sh.od I.1 I1.1 O
      obtain ⟨oc1, oc2⟩ := O _ a1 (Nat.zero_le _)
      rw [a2, (P.2.1 l hl).2] at oc1 oc2
      have keep : ∀ j, al_ (tb_V T) j → lv (tb_V T j) ≤ l → tb_R T1 j = tb_R T j := fun j hj hle => f5 j (fun e => by rw [← e] at oc1; omega) (fun e => by rw [← e] at oc2; omega)
      obtain ⟨T2, g1, g2, g3, g4, g5⟩ := xw_sweepI P hl hw hinj m (i + 1) T1 (by omega) I1 O1
        (fun j hj hlt => by
          have := sh.1 j hj
          rw [this.2] at hlt
          rw [keep j this.1 (by omega)]
          exact h1 j this.1 hlt)
        (fun k hk hal => by
          have := (f1 _).mp hal
          have hki : k ≠ i := fun e => this.2 (by rw [e])
          rw [keep _ this.1 (by rw [h4 k (by omega) this.1, (P.2.1 l hl).2]; omega)]
          exact h2 k (by omega) this.1)
        (fun k hk1 hk2 => by
          obtain ⟨b1, b2⟩ := h3 k (by omega) hk2
          have hne : wo_w W k ≠ wo_w W i := fun e => by
            have := hinj k i hk2 (by omega) e
            omega
          exact ⟨(f1 _).mpr ⟨b1, hne⟩, by rw [f2 _ hne]; exact b2⟩)
        (fun k hk hal => by
          have := (f1 _).mp hal
          have hki : k ≠ i := fun e => this.2 (by rw [e])
          rw [f2 _ this.2]
          exact h4 k (by omega) this.1)
        (fun j hj hv => by
          have := sh.1 j hj
          exact h5 j this.1 (by rw [← this.2]; exact hv))
      refine ⟨T2, g1, g2, sh.trans g3, g4, fun post N hp => ?_⟩
      refine pk_le (wo_n W) i (fun z => by omega) (fun _ => ⟨hvi, nm_r (e' := nI (wo_w W i)) (by rw [nI_clamp (n := i) (by omega)]; rfl) ⟨hvk, ?_⟩⟩)
      rw [nI_clamp (n := wo_w W i) (by omega)]
      refine br_t (by show nI _ = 0; rw [h0]; rfl) ?_
      refine f6 _ ?_
      dsimp only [st_]
      exact nm_r (nI_1 _) (g5 post N hp)
    · obtain ⟨T2, g1, g2, g3, g4, g5⟩ := xw_sweepI P hl hw hinj m (i + 1) T (by omega) I O h1
        (fun k hk hal => by
          by_cases e : k = i
          · subst e; exact h0
          · exact h2 k (by omega) hal)
        (fun k hk1 hk2 => h3 k (by omega) hk2)
        (fun k hk hal => by
          by_cases e : k = i
          · subst e; exact a2
          · exact h4 k (by omega) hal) h5
      refine ⟨T2, g1, g2, g3, g4, fun post N hp => ?_⟩
      refine pk_le (wo_n W) i (fun z => by omega) (fun _ => ⟨hvi, nm_r (e' := nI (wo_w W i)) (by rw [nI_clamp (n := i) (by omega)]; rfl) ⟨hvk, ?_⟩⟩)
      rw [nI_clamp (n := wo_w W i) (by omega)]
      exact br_f (by show ¬ nI _ = 0; exact nI_ne0 (by omega) (by omega)) (nm_r (nI_1 _) (g5 post N hp))
theorem xw_sweepO {φ : Nat → BF_} (P : Pm_ n va lv) : ∀ (m l : Nat) (T : TN_) (W : WN_), l + m = n → Ti_ n E 0 T φ → Od_ 0 lv (tb_V T) (tb_L T) (tb_H T) → (∀ j, al_ (tb_V T) j → lv (tb_V T j) < l → tb_R T j ≠ 0) →
    ∃ T' W', Ti_ n E 0 T' φ ∧ Od_ 0 lv (tb_V T') (tb_L T') (tb_H T') ∧ Sh_ T T' ∧ (∀ j, al_ (tb_V T') j → tb_R T' j ≠ 0) ∧ ∀ post : SX → Prop, wX_sweepLoose_81 post (nI n) (nI la) (nI li) (nI (tb_fh T')) (nI (tb_lo T')) (nI (tb_to T')) (nI (ma_F M)) (nI (ma_G M)) (nI (ma_H M)) (nI (ma_n M)) (nI (ga_n G)) (nI (wo_n W')) (en_E E) (en_I hh) (en_I va) (en_I lv) (en_V (tb_V T')) (en_I (tb_L T')) (en_I (tb_H T')) (en_I (tb_R T')) (en_I (tb_X T')) (en_I (tb_D T')) (en_I (tb_Q T')) (en_I (ca_F C)) (en_I (ca_G C)) (en_I (ca_H C)) (en_I (ca_R C)) (en_I (ma_f M)) (en_I (ma_g M)) (en_I (ma_h M)) (en_I (ma_v M)) (en_I (ma_p M)) (en_I (ma_l M)) (en_I (ma_b M)) (en_I (ga_r G)) (en_I (ga_s G)) (en_I (ga_i G)) (en_I (ga_w G)) (en_I (wo_w W')) (en_I (si_z S)) (en_I (si_c S)) → wX_sweepLoose_10 post (m + 1) (nI l) (nI n) (nI la) (nI li) (nI (tb_fh T)) (nI (tb_lo T)) (nI (tb_to T)) (nI (ma_F M)) (nI (ma_G M)) (nI (ma_H M)) (nI (ma_n M)) (nI (ga_n G)) (nI (wo_n W)) (en_E E) (en_I hh) (en_I va) (en_I lv) (en_V (tb_V T)) (en_I (tb_L T)) (en_I (tb_H T)) (en_I (tb_R T)) (en_I (tb_X T)) (en_I (tb_D T)) (en_I (tb_Q T)) (en_I (ca_F C)) (en_I (ca_G C)) (en_I (ca_H C)) (en_I (ca_R C)) (en_I (ma_f M)) (en_I (ma_g M)) (en_I (ma_h M)) (en_I (ma_v M)) (en_I (ma_p M)) (en_I (ma_l M)) (en_I (ma_b M)) (en_I (ga_r G)) (en_I (ga_s G)) (en_I (ga_i G)) (en_I (ga_w G)) (en_I (wo_w W)) (en_I (si_z S)) (en_I (si_c S))
  | 0, l, T, W, hl, I, O, h1 => by
    have hn6 := P.1.2.1
    refine ⟨T, W, I, O, Sh_.refl T, fun j hj => h1 j hj ?_, fun post hp => ?_⟩
    · have := (P.2.2 _ (I.1.2.1 j hj).1).1; omega
    · exact pk_le n l (fun _ => hp) (fun z => by omega)
  | m + 1, l, T, W, hl, I, O, h1 => by
    have hn6 := P.1.2.1
    have hlb : tb_lo T < 2 ^ 31 := by
      have a := I.2.2.2.2.1
      have b := sm_bd (f := fun j => if tb_V T j < 6 ∧ tb_R T j = 0 then 1 else 0) (b := 1) (m := 1024) (fun j _ => by (try dsimp only); split <;> omega)
      unfold lc_ at a
      omega
    by_cases h0 : tb_lo T = 0
    · refine ⟨T, W, I, O, Sh_.refl T, fun j hj => lc_z (by rw [← I.2.2.2.2.1]; exact h0) hj, fun post hp => ?_⟩
      exact pk_le n l (fun z => by omega) (fun _ => pk_le (tb_lo T) 0 (fun _ => hp) (fun z => by omega))
    · obtain ⟨W1, ⟨w1, w2, w3, w4⟩, w5⟩ := xm_list (la := la) (li := li) (hh := hh) (va := va) (lv := lv) (C := C) (M := M) (G := G) (W := W) (S := S) I (v := va l) (by have := (P.2.1 l (by omega)).1; omega)
      obtain ⟨T1, I1, O1, s1, s2, s3⟩ := xw_sweepI (la := la) (li := li) (hh := hh) (C := C) (M := M) (G := G) (W := W1) (S := S) P (l := l) (by omega) w1 w4 (wo_n W1) 0 T (by omega) I O h1 (fun k hk => by omega) (fun k _ hk => ⟨(w2 k hk).1, (w2 k hk).2.2⟩) (fun k hk => by omega) (fun j hj hv => w3 j hj (I.1.ne0 hj) hv)
      obtain ⟨T2, W2, I2, O2, t1, t2, t3⟩ := xw_sweepO P m (l + 1) T1 W1 (by omega) I1 O1 s2
      refine ⟨T2, W2, I2, O2, s1.trans t1, t2, fun post hp => ?_⟩
      refine pk_le n l (fun z => by omega) (fun _ => pk_le (tb_lo T) 0 (fun z => by omega) (fun _ => ⟨vp_in_nI (by omega) (by omega), ?_⟩))
      rw [nI_clamp (n := l) (by omega)]
      refine w5 _ ?_
      dsimp only [st_]
      exact ⟨_, s3 post _ (t3 post hp)⟩
theorem xm_sweep {l : Nat} {φ : Nat → BF_} (P : Pm_ n va lv) (hl : l ≤ n) (I : Ti_ n E 0 T φ) (O : Od_ 0 lv (tb_V T) (tb_L T) (tb_H T)) (h1 : ∀ j, al_ (tb_V T) j → lv (tb_V T j) < l → tb_R T j ≠ 0) (K : Ca_ (tb_V T) φ C) :
    ∃ T' C' W', Ti_ n E 0 T' φ ∧ Od_ 0 lv (tb_V T') (tb_L T') (tb_H T') ∧ Sh_ T T' ∧ tb_lo T' = 0 ∧ Ca_ (tb_V T') φ C' ∧ ∀ post : SX → Prop, post (st_ n la li E hh va lv T' C' M G W' S) → wpX_sweepLoose post (st_ n la li E hh va lv T C M G W S) (nI l) := by
  have hlb : tb_lo T < 2 ^ 31 := by
    have a := I.2.2.2.2.1
    have b := sm_bd (f := fun j => if tb_V T j < 6 ∧ tb_R T j = 0 then 1 else 0) (b := 1) (m := 1024) (fun j _ => by (try dsimp only); split <;> omega)
    unfold lc_ at a
    omega
  by_cases h0 : tb_lo T = 0
  · refine ⟨T, C, W, I, O, Sh_.refl T, h0, K, fun post hp => ?_⟩
    unfold wpX_sweepLoose st_
    dsimp only
    exact pk_eq (tb_lo T) 0 (fun _ => hp) (fun z => absurd h0 z)
  · obtain ⟨T1, W1, I1, O1, s1, s2, s3⟩ := xw_sweepO (la := la) (li := li) (hh := hh) (C := C) (M := M) (G := G) (S := S) P (n - l) l T W (by omega) I O h1
    obtain ⟨C1, c1, c2⟩ := xw_purge (la := la) (li := li) (hh := hh) (va := va) (lv := lv) (M := M) (G := G) (W := W1) (S := S) I1 256 0 C (by omega) (fun i hi hn => by
      obtain ⟨⟨k1, k2, k3, k4⟩, k5⟩ := K i hi hn
      exact ⟨⟨ef_lt k1, ef_lt k2, ef_lt k3, ef_lt k4⟩, fun _ _ _ _ => k5⟩) (fun j hj => by omega)
    refine ⟨T1, C1, W1, I1, O1, s1, ?_, c1, fun post hp => ?_⟩
    · rw [I1.2.2.2.2.1]; exact lc_0 s2
    · unfold wpX_sweepLoose st_
      dsimp only
      refine pk_eq (tb_lo T) 0 (fun z => absurd z h0) (fun _ => ⟨_, s3 post ?_⟩)
      unfold wX_sweepLoose_81 wpX_purgeCache
      dsimp only
      exact ⟨_, c2 _ hp⟩
end
end
section
/-! cofactors, terminal cases, normal form, enter -/
def cd_ (V L H : Nat → Nat) (e v b : Nat) : Nat := if V (e / 2) = v then (if b = 0 then L (e / 2) else H (e / 2)) ^^^ (e % 2) else e
theorem Pm_.inj {n : Nat} {va lv : Nat → Nat} (P : Pm_ n va lv) {v w : Nat} (hv : v < n) (hw : w < n) (h : lv v = lv w) : v = w := by
  rw [← (P.2.2 v hv).2, ← (P.2.2 w hw).2, h]
theorem cd_lev {n : Nat} {V L H va lv : Nat → Nat} {φ : Nat → BF_} (S : Sm_ n V L H φ) (P : Pm_ n va lv) {e v : Nat} (he : ok_ V (e / 2)) (hv : v < n) (hne : V (e / 2) ≠ v) (hle : lv v ≤ lv (V (e / 2))) : lv v < lv (V (e / 2)) := by
  have l1 := (P.2.2 v hv).1
  have l2 := P.1.2.1
  rcases he with z | z
  · rw [z, S.1.2.1, P.1.2.2.1]; omega
  · by_cases c : lv v = lv (V (e / 2))
    · exact absurd (P.inj hv (S.2.1 _ z).1 c).symm hne
    · omega
theorem cd_sem {n : Nat} {V L H va lv : Nat → Nat} {φ : Nat → BF_} (S : Sm_ n V L H φ) (P : Pm_ n va lv) (O : Od_ 0 lv V L H) {e v b : Nat} (he : ok_ V (e / 2)) (hv : v < n) (hb : b < 2) (hle : lv v ≤ lv (V (e / 2))) : ok_ V (cd_ V L H e v b / 2) ∧ lv v < lv (V (cd_ V L H e v b / 2)) ∧ ∀ s, ef_ φ (cd_ V L H e v b) s = ef_ φ e (fu_u s v (decide (b = 1))) := by
  have hm : e % 2 < 2 := Nat.mod_lt _ (by omega)
  unfold cd_
  by_cases c : V (e / 2) = v
  · have hal : al_ V (e / 2) := he.elim (fun z => by rw [z, S.1.2.1] at c; have := S.1.1; omega) id
    obtain ⟨-, -, -, -, -, o1, o2⟩ := S.2.1 _ hal
    obtain ⟨l1, l2⟩ := O _ hal (Nat.zero_le _)
    rw [if_pos c]
    rw [c] at l1 l2
    rcases (by omega : b = 0 ∨ b = 1) with z | z
    · subst z
      rw [if_pos rfl, xr_d hm]
      refine ⟨o1, l1, fun s => ?_⟩
      rw [ef_x hm, ← S.fal hal, c]
      rfl
    · subst z
      rw [if_neg (by decide), xr_d hm]
      refine ⟨o2, l2, fun s => ?_⟩
      rw [ef_x hm, ← S.tru hal, c]
      rfl
  · rw [if_neg c]
    have hlt := cd_lev S P he hv c hle
    refine ⟨he, hlt, fun s => ?_⟩
    exact S.edep P.1.2.2.2 O he (Nat.zero_le _) (fun w _ hw => by rw [fu_n (fun e => by subst e; omega)])
def sl_ (f g h : Nat) : Nat := (((((nI f * 12582917) + (nI g * 4256249)) + (nI h * 741457)).toUInt32 >>> ((12 : Int32).toUInt32 &&& Int32.toUInt32 31)).toInt32 &&& 255).toNatClampNeg
theorem sl_w (f g h : Nat) : sl_ f g h < 256 ∧ (((((nI f * 12582917) + (nI g * 4256249)) + (nI h * 741457)).toUInt32 >>> ((12 : Int32).toUInt32 &&& Int32.toUInt32 31)).toInt32 &&& 255) = nI (sl_ f g h) := by
  unfold sl_
  obtain ⟨j, hj, e⟩ := pk_andE ((((nI f * 12582917) + (nI g * 4256249)) + (nI h * 741457)).toUInt32 >>> ((12 : Int32).toUInt32 &&& Int32.toUInt32 31)).toInt32 (m := 255) 8 (by decide)
  rw [e, nI_clamp (by omega)]
  exact ⟨hj, rfl⟩
theorem xw_slot {post : Int32 → Prop} {u : SX} {f g h : Nat} (hp : post (nI (sl_ f g h))) : wpX_cacheSlot post u (nI f) (nI g) (nI h) := by
  rcases u with ⟨u1, u2, u3, u4, u5, u6, u7, u8, u9, u10, u11, u12, u13, u14, u15, u16, u17, u18, u19, u20, u21, u22, u23, u24, u25, u26, u27, u28, u29, u30, u31, u32, u33, u34, u35, u36, u37, u38, u39, u40, u41⟩
  intro x ex
  subst ex
  rw [(sl_w f g h).2]
  exact hp
def mo_ (M : MN_) (f g h : Nat) : MN_ := (f, g, h, M.2.2.2)
def i3_ (φ : Nat → BF_) (f g h : Nat) : BF_ := fun s => if ef_ φ f s = true then ef_ φ g s else ef_ φ h s
theorem ef_0 {n : Nat} {V L H : Nat → Nat} {φ : Nat → BF_} (S : Sm_ n V L H φ) (s : Nat → Bool) : ef_ φ 0 s = false ∧ ef_ φ 1 s = true := by
  show (φ 0 s ^^ decide (0 % 2 = 1)) = false ∧ (φ 0 s ^^ decide (1 % 2 = 1)) = true
  rw [S.1.2.2]
  exact ⟨rfl, rfl⟩
section
variable {n la li : Nat} {E hh va lv : Nat → Nat} {T : TN_} {C : CN_} {M : MN_} {G : GN_} {W : WN_} {S : SN_}
theorem xw_child {post : Int32 → Prop} {e v b : Nat} (he : e < 2048) (h6 : tb_V T (e / 2) ≤ 6) (hv : v < 7) (hb : b < 2) (h : post (nI (cd_ (tb_V T) (tb_L T) (tb_H T) e v b))) : wpX_child post (st_ n la li E hh va lv T C M G W S) (nI e) (nI v) (nI b) := by
  have hi : vp_in (nI (e / 2)) 1024 := vp_in_nI (by omega) (by omega)
  unfold wpX_child st_
  dsimp only
  refine nm_r (nn_half (by omega)) ?_
  rw [nI_clamp (by omega), nn_low (by omega)]
  unfold cd_ at h
  refine ⟨hi, pk_eq (tb_V T (e / 2)) v (fun z => ?_) (fun z => ?_) (en_Vk (by omega))⟩
  · rw [if_pos z] at h
    refine pk_eq b 0 (fun y => ?_) (fun y => ?_)
    · rw [if_pos y, ← nx_xor] at h
      exact ⟨hi, nm_e h⟩
    · rw [if_neg y, ← nx_xor] at h
      exact ⟨hi, nm_e h⟩
  · rw [if_neg z] at h
    exact h
theorem xw_elev {post : Int32 → Prop} {e : Nat} (he : e < 2048) (h6 : tb_V T (e / 2) ≤ 6) (h : post (nI (lv (tb_V T (e / 2))))) : wpX_edgeLevel post (st_ n la li E hh va lv T C M G W S) (nI e) := by
  have hi : vp_in (nI (e / 2)) 1024 := vp_in_nI (by omega) (by omega)
  unfold wpX_edgeLevel st_
  dsimp only
  rw [nn_half (by omega), nI_clamp (by omega), en_Vk (by omega), nI_clamp (by omega)]
  exact ⟨hi, vp_in_nI (by omega) (by omega), h⟩
theorem xw_load {post : SX → Prop} {b t : Nat} (ht : ma_n M = t + 1) (ht8 : t < 8) (hb : b < 2) (f1 : ma_f M t < 2048) (f2 : ma_g M t < 2048) (f3 : ma_h M t < 2048) (v1 : tb_V T (ma_f M t / 2) ≤ 6) (v2 : tb_V T (ma_g M t / 2) ≤ 6) (v3 : tb_V T (ma_h M t / 2) ≤ 6) (hv : ma_v M t < 7)
    (h : post (st_ n la li E hh va lv T C (mo_ M (cd_ (tb_V T) (tb_L T) (tb_H T) (ma_f M t) (ma_v M t) b) (cd_ (tb_V T) (tb_L T) (tb_H T) (ma_g M t) (ma_v M t) b) (cd_ (tb_V T) (tb_L T) (tb_H T) (ma_h M t) (ma_v M t) b)) G W S)) : wpX_loadBranch post (st_ n la li E hh va lv T C M G W S) (nI b) := by
  have hi : vp_in (nI t) 8 := vp_in_nI ht8 (by omega)
  unfold wpX_loadBranch st_
  dsimp only
  refine nm_r (e' := nI t) (by rw [ht]; exact nI_pred t) ?_
  rw [nI_clamp (by omega)]
  refine ⟨hi, nm_r (e' := nI (ma_v M t)) rfl ⟨hi, ?_⟩⟩
  refine xw_child (e := ma_f M t) (v := ma_v M t) f1 v1 hv hb ?_
  refine ⟨hi, ?_⟩
  refine xw_child (M := mo_ M (cd_ (tb_V T) (tb_L T) (tb_H T) (ma_f M t) (ma_v M t) b) (ma_G M) (ma_H M)) (e := ma_g M t) (v := ma_v M t) f2 v2 hv hb ?_
  refine ⟨hi, ?_⟩
  refine xw_child (M := mo_ M (cd_ (tb_V T) (tb_L T) (tb_H T) (ma_f M t) (ma_v M t) b) (cd_ (tb_V T) (tb_L T) (tb_H T) (ma_g M t) (ma_v M t) b) (ma_H M)) (e := ma_h M t) (v := ma_v M t) f3 v3 hv hb ?_
  exact h
theorem xw_term {φ : Nat → BF_} (S0 : Sm_ n (tb_V T) (tb_L T) (tb_H T) φ) (o1 : ok_ (tb_V T) (ma_F M / 2)) (o2 : ok_ (tb_V T) (ma_G M / 2)) (o3 : ok_ (tb_V T) (ma_H M / 2)) :
    (∃ r g h, ok_ (tb_V T) (r / 2) ∧ (∀ s, ef_ φ r s = i3_ φ (ma_F M) (ma_G M) (ma_H M) s) ∧ ∀ post : Int32 → SX → Prop, post (nI r) (st_ n la li E hh va lv T C (mo_ M (ma_F M) g h) G W S) → wpX_terminalCase post (st_ n la li E hh va lv T C M G W S)) ∨
    (∃ g h, 2 ≤ ma_F M ∧ g ≠ h ∧ ok_ (tb_V T) (g / 2) ∧ ok_ (tb_V T) (h / 2) ∧ (g / 2 = 0 ∨ g / 2 = ma_G M / 2) ∧ (h / 2 = 0 ∨ h / 2 = ma_H M / 2) ∧ (∀ s, i3_ φ (ma_F M) g h s = i3_ φ (ma_F M) (ma_G M) (ma_H M) s) ∧ ∀ post : Int32 → SX → Prop, post (-1) (st_ n la li E hh va lv T C (mo_ M (ma_F M) g h) G W S) → wpX_terminalCase post (st_ n la li E hh va lv T C M G W S)) := by
  have l1 := ef_lt o1
  have l2 := ef_lt o2
  have l3 := ef_lt o3
  have x1 := xr_lt (e := ma_F M) (b := 1) (by omega) l1
  have xs : ∀ s, ef_ φ (ma_F M ^^^ 1) s = !ef_ φ (ma_F M) s := fun s => by rw [ef_x (by omega)]; simp
  by_cases c1 : ma_F M = 1
  · left
    refine ⟨ma_G M, ma_G M, ma_H M, o2, fun s => ?_, fun post hp => ?_⟩
    · unfold i3_; rw [c1, (ef_0 S0 s).2, if_pos rfl]
    · unfold wpX_terminalCase st_
      dsimp only
      exact pk_eq (ma_F M) 1 (fun _ => hp) (fun z => absurd c1 z)
  · by_cases c0 : ma_F M = 0
    · left
      refine ⟨ma_H M, ma_G M, ma_H M, o3, fun s => ?_, fun post hp => ?_⟩
      · unfold i3_; rw [c0, (ef_0 S0 s).1, if_neg (by decide)]
      · unfold wpX_terminalCase st_
        dsimp only
        exact pk_eq (ma_F M) 1 (fun z => absurd z c1) (fun _ => pk_eq (ma_F M) 0 (fun _ => hp) (fun z => absurd c0 z))
    · have hg : ∃ g, ok_ (tb_V T) (g / 2) ∧ (g / 2 = 0 ∨ g / 2 = ma_G M / 2) ∧ (∀ s, ef_ φ (ma_F M) s = true → ef_ φ g s = ef_ φ (ma_G M) s) ∧ ∀ post : Int32 → SX → Prop, wX_terminalCase_62 post (nI n) (nI la) (nI li) (nI (tb_fh T)) (nI (tb_lo T)) (nI (tb_to T)) (nI (ma_F (mo_ M (ma_F M) g (ma_H M)))) (nI (ma_G (mo_ M (ma_F M) g (ma_H M)))) (nI (ma_H (mo_ M (ma_F M) g (ma_H M)))) (nI (ma_n (mo_ M (ma_F M) g (ma_H M)))) (nI (ga_n G)) (nI (wo_n W)) (en_E E) (en_I hh) (en_I va) (en_I lv) (en_V (tb_V T)) (en_I (tb_L T)) (en_I (tb_H T)) (en_I (tb_R T)) (en_I (tb_X T)) (en_I (tb_D T)) (en_I (tb_Q T)) (en_I (ca_F C)) (en_I (ca_G C)) (en_I (ca_H C)) (en_I (ca_R C)) (en_I (ma_f (mo_ M (ma_F M) g (ma_H M)))) (en_I (ma_g (mo_ M (ma_F M) g (ma_H M)))) (en_I (ma_h (mo_ M (ma_F M) g (ma_H M)))) (en_I (ma_v (mo_ M (ma_F M) g (ma_H M)))) (en_I (ma_p (mo_ M (ma_F M) g (ma_H M)))) (en_I (ma_l (mo_ M (ma_F M) g (ma_H M)))) (en_I (ma_b (mo_ M (ma_F M) g (ma_H M)))) (en_I (ga_r G)) (en_I (ga_s G)) (en_I (ga_i G)) (en_I (ga_w G)) (en_I (wo_w W)) (en_I (si_z S)) (en_I (si_c S)) → wpX_terminalCase post (st_ n la li E hh va lv T C M G W S) := by
        by_cases d1 : ma_G M = ma_F M
        · refine ⟨1, Or.inl rfl, Or.inl rfl, fun s hs => by rw [(ef_0 S0 s).2, d1, hs], fun post hp => ?_⟩
          unfold wpX_terminalCase st_
          dsimp only
          exact pk_eq (ma_F M) 1 (fun z => absurd z c1) (fun _ => pk_eq (ma_F M) 0 (fun z => absurd z c0) (fun _ => pk_eq (ma_G M) (ma_F M) (fun _ => hp) (fun z => absurd d1 z)))
        · by_cases d2 : ma_G M = ma_F M ^^^ 1
          · refine ⟨0, Or.inl rfl, Or.inl rfl, fun s hs => by rw [(ef_0 S0 s).1, d2, xs, hs]; rfl, fun post hp => ?_⟩
            unfold wpX_terminalCase st_
            dsimp only
            exact pk_eq (ma_F M) 1 (fun z => absurd z c1) (fun _ => pk_eq (ma_F M) 0 (fun z => absurd z c0) (fun _ => pk_eq (ma_G M) (ma_F M) (fun z => absurd z d1) (fun _ => pk_eq (ma_G M) (ma_F M ^^^ 1) (fun _ => hp) (fun z => absurd d2 z) rfl (nx_xor _ 1))))
          · refine ⟨ma_G M, o2, Or.inr rfl, fun s hs => rfl, fun post hp => ?_⟩
            unfold wpX_terminalCase st_
            dsimp only
            exact pk_eq (ma_F M) 1 (fun z => absurd z c1) (fun _ => pk_eq (ma_F M) 0 (fun z => absurd z c0) (fun _ => pk_eq (ma_G M) (ma_F M) (fun z => absurd z d1) (fun _ => pk_eq (ma_G M) (ma_F M ^^^ 1) (fun z => absurd z d2) (fun _ => hp) rfl (nx_xor _ 1))))
      obtain ⟨g, g1, g2, g3, g4⟩ := hg
      have hh' : ∃ h, ok_ (tb_V T) (h / 2) ∧ (h / 2 = 0 ∨ h / 2 = ma_H M / 2) ∧ (∀ s, ef_ φ (ma_F M) s = false → ef_ φ h s = ef_ φ (ma_H M) s) ∧ ∀ post : Int32 → SX → Prop, wX_terminalCase_99 post (nI n) (nI la) (nI li) (nI (tb_fh T)) (nI (tb_lo T)) (nI (tb_to T)) (nI (ma_F (mo_ M (ma_F M) g h))) (nI (ma_G (mo_ M (ma_F M) g h))) (nI (ma_H (mo_ M (ma_F M) g h))) (nI (ma_n (mo_ M (ma_F M) g h))) (nI (ga_n G)) (nI (wo_n W)) (en_E E) (en_I hh) (en_I va) (en_I lv) (en_V (tb_V T)) (en_I (tb_L T)) (en_I (tb_H T)) (en_I (tb_R T)) (en_I (tb_X T)) (en_I (tb_D T)) (en_I (tb_Q T)) (en_I (ca_F C)) (en_I (ca_G C)) (en_I (ca_H C)) (en_I (ca_R C)) (en_I (ma_f (mo_ M (ma_F M) g h))) (en_I (ma_g (mo_ M (ma_F M) g h))) (en_I (ma_h (mo_ M (ma_F M) g h))) (en_I (ma_v (mo_ M (ma_F M) g h))) (en_I (ma_p (mo_ M (ma_F M) g h))) (en_I (ma_l (mo_ M (ma_F M) g h))) (en_I (ma_b (mo_ M (ma_F M) g h))) (en_I (ga_r G)) (en_I (ga_s G)) (en_I (ga_i G)) (en_I (ga_w G)) (en_I (wo_w W)) (en_I (si_z S)) (en_I (si_c S)) → wpX_terminalCase post (st_ n la li E hh va lv T C M G W S) := by
        by_cases d1 : ma_H M = ma_F M
        · refine ⟨0, Or.inl rfl, Or.inl rfl, fun s hs => by rw [(ef_0 S0 s).1, d1, hs], fun post hp => g4 post ?_⟩
          unfold wX_terminalCase_62
          exact pk_eq (ma_H M) (ma_F M) (fun _ => hp) (fun z => absurd d1 z)
        · by_cases d2 : ma_H M = ma_F M ^^^ 1
          · refine ⟨1, Or.inl rfl, Or.inl rfl, fun s hs => by rw [(ef_0 S0 s).2, d2, xs, hs]; rfl, fun post hp => g4 post ?_⟩
            unfold wX_terminalCase_62
            exact pk_eq (ma_H M) (ma_F M) (fun z => absurd z d1) (fun _ => pk_eq (ma_H M) (ma_F M ^^^ 1) (fun _ => hp) (fun z => absurd d2 z) rfl (nx_xor _ 1))
          · refine ⟨ma_H M, o3, Or.inr rfl, fun s hs => rfl, fun post hp => g4 post ?_⟩
            unfold wX_terminalCase_62
            exact pk_eq (ma_H M) (ma_F M) (fun z => absurd z d1) (fun _ => pk_eq (ma_H M) (ma_F M ^^^ 1) (fun z => absurd z d2) (fun _ => hp) rfl (nx_xor _ 1))
      obtain ⟨h, h1, h2, h3, h4⟩ := hh'
      have lg := ef_lt g1
      have lh := ef_lt h1
      have hi3 : ∀ s, i3_ φ (ma_F M) g h s = i3_ φ (ma_F M) (ma_G M) (ma_H M) s := fun s => by
        unfold i3_
        by_cases z : ef_ φ (ma_F M) s = true
        · rw [if_pos z, if_pos z, g3 s z]
        · rw [if_neg z, if_neg z, h3 s (by simpa using z)]
      by_cases c : g = h
      · left
        refine ⟨g, g, h, g1, fun s => ?_, fun post hp => h4 post ?_⟩
        · rw [← hi3 s]; unfold i3_; rw [← c, ite_self]
        · unfold wX_terminalCase_99
          exact pk_eq g h (fun _ => hp) (fun z => absurd c z)
      · by_cases e1 : g = 1 ∧ h = 0
        · left
          refine ⟨ma_F M, g, h, o1, fun s => ?_, fun post hp => h4 post ?_⟩
          · rw [← hi3 s]; unfold i3_; rw [e1.1, e1.2, (ef_0 S0 s).1, (ef_0 S0 s).2]
            cases ef_ φ (ma_F M) s <;> rfl
          · unfold wX_terminalCase_99
            exact pk_eq g h (fun z => absurd z c) (fun _ => pk_eq g 1 (fun _ => pk_eq h 0 (fun _ => hp) (fun z => absurd e1.2 z)) (fun z => absurd e1.1 z))
        · have s135 : ∀ post : Int32 → SX → Prop, wX_terminalCase_135 post (nI n) (nI la) (nI li) (nI (tb_fh T)) (nI (tb_lo T)) (nI (tb_to T)) (nI (ma_F (mo_ M (ma_F M) g h))) (nI (ma_G (mo_ M (ma_F M) g h))) (nI (ma_H (mo_ M (ma_F M) g h))) (nI (ma_n (mo_ M (ma_F M) g h))) (nI (ga_n G)) (nI (wo_n W)) (en_E E) (en_I hh) (en_I va) (en_I lv) (en_V (tb_V T)) (en_I (tb_L T)) (en_I (tb_H T)) (en_I (tb_R T)) (en_I (tb_X T)) (en_I (tb_D T)) (en_I (tb_Q T)) (en_I (ca_F C)) (en_I (ca_G C)) (en_I (ca_H C)) (en_I (ca_R C)) (en_I (ma_f (mo_ M (ma_F M) g h))) (en_I (ma_g (mo_ M (ma_F M) g h))) (en_I (ma_h (mo_ M (ma_F M) g h))) (en_I (ma_v (mo_ M (ma_F M) g h))) (en_I (ma_p (mo_ M (ma_F M) g h))) (en_I (ma_l (mo_ M (ma_F M) g h))) (en_I (ma_b (mo_ M (ma_F M) g h))) (en_I (ga_r G)) (en_I (ga_s G)) (en_I (ga_i G)) (en_I (ga_w G)) (en_I (wo_w W)) (en_I (si_z S)) (en_I (si_c S)) → wX_terminalCase_99 post (nI n) (nI la) (nI li) (nI (tb_fh T)) (nI (tb_lo T)) (nI (tb_to T)) (nI (ma_F (mo_ M (ma_F M) g h))) (nI (ma_G (mo_ M (ma_F M) g h))) (nI (ma_H (mo_ M (ma_F M) g h))) (nI (ma_n (mo_ M (ma_F M) g h))) (nI (ga_n G)) (nI (wo_n W)) (en_E E) (en_I hh) (en_I va) (en_I lv) (en_V (tb_V T)) (en_I (tb_L T)) (en_I (tb_H T)) (en_I (tb_R T)) (en_I (tb_X T)) (en_I (tb_D T)) (en_I (tb_Q T)) (en_I (ca_F C)) (en_I (ca_G C)) (en_I (ca_H C)) (en_I (ca_R C)) (en_I (ma_f (mo_ M (ma_F M) g h))) (en_I (ma_g (mo_ M (ma_F M) g h))) (en_I (ma_h (mo_ M (ma_F M) g h))) (en_I (ma_v (mo_ M (ma_F M) g h))) (en_I (ma_p (mo_ M (ma_F M) g h))) (en_I (ma_l (mo_ M (ma_F M) g h))) (en_I (ma_b (mo_ M (ma_F M) g h))) (en_I (ga_r G)) (en_I (ga_s G)) (en_I (ga_i G)) (en_I (ga_w G)) (en_I (wo_w W)) (en_I (si_z S)) (en_I (si_c S)) := fun post hp => by
            unfold wX_terminalCase_99
            exact pk_eq g h (fun z => absurd z c) (fun _ => pk_eq g 1 (fun y => pk_eq h 0 (fun z => absurd ⟨y, z⟩ e1) (fun _ => hp)) (fun _ => hp))
          by_cases e2 : g = 0 ∧ h = 1
          · left
            refine ⟨ma_F M ^^^ 1, g, h, ?_, fun s => ?_, fun post hp => h4 post (s135 post ?_)⟩
            · rw [xr_d (by omega)]; exact o1
            · rw [← hi3 s]; unfold i3_; rw [e2.1, e2.2, (ef_0 S0 s).1, (ef_0 S0 s).2, xs]
              cases ef_ φ (ma_F M) s <;> rfl
            · unfold wX_terminalCase_135
              refine pk_eq g 0 (fun _ => pk_eq h 1 (fun _ => ?_) (fun z => absurd e2.2 z)) (fun z => absurd e2.1 z)
              rw [show nI (ma_F (mo_ M (ma_F M) g h)) ^^^ 1 = nI (ma_F M ^^^ 1) from nx_xor _ 1]
              exact hp
          · right
            refine ⟨g, h, by omega, c, g1, h1, g2, h2, hi3, fun post hp => h4 post (s135 post ?_)⟩
            unfold wX_terminalCase_135
            exact pk_eq g 0 (fun y => pk_eq h 1 (fun z => absurd ⟨y, z⟩ e2) (fun _ => hp)) (fun _ => hp)
end
end
section
/-! normalise, enter, leave -/
section
variable {n la li : Nat} {E hh va lv : Nat → Nat} {T : TN_} {C : CN_} {M : MN_} {G : GN_} {W : WN_} {S : SN_}
theorem xw_norm37 {φ : Nat → BF_} (hF : 2 ≤ ma_F M) (hFe : ma_F M % 2 = 0) (hgh : ma_G M ≠ ma_H M) (o1 : ok_ (tb_V T) (ma_F M / 2)) (o2 : ok_ (tb_V T) (ma_G M / 2)) (o3 : ok_ (tb_V T) (ma_H M / 2)) (S0 : Sm_ n (tb_V T) (tb_L T) (tb_H T) φ) :
    ∃ f g h p, p < 2 ∧ 2 ≤ f ∧ ok_ (tb_V T) (f / 2) ∧ ok_ (tb_V T) (g / 2) ∧ ok_ (tb_V T) (h / 2) ∧ (∀ s, i3_ φ (ma_F M) (ma_G M) (ma_H M) s = (i3_ φ f g h s ^^ decide (p = 1))) ∧ (∀ Q : Nat → Prop, Q (ma_F M / 2) → Q (ma_G M / 2) → Q (ma_H M / 2) → Q (f / 2) ∧ Q (g / 2) ∧ Q (h / 2)) ∧ ∀ post : Int32 → SX → Prop, post (nI p) (st_ n la li E hh va lv T C (mo_ M f g h) G W S) → wX_normalise_37 post (nI n) (nI la) (nI li) (nI (tb_fh T)) (nI (tb_lo T)) (nI (tb_to T)) (nI (ma_F M)) (nI (ma_G M)) (nI (ma_H M)) (nI (ma_n M)) (nI (ga_n G)) (nI (wo_n W)) (en_E E) (en_I hh) (en_I va) (en_I lv) (en_V (tb_V T)) (en_I (tb_L T)) (en_I (tb_H T)) (en_I (tb_R T)) (en_I (tb_X T)) (en_I (tb_D T)) (en_I (tb_Q T)) (en_I (ca_F C)) (en_I (ca_G C)) (en_I (ca_H C)) (en_I (ca_R C)) (en_I (ma_f M)) (en_I (ma_g M)) (en_I (ma_h M)) (en_I (ma_v M)) (en_I (ma_p M)) (en_I (ma_l M)) (en_I (ma_b M)) (en_I (ga_r G)) (en_I (ga_s G)) (en_I (ga_i G)) (en_I (ga_w G)) (en_I (wo_w W)) (en_I (si_z S)) (en_I (si_c S)) := by
  have l1 := ef_lt o1
  have l2 := ef_lt o2
  have l3 := ef_lt o3
  have hp : ma_G M % 2 < 2 := Nat.mod_lt _ (by omega)
  have dg := xr_d (e := ma_G M) hp
  have dh := xr_d (e := ma_H M) hp
  have mg := xr_m (e := ma_G M) (b := ma_G M % 2)
  have mh := xr_m (e := ma_H M) (b := ma_G M % 2)
  have lg := xr_lt hp l2
  have lh := xr_lt hp l3
  have sg : ∀ s, ef_ φ (ma_G M) s = (ef_ φ (ma_G M ^^^ (ma_G M % 2)) s ^^ decide (ma_G M % 2 = 1)) := fun s => by rw [ef_x hp, Bool.xor_assoc, Bool.xor_self, Bool.xor_false]
  have sh : ∀ s, ef_ φ (ma_H M) s = (ef_ φ (ma_H M ^^^ (ma_G M % 2)) s ^^ decide (ma_G M % 2 = 1)) := fun s => by rw [ef_x hp, Bool.xor_assoc, Bool.xor_self, Bool.xor_false]
  have sem : ∀ s, i3_ φ (ma_F M) (ma_G M) (ma_H M) s = (i3_ φ (ma_F M) (ma_G M ^^^ (ma_G M % 2)) (ma_H M ^^^ (ma_G M % 2)) s ^^ decide (ma_G M % 2 = 1)) := fun s => by
    unfold i3_
    by_cases z : ef_ φ (ma_F M) s = true
    · rw [if_pos z, if_pos z, ← sg s]
    · rw [if_neg z, if_neg z, ← sh s]
  have eg : nI (ma_G M) ^^^ nI (ma_G M % 2) = nI (ma_G M ^^^ (ma_G M % 2)) := nx_xor _ _
  have eh : nI (ma_H M) ^^^ nI (ma_G M % 2) = nI (ma_H M ^^^ (ma_G M % 2)) := nx_xor _ _
  generalize hg' : ma_G M ^^^ (ma_G M % 2) = g at *
  generalize hh' : ma_H M ^^^ (ma_G M % 2) = h at *
  have gne : g ≠ h := fun e => by
    apply hgh
    rw [e] at dg mg
    omega
  by_cases c : h = 0 ∧ g < ma_F M
  · refine ⟨g, ma_F M, h, ma_G M % 2, hp, by omega, by rw [dg]; exact o2, o1, by rw [dh]; exact o3, fun s => ?_, fun Q q1 q2 q3 => ⟨by rw [dg]; exact q2, q1, by rw [dh]; exact q3⟩, fun post hp' => ?_⟩
    · rw [sem s]
      congr 1
      unfold i3_
      rw [c.1, (ef_0 S0 s).1]
      cases ef_ φ (ma_F M) s <;> cases ef_ φ g s <;> rfl
    · unfold wX_normalise_37
      exact nm_r (nn_low (by omega)) (nm_r eg (nm_r eh (pk_eq h 0 (fun _ => pk_le (ma_F M) g (fun z => by omega) (fun _ => hp')) (fun z => absurd c.1 z))))
  · refine ⟨ma_F M, g, h, ma_G M % 2, hp, hF, o1, by rw [dg]; exact o2, by rw [dh]; exact o3, sem, fun Q q1 q2 q3 => ⟨q1, by rw [dg]; exact q2, by rw [dh]; exact q3⟩, fun post hp' => ?_⟩
    unfold wX_normalise_37
    exact nm_r (nn_low (by omega)) (nm_r eg (nm_r eh (pk_eq h 0 (fun y => pk_le (ma_F M) g (fun _ => hp') (fun z => absurd ⟨y, z⟩ c)) (fun _ => hp'))))
theorem xw_norm {φ : Nat → BF_} (hF : 2 ≤ ma_F M) (hgh : ma_G M ≠ ma_H M) (o1 : ok_ (tb_V T) (ma_F M / 2)) (o2 : ok_ (tb_V T) (ma_G M / 2)) (o3 : ok_ (tb_V T) (ma_H M / 2)) (S0 : Sm_ n (tb_V T) (tb_L T) (tb_H T) φ) :
    ∃ f g h p, p < 2 ∧ 2 ≤ f ∧ ok_ (tb_V T) (f / 2) ∧ ok_ (tb_V T) (g / 2) ∧ ok_ (tb_V T) (h / 2) ∧ (∀ s, i3_ φ (ma_F M) (ma_G M) (ma_H M) s = (i3_ φ f g h s ^^ decide (p = 1))) ∧ (∀ Q : Nat → Prop, Q (ma_F M / 2) → Q (ma_G M / 2) → Q (ma_H M / 2) → Q (f / 2) ∧ Q (g / 2) ∧ Q (h / 2)) ∧ ∀ post : Int32 → SX → Prop, post (nI p) (st_ n la li E hh va lv T C (mo_ M f g h) G W S) → wpX_normalise post (st_ n la li E hh va lv T C M G W S) := by
  have l1 := ef_lt o1
  by_cases c : ma_F M % 2 = 0
  · obtain ⟨f, g, h, p, a1, a2, a3, a4, a5, a6, a7, a8⟩ := xw_norm37 (la := la) (li := li) (E := E) (hh := hh) (va := va) (lv := lv) (C := C) (G := G) (W := W) (S := S) hF c hgh o1 o2 o3 S0
    refine ⟨f, g, h, p, a1, a2, a3, a4, a5, a6, a7, fun post hp => ?_⟩
    unfold wpX_normalise st_
    dsimp only
    exact pk_eq (ma_F M % 2) 0 (fun _ => a8 post hp) (fun z => absurd c z) (nn_low (by omega))
  · have d := xr_d (e := ma_F M) (b := 1) (by omega)
    have m := xr_m (e := ma_F M) (b := 1)
    obtain ⟨f, g, h, p, a1, a2, a3, a4, a5, a6, a7, a8⟩ := xw_norm37 (M := mo_ M (ma_F M ^^^ 1) (ma_H M) (ma_G M)) (la := la) (li := li) (E := E) (hh := hh) (va := va) (lv := lv) (C := C) (G := G) (W := W) (S := S) (φ := φ) (by show 2 ≤ ma_F M ^^^ 1; omega) (by show (ma_F M ^^^ 1) % 2 = 0; omega) (fun z => hgh z.symm) (by show ok_ _ ((ma_F M ^^^ 1) / 2); rw [d]; exact o1) o3 o2 S0
    refine ⟨f, g, h, p, a1, a2, a3, a4, a5, fun s => ?_, fun Q q1 q2 q3 => a7 Q (by show Q ((ma_F M ^^^ 1) / 2); rw [d]; exact q1) q3 q2, fun post hp => ?_⟩
    · rw [← a6 s]
      show i3_ φ (ma_F M) (ma_G M) (ma_H M) s = i3_ φ (ma_F M ^^^ 1) (ma_H M) (ma_G M) s
      unfold i3_
      rw [ef_x (by omega)]
      cases ef_ φ (ma_F M) s <;> rfl
    · unfold wpX_normalise st_
      dsimp only
      exact pk_eq (ma_F M % 2) 0 (fun z => absurd z c) (fun _ => nm_r (e' := nI (ma_F M ^^^ 1)) (nx_xor _ 1) (a8 post hp)) (nn_low (by omega))
/-- the machine with a frame opened at fr -/
def mf_ (M : MN_) (cf cg ch f g h v p : Nat) : MN_ := (cf, cg, ch, ma_n M + 1, fu_u (ma_f M) (ma_n M) f, fu_u (ma_g M) (ma_n M) g, fu_u (ma_h M) (ma_n M) h, fu_u (ma_v M) (ma_n M) v, fu_u (ma_p M) (ma_n M) p, ma_l M, fu_u (ma_b M) (ma_n M) 0)
theorem xw_enter144 {post : Int32 → SX → Prop} {p t : Nat} (hfr : ma_n M < 8) (ht : t < 7) (hvt : va t < 7) (l1 : ma_F M < 2048) (l2 : ma_G M < 2048) (l3 : ma_H M < 2048) (v1 : tb_V T (ma_F M / 2) ≤ 6) (v2 : tb_V T (ma_G M / 2) ≤ 6) (v3 : tb_V T (ma_H M / 2) ≤ 6)
    (h : post (-1) (st_ n la li E hh va lv T C (mf_ M (cd_ (tb_V T) (tb_L T) (tb_H T) (ma_F M) (va t) 0) (cd_ (tb_V T) (tb_L T) (tb_H T) (ma_G M) (va t) 0) (cd_ (tb_V T) (tb_L T) (tb_H T) (ma_H M) (va t) 0) (ma_F M) (ma_G M) (ma_H M) (va t) p) G W S)) : wX_enter_144 post (nI p) (nI t) (nI n) (nI la) (nI li) (nI (tb_fh T)) (nI (tb_lo T)) (nI (tb_to T)) (nI (ma_F M)) (nI (ma_G M)) (nI (ma_H M)) (nI (ma_n M)) (nI (ga_n G)) (nI (wo_n W)) (en_E E) (en_I hh) (en_I va) (en_I lv) (en_V (tb_V T)) (en_I (tb_L T)) (en_I (tb_H T)) (en_I (tb_R T)) (en_I (tb_X T)) (en_I (tb_D T)) (en_I (tb_Q T)) (en_I (ca_F C)) (en_I (ca_G C)) (en_I (ca_H C)) (en_I (ca_R C)) (en_I (ma_f M)) (en_I (ma_g M)) (en_I (ma_h M)) (en_I (ma_v M)) (en_I (ma_p M)) (en_I (ma_l M)) (en_I (ma_b M)) (en_I (ga_r G)) (en_I (ga_s G)) (en_I (ga_i G)) (en_I (ga_w G)) (en_I (wo_w W)) (en_I (si_z S)) (en_I (si_c S)) := by
  have hi : vp_in (nI (ma_n M)) 8 := vp_in_nI hfr (by omega)
  unfold wX_enter_144
  rw [nI_clamp (n := ma_n M) (by omega), nI_clamp (n := t) (by omega)]
  refine ⟨hi, nm_r en_uI ⟨hi, nm_r en_uI ⟨hi, nm_r en_uI ⟨vp_in_nI ht (by omega), hi, nm_r (en_uI (x := va t)) ⟨hi, nm_r en_uI ⟨hi, nm_r (en_uI (x := 0)) (nm_r (nI_1 _) ?_)⟩⟩⟩⟩⟩⟩
  refine xw_load (M := mf_ M (ma_F M) (ma_G M) (ma_H M) (ma_F M) (ma_G M) (ma_H M) (va t) p) (t := ma_n M) (b := 0) rfl hfr (by omega) ?_ ?_ ?_ ?_ ?_ ?_ ?_ ?_
  · show fu_u _ _ _ _ < 2048; rw [fu_s]; exact l1
  · show fu_u _ _ _ _ < 2048; rw [fu_s]; exact l2
  · show fu_u _ _ _ _ < 2048; rw [fu_s]; exact l3
  · show tb_V T (fu_u _ _ _ _ / 2) ≤ 6; rw [fu_s]; exact v1
  · show tb_V T (fu_u _ _ _ _ / 2) ≤ 6; rw [fu_s]; exact v2
  · show tb_V T (fu_u _ _ _ _ / 2) ≤ 6; rw [fu_s]; exact v3
  · show fu_u _ _ _ _ < 7; rw [fu_s]; exact hvt
  · show post (-1) (st_ _ _ _ _ _ _ _ T C (mo_ (mf_ M (ma_F M) (ma_G M) (ma_H M) (ma_F M) (ma_G M) (ma_H M) (va t) p) (cd_ (tb_V T) (tb_L T) (tb_H T) (fu_u (ma_f M) (ma_n M) (ma_F M) (ma_n M)) (fu_u (ma_v M) (ma_n M) (va t) (ma_n M)) 0) (cd_ (tb_V T) (tb_L T) (tb_H T) (fu_u (ma_g M) (ma_n M) (ma_G M) (ma_n M)) (fu_u (ma_v M) (ma_n M) (va t) (ma_n M)) 0) (cd_ (tb_V T) (tb_L T) (tb_H T) (fu_u (ma_h M) (ma_n M) (ma_H M) (ma_n M)) (fu_u (ma_v M) (ma_n M) (va t) (ma_n M)) 0)) G W S)
    rw [fu_s, fu_s, fu_s, fu_s]
    exact h
theorem xw_enter {φ : Nat → BF_} (P : Pm_ n va lv) (S0 : Sm_ n (tb_V T) (tb_L T) (tb_H T) φ) (K : Ca_ (tb_V T) φ C) (o1 : ok_ (tb_V T) (ma_F M / 2)) (o2 : ok_ (tb_V T) (ma_G M / 2)) (o3 : ok_ (tb_V T) (ma_H M / 2)) (hfr : ma_n M < 8 ∨ ma_F M < 2) :
    (∃ r f g h, ok_ (tb_V T) (r / 2) ∧ (∀ s, ef_ φ r s = i3_ φ (ma_F M) (ma_G M) (ma_H M) s) ∧ ∀ post : Int32 → SX → Prop, post (nI r) (st_ n la li E hh va lv T C (mo_ M f g h) G W S) → wpX_enter post (st_ n la li E hh va lv T C M G W S)) ∨
    (∃ f g h p t, p < 2 ∧ 2 ≤ f ∧ t < n ∧ ok_ (tb_V T) (f / 2) ∧ ok_ (tb_V T) (g / 2) ∧ ok_ (tb_V T) (h / 2) ∧ t ≤ lv (tb_V T (f / 2)) ∧ t ≤ lv (tb_V T (g / 2)) ∧ t ≤ lv (tb_V T (h / 2)) ∧ (∀ d, d ≤ 6 → d ≤ lv (tb_V T (ma_F M / 2)) → d ≤ lv (tb_V T (ma_G M / 2)) → d ≤ lv (tb_V T (ma_H M / 2)) → d ≤ t) ∧ (∀ s, i3_ φ (ma_F M) (ma_G M) (ma_H M) s = (i3_ φ f g h s ^^ decide (p = 1))) ∧
      ∀ post : Int32 → SX → Prop, post (-1) (st_ n la li E hh va lv T C (mf_ M (cd_ (tb_V T) (tb_L T) (tb_H T) f (va t) 0) (cd_ (tb_V T) (tb_L T) (tb_H T) g (va t) 0) (cd_ (tb_V T) (tb_L T) (tb_H T) h (va t) 0) f g h (va t) p) G W S) → wpX_enter post (st_ n la li E hh va lv T C M G W S)) := by
  have hn6 := P.1.2.1
  have h06 : tb_V T 0 = 6 := S0.1.2.1
  rcases xw_term (la := la) (li := li) (E := E) (hh := hh) (va := va) (lv := lv) (C := C) (G := G) (W := W) (S := S) S0 o1 o2 o3 with ⟨r, g, h, a1, a2, a3⟩ | ⟨g, h, b1, b2, b3, b4, b5, b6, b7, b8⟩
  · left
    refine ⟨r, ma_F M, g, h, a1, a2, fun post hp => ?_⟩
    have := ef_lt a1
    unfold wpX_enter st_
    dsimp only
    refine a3 _ ?_
    dsimp only [st_]
    exact br_f (nI_pos (by omega)) hp
  · have hfr' : ma_n M < 8 := by omega
    obtain ⟨f, g', h', p, c1, c2, c3, c4, c5, c6, c7, c8⟩ := xw_norm (M := mo_ M (ma_F M) g h) (la := la) (li := li) (E := E) (hh := hh) (va := va) (lv := lv) (C := C) (G := G) (W := W) (S := S) (φ := φ) b1 b2 o1 b3 b4 S0
    have sem : ∀ s, i3_ φ (ma_F M) (ma_G M) (ma_H M) s = (i3_ φ f g' h' s ^^ decide (p = 1)) := fun s => by rw [← b7 s]; exact c6 s
    have lf := ef_lt c3
    have lg := ef_lt c4
    have lh := ef_lt c5
    have hsl := (sl_w f g' h').1
    have vsl : vp_in (nI (sl_ f g' h')) 256 := vp_in_nI hsl (by omega)
    have step : ∀ post : Int32 → SX → Prop, (vp_in (nI (sl_ f g' h')) 256 ∧ ((en_I (ca_F C) (sl_ f g' h') = nI f → (vp_in (nI (sl_ f g' h')) 256 ∧ ((en_I (ca_G C) (sl_ f g' h') = nI g' → (vp_in (nI (sl_ f g' h')) 256 ∧ ((en_I (ca_H C) (sl_ f g' h') = nI h' → (vp_in (nI (sl_ f g' h')) 256 ∧ post (en_I (ca_R C) (sl_ f g' h') ^^^ nI p) (st_ n la li E hh va lv T C (mo_ M f g' h') G W S))) ∧ (¬ en_I (ca_H C) (sl_ f g' h') = nI h' → wX_enter_81 post (nI p) (nI n) (nI la) (nI li) (nI (tb_fh T)) (nI (tb_lo T)) (nI (tb_to T)) (nI (ma_F (mo_ M f g' h'))) (nI (ma_G (mo_ M f g' h'))) (nI (ma_H (mo_ M f g' h'))) (nI (ma_n (mo_ M f g' h'))) (nI (ga_n G)) (nI (wo_n W)) (en_E E) (en_I hh) (en_I va) (en_I lv) (en_V (tb_V T)) (en_I (tb_L T)) (en_I (tb_H T)) (en_I (tb_R T)) (en_I (tb_X T)) (en_I (tb_D T)) (en_I (tb_Q T)) (en_I (ca_F C)) (en_I (ca_G C)) (en_I (ca_H C)) (en_I (ca_R C)) (en_I (ma_f (mo_ M f g' h'))) (en_I (ma_g (mo_ M f g' h'))) (en_I (ma_h (mo_ M f g' h'))) (en_I (ma_v (mo_ M f g' h'))) (en_I (ma_p (mo_ M f g' h'))) (en_I (ma_l (mo_ M f g' h'))) (en_I (ma_b (mo_ M f g' h'))) (en_I (ga_r G)) (en_I (ga_s G)) (en_I (ga_i G)) (en_I (ga_w G)) (en_I (wo_w W)) (en_I (si_z S)) (en_I (si_c S)))))) ∧ (¬ en_I (ca_G C) (sl_ f g' h') = nI g' → wX_enter_81 post (nI p) (nI n) (nI la) (nI li) (nI (tb_fh T)) (nI (tb_lo T)) (nI (tb_to T)) (nI (ma_F (mo_ M f g' h'))) (nI (ma_G (mo_ M f g' h'))) (nI (ma_H (mo_ M f g' h'))) (nI (ma_n (mo_ M f g' h'))) (nI (ga_n G)) (nI (wo_n W)) (en_E E) (en_I hh) (en_I va) (en_I lv) (en_V (tb_V T)) (en_I (tb_L T)) (en_I (tb_H T)) (en_I (tb_R T)) (en_I (tb_X T)) (en_I (tb_D T)) (en_I (tb_Q T)) (en_I (ca_F C)) (en_I (ca_G C)) (en_I (ca_H C)) (en_I (ca_R C)) (en_I (ma_f (mo_ M f g' h'))) (en_I (ma_g (mo_ M f g' h'))) (en_I (ma_h (mo_ M f g' h'))) (en_I (ma_v (mo_ M f g' h'))) (en_I (ma_p (mo_ M f g' h'))) (en_I (ma_l (mo_ M f g' h'))) (en_I (ma_b (mo_ M f g' h'))) (en_I (ga_r G)) (en_I (ga_s G)) (en_I (ga_i G)) (en_I (ga_w G)) (en_I (wo_w W)) (en_I (si_z S)) (en_I (si_c S)))))) ∧ (¬ en_I (ca_F C) (sl_ f g' h') = nI f → wX_enter_81 post (nI p) (nI n) (nI la) (nI li) (nI (tb_fh T)) (nI (tb_lo T)) (nI (tb_to T)) (nI (ma_F (mo_ M f g' h'))) (nI (ma_G (mo_ M f g' h'))) (nI (ma_H (mo_ M f g' h'))) (nI (ma_n (mo_ M f g' h'))) (nI (ga_n G)) (nI (wo_n W)) (en_E E) (en_I hh) (en_I va) (en_I lv) (en_V (tb_V T)) (en_I (tb_L T)) (en_I (tb_H T)) (en_I (tb_R T)) (en_I (tb_X T)) (en_I (tb_D T)) (en_I (tb_Q T)) (en_I (ca_F C)) (en_I (ca_G C)) (en_I (ca_H C)) (en_I (ca_R C)) (en_I (ma_f (mo_ M f g' h'))) (en_I (ma_g (mo_ M f g' h'))) (en_I (ma_h (mo_ M f g' h'))) (en_I (ma_v (mo_ M f g' h'))) (en_I (ma_p (mo_ M f g' h'))) (en_I (ma_l (mo_ M f g' h'))) (en_I (ma_b (mo_ M f g' h'))) (en_I (ga_r G)) (en_I (ga_s G)) (en_I (ga_i G)) (en_I (ga_w G)) (en_I (wo_w W)) (en_I (si_z S)) (en_I (si_c S))))) → wpX_enter post (st_ n la li E hh va lv T C M G W S) := fun post hp => by
      unfold wpX_enter st_
      dsimp only
      refine b8 _ ?_
      dsimp only [st_]
      refine br_t (by decide) ?_
      refine c8 _ ?_
      dsimp only [st_]
      refine xw_slot (f := f) (g := g') (h := h') ?_
      rw [nI_clamp (n := sl_ f g' h') (by omega)]
      exact hp
    by_cases hit : ca_F C (sl_ f g' h') = f ∧ ca_G C (sl_ f g' h') = g' ∧ ca_H C (sl_ f g' h') = h'
    · left
      obtain ⟨i1, i2, i3⟩ := hit
      obtain ⟨⟨k1, k2, k3, k4⟩, k5⟩ := K _ hsl (by omega)
      rw [i1, i2, i3] at k5
      refine ⟨ca_R C (sl_ f g' h') ^^^ p, f, g', h', ?_, fun s => ?_, fun post hp => step post ?_⟩
      · rw [xr_d c1]; exact k4
      · rw [ef_x c1, k5 s, sem s]; rfl
      · refine ⟨vsl, br_t (by show nI _ = _; rw [i1]) ⟨vsl, br_t (by show nI _ = _; rw [i2]) ⟨vsl, br_t (by show nI _ = _; rw [i3]) ⟨vsl, ?_⟩⟩⟩⟩
        rw [show en_I (ca_R C) (sl_ f g' h') ^^^ nI p = nI (ca_R C (sl_ f g' h') ^^^ p) from nx_xor _ _]
        exact hp
    · right
      have v1 := S0.v6 c3
      have v2 := S0.v6 c4
      have v3 := S0.v6 c5
      have w1 := P.1.2.2.2 _ v1
      have w2 := P.1.2.2.2 _ v2
      have w3 := P.1.2.2.2 _ v3
      have ff : lv (tb_V T (f / 2)) < n := by
        rcases c3 with z | z
        · omega
        · exact (P.2.2 _ (S0.2.1 _ z).1).1
      obtain ⟨t, t1, t2, t3, t4, t5⟩ : ∃ t, t ≤ lv (tb_V T (f / 2)) ∧ t ≤ lv (tb_V T (g' / 2)) ∧ t ≤ lv (tb_V T (h' / 2)) ∧ (∀ d, d ≤ lv (tb_V T (f / 2)) → d ≤ lv (tb_V T (g' / 2)) → d ≤ lv (tb_V T (h' / 2)) → d ≤ t) ∧ ∀ post : Int32 → SX → Prop, wX_enter_144 post (nI p) (nI t) (nI n) (nI la) (nI li) (nI (tb_fh T)) (nI (tb_lo T)) (nI (tb_to T)) (nI (ma_F (mo_ M f g' h'))) (nI (ma_G (mo_ M f g' h'))) (nI (ma_H (mo_ M f g' h'))) (nI (ma_n (mo_ M f g' h'))) (nI (ga_n G)) (nI (wo_n W)) (en_E E) (en_I hh) (en_I va) (en_I lv) (en_V (tb_V T)) (en_I (tb_L T)) (en_I (tb_H T)) (en_I (tb_R T)) (en_I (tb_X T)) (en_I (tb_D T)) (en_I (tb_Q T)) (en_I (ca_F C)) (en_I (ca_G C)) (en_I (ca_H C)) (en_I (ca_R C)) (en_I (ma_f (mo_ M f g' h'))) (en_I (ma_g (mo_ M f g' h'))) (en_I (ma_h (mo_ M f g' h'))) (en_I (ma_v (mo_ M f g' h'))) (en_I (ma_p (mo_ M f g' h'))) (en_I (ma_l (mo_ M f g' h'))) (en_I (ma_b (mo_ M f g' h'))) (en_I (ga_r G)) (en_I (ga_s G)) (en_I (ga_i G)) (en_I (ga_w G)) (en_I (wo_w W)) (en_I (si_z S)) (en_I (si_c S)) → wX_enter_81 post (nI p) (nI n) (nI la) (nI li) (nI (tb_fh T)) (nI (tb_lo T)) (nI (tb_to T)) (nI (ma_F (mo_ M f g' h'))) (nI (ma_G (mo_ M f g' h'))) (nI (ma_H (mo_ M f g' h'))) (nI (ma_n (mo_ M f g' h'))) (nI (ga_n G)) (nI (wo_n W)) (en_E E) (en_I hh) (en_I va) (en_I lv) (en_V (tb_V T)) (en_I (tb_L T)) (en_I (tb_H T)) (en_I (tb_R T)) (en_I (tb_X T)) (en_I (tb_D T)) (en_I (tb_Q T)) (en_I (ca_F C)) (en_I (ca_G C)) (en_I (ca_H C)) (en_I (ca_R C)) (en_I (ma_f (mo_ M f g' h'))) (en_I (ma_g (mo_ M f g' h'))) (en_I (ma_h (mo_ M f g' h'))) (en_I (ma_v (mo_ M f g' h'))) (en_I (ma_p (mo_ M f g' h'))) (en_I (ma_l (mo_ M f g' h'))) (en_I (ma_b (mo_ M f g' h'))) (en_I (ga_r G)) (en_I (ga_s G)) (en_I (ga_i G)) (en_I (ga_w G)) (en_I (wo_w W)) (en_I (si_z S)) (en_I (si_c S)) := by
        have go : ∀ (post : Int32 → SX → Prop), (((nI (lv (tb_V T (f / 2))) ≤ nI (lv (tb_V T (g' / 2))) → (wX_enter_133 post (nI p) (nI (lv (tb_V T (f / 2)))) (nI (lv (tb_V T (h' / 2)))) (nI n) (nI la) (nI li) (nI (tb_fh T)) (nI (tb_lo T)) (nI (tb_to T)) (nI (ma_F (mo_ M f g' h'))) (nI (ma_G (mo_ M f g' h'))) (nI (ma_H (mo_ M f g' h'))) (nI (ma_n (mo_ M f g' h'))) (nI (ga_n G)) (nI (wo_n W)) (en_E E) (en_I hh) (en_I va) (en_I lv) (en_V (tb_V T)) (en_I (tb_L T)) (en_I (tb_H T)) (en_I (tb_R T)) (en_I (tb_X T)) (en_I (tb_D T)) (en_I (tb_Q T)) (en_I (ca_F C)) (en_I (ca_G C)) (en_I (ca_H C)) (en_I (ca_R C)) (en_I (ma_f (mo_ M f g' h'))) (en_I (ma_g (mo_ M f g' h'))) (en_I (ma_h (mo_ M f g' h'))) (en_I (ma_v (mo_ M f g' h'))) (en_I (ma_p (mo_ M f g' h'))) (en_I (ma_l (mo_ M f g' h'))) (en_I (ma_b (mo_ M f g' h'))) (en_I (ga_r G)) (en_I (ga_s G)) (en_I (ga_i G)) (en_I (ga_w G)) (en_I (wo_w W)) (en_I (si_z S)) (en_I (si_c S)))) ∧ (¬ nI (lv (tb_V T (f / 2))) ≤ nI (lv (tb_V T (g' / 2))) → (wX_enter_133 post (nI p) (nI (lv (tb_V T (g' / 2)))) (nI (lv (tb_V T (h' / 2)))) (nI n) (nI la) (nI li) (nI (tb_fh T)) (nI (tb_lo T)) (nI (tb_to T)) (nI (ma_F (mo_ M f g' h'))) (nI (ma_G (mo_ M f g' h'))) (nI (ma_H (mo_ M f g' h'))) (nI (ma_n (mo_ M f g' h'))) (nI (ga_n G)) (nI (wo_n W)) (en_E E) (en_I hh) (en_I va) (en_I lv) (en_V (tb_V T)) (en_I (tb_L T)) (en_I (tb_H T)) (en_I (tb_R T)) (en_I (tb_X T)) (en_I (tb_D T)) (en_I (tb_Q T)) (en_I (ca_F C)) (en_I (ca_G C)) (en_I (ca_H C)) (en_I (ca_R C)) (en_I (ma_f (mo_ M f g' h'))) (en_I (ma_g (mo_ M f g' h'))) (en_I (ma_h (mo_ M f g' h'))) (en_I (ma_v (mo_ M f g' h'))) (en_I (ma_p (mo_ M f g' h'))) (en_I (ma_l (mo_ M f g' h'))) (en_I (ma_b (mo_ M f g' h'))) (en_I (ga_r G)) (en_I (ga_s G)) (en_I (ga_i G)) (en_I (ga_w G)) (en_I (wo_w W)) (en_I (si_z S)) (en_I (si_c S)))))) → wX_enter_81 post (nI p) (nI n) (nI la) (nI li) (nI (tb_fh T)) (nI (tb_lo T)) (nI (tb_to T)) (nI (ma_F (mo_ M f g' h'))) (nI (ma_G (mo_ M f g' h'))) (nI (ma_H (mo_ M f g' h'))) (nI (ma_n (mo_ M f g' h'))) (nI (ga_n G)) (nI (wo_n W)) (en_E E) (en_I hh) (en_I va) (en_I lv) (en_V (tb_V T)) (en_I (tb_L T)) (en_I (tb_H T)) (en_I (tb_R T)) (en_I (tb_X T)) (en_I (tb_D T)) (en_I (tb_Q T)) (en_I (ca_F C)) (en_I (ca_G C)) (en_I (ca_H C)) (en_I (ca_R C)) (en_I (ma_f (mo_ M f g' h'))) (en_I (ma_g (mo_ M f g' h'))) (en_I (ma_h (mo_ M f g' h'))) (en_I (ma_v (mo_ M f g' h'))) (en_I (ma_p (mo_ M f g' h'))) (en_I (ma_l (mo_ M f g' h'))) (en_I (ma_b (mo_ M f g' h'))) (en_I (ga_r G)) (en_I (ga_s G)) (en_I (ga_i G)) (en_I (ga_w G)) (en_I (wo_w W)) (en_I (si_z S)) (en_I (si_c S)) := fun post hp => by
          unfold wX_enter_81
          refine pk_lt (ma_n M) 8 (fun _ => ?_) (fun z => by omega)
          refine xw_elev (M := mo_ M f g' h') (e := f) lf v1 ?_
          refine xw_elev (M := mo_ M f g' h') (e := g') lg v2 ?_
          refine xw_elev (M := mo_ M f g' h') (e := h') lh v3 ?_
          exact hp
        by_cases e1 : lv (tb_V T (f / 2)) ≤ lv (tb_V T (g' / 2))
        · by_cases e2 : lv (tb_V T (f / 2)) ≤ lv (tb_V T (h' / 2))
          · refine ⟨lv (tb_V T (f / 2)), Nat.le_refl _, e1, e2, fun d d1 _ _ => d1, fun post hp => go post (pk_le _ _ (fun _ => ?_) (fun z => by omega) rfl rfl (by omega) (by omega))⟩
            unfold wX_enter_133
            exact pk_le _ _ (fun _ => hp) (fun z => by omega) rfl rfl (by omega) (by omega)
          · refine ⟨lv (tb_V T (h' / 2)), by omega, by omega, Nat.le_refl _, fun d _ _ d3 => d3, fun post hp => go post (pk_le _ _ (fun _ => ?_) (fun z => by omega) rfl rfl (by omega) (by omega))⟩
            unfold wX_enter_133
            exact pk_le _ _ (fun z => by omega) (fun _ => hp) rfl rfl (by omega) (by omega)
        · by_cases e2 : lv (tb_V T (g' / 2)) ≤ lv (tb_V T (h' / 2))
          · refine ⟨lv (tb_V T (g' / 2)), by omega, Nat.le_refl _, e2, fun d _ d2 _ => d2, fun post hp => go post (pk_le _ _ (fun z => by omega) (fun _ => ?_) rfl rfl (by omega) (by omega))⟩
            unfold wX_enter_133
            exact pk_le _ _ (fun _ => hp) (fun z => by omega) rfl rfl (by omega) (by omega)
          · refine ⟨lv (tb_V T (h' / 2)), by omega, by omega, Nat.le_refl _, fun d _ _ d3 => d3, fun post hp => go post (pk_le _ _ (fun z => by omega) (fun _ => ?_) rfl rfl (by omega) (by omega))⟩
            unfold wX_enter_133
            exact pk_le _ _ (fun z => by omega) (fun _ => hp) rfl rfl (by omega) (by omega)
      have tn : t < n := by omega
      refine ⟨f, g', h', p, t, c1, c2, tn, c3, c4, c5, t1, t2, t3, fun d d6 d1 d2 d3 => ?_, sem, fun post hp => step post ?_⟩
      · have q := c7 (fun j => d ≤ lv (tb_V T j)) d1 (by
          rcases b5 with z | z
          · show d ≤ lv (tb_V T (g / 2)); rw [z, h06, P.1.2.2.1]; exact d6
          · show d ≤ lv (tb_V T (g / 2)); rw [z]; exact d2) (by
          rcases b6 with z | z
          · show d ≤ lv (tb_V T (h / 2)); rw [z, h06, P.1.2.2.1]; exact d6
          · show d ≤ lv (tb_V T (h / 2)); rw [z]; exact d3)
        exact t4 d q.1 q.2.1 q.2.2
      · have open144 : wX_enter_81 post (nI p) (nI n) (nI la) (nI li) (nI (tb_fh T)) (nI (tb_lo T)) (nI (tb_to T)) (nI (ma_F (mo_ M f g' h'))) (nI (ma_G (mo_ M f g' h'))) (nI (ma_H (mo_ M f g' h'))) (nI (ma_n (mo_ M f g' h'))) (nI (ga_n G)) (nI (wo_n W)) (en_E E) (en_I hh) (en_I va) (en_I lv) (en_V (tb_V T)) (en_I (tb_L T)) (en_I (tb_H T)) (en_I (tb_R T)) (en_I (tb_X T)) (en_I (tb_D T)) (en_I (tb_Q T)) (en_I (ca_F C)) (en_I (ca_G C)) (en_I (ca_H C)) (en_I (ca_R C)) (en_I (ma_f (mo_ M f g' h'))) (en_I (ma_g (mo_ M f g' h'))) (en_I (ma_h (mo_ M f g' h'))) (en_I (ma_v (mo_ M f g' h'))) (en_I (ma_p (mo_ M f g' h'))) (en_I (ma_l (mo_ M f g' h'))) (en_I (ma_b (mo_ M f g' h'))) (en_I (ga_r G)) (en_I (ga_s G)) (en_I (ga_i G)) (en_I (ga_w G)) (en_I (wo_w W)) (en_I (si_z S)) (en_I (si_c S)) := t5 post (xw_enter144 (M := mo_ M f g' h') hfr' (by omega) (by have := (P.2.1 t tn).1; omega) lf lg lh v1 v2 v3 hp)
        have bF : ca_F C (sl_ f g' h') < 2048 := by
          by_cases z : ca_F C (sl_ f g' h') = 0
          · omega
          · exact ef_lt (K _ hsl z).1.1
        refine ⟨vsl, pk_eq (ca_F C (sl_ f g' h')) f (fun y1 => ⟨vsl, ?_⟩) (fun _ => open144)⟩
        obtain ⟨⟨k1, k2, k3, k4⟩, k5⟩ := K _ hsl (by omega)
        have := ef_lt k2
        have := ef_lt k3
        exact pk_eq (ca_G C (sl_ f g' h')) g' (fun y2 => ⟨vsl, pk_eq (ca_H C (sl_ f g' h')) h' (fun y3 => absurd ⟨y1, y2, y3⟩ hit) (fun _ => open144)⟩) (fun _ => open144)
end
end
section
/-! leave and the machine's run -/
theorem Xt_.ca {T T' : TN_} {φ φ' : Nat → BF_} {C : CN_} (h : Xt_ T φ T' φ') (K : Ca_ (tb_V T) φ C) : Ca_ (tb_V T') φ' C := by
  intro i hi hn
  obtain ⟨⟨k1, k2, k3, k4⟩, k5⟩ := K i hi hn
  refine ⟨⟨h.ok k1, h.ok k2, h.ok k3, h.ok k4⟩, fun s => ?_⟩
  rw [h.ef k1, h.ef k2, h.ef k3, h.ef k4]
  exact k5 s
theorem Xt_.V {T T' : TN_} {φ φ' : Nat → BF_} (h : Xt_ T φ T' φ') (h0 : tb_V T 0 = 6) (h0' : tb_V T' 0 = 6) {j : Nat} (hj : ok_ (tb_V T) j) : tb_V T' j = tb_V T j := by
  rcases hj with e | e
  · rw [e, h0, h0']
  · exact (h.1 j e).2.1
def md_ (M : MN_) (t : Nat) : MN_ := (ma_F M, ma_G M, ma_H M, t, M.2.2.2.2)
def tt_ : Nat → Nat
  | 0 => 1
  | d + 1 => 2 * tt_ d + 3
def Fq_ (m : Nat) (M M' : MN_) : Prop := ∀ i, i < m → ma_f M' i = ma_f M i ∧ ma_g M' i = ma_g M i ∧ ma_h M' i = ma_h M i ∧ ma_v M' i = ma_v M i ∧ ma_p M' i = ma_p M i ∧ ma_l M' i = ma_l M i ∧ ma_b M' i = ma_b M i
section
variable {n la li : Nat} {E hh va lv : Nat → Nat} {T : TN_} {C : CN_} {M : MN_} {G : GN_} {W : WN_} {S : SN_}
/-- make in an ordered table -/
theorem xm_mk {v a b : Nat} {φ : Nat → BF_} (P : Pm_ n va lv) (I : Ti_ n E 0 T φ) (O : Od_ 0 lv (tb_V T) (tb_L T) (tb_H T)) (hv : v < n) (ha : ok_ (tb_V T) (a / 2)) (hb : ok_ (tb_V T) (b / 2)) (la' : lv v < lv (tb_V T (a / 2))) (lb : lv v < lv (tb_V T (b / 2))) (room : tc_ 0 (tb_V T) < 1023) :
    ∃ r T' φ', Ti_ n E 0 T' φ' ∧ Od_ 0 lv (tb_V T') (tb_L T') (tb_H T') ∧ ok_ (tb_V T') (r / 2) ∧ (∀ s : Nat → Bool, ef_ φ' r s = if s v = true then ef_ φ b s else ef_ φ a s) ∧ Xt_ T φ T' φ' ∧ tc_ 0 (tb_V T') ≤ tc_ 0 (tb_V T) + 1 ∧
      ∀ post : Int32 → SX → Prop, post (nI r) (st_ n la li E hh va lv T' C M G W S) → wpX_make post (st_ n la li E hh va lv T C M G W S) (nI v) (nI a) (nI b) := by
  have S0 := I.1
  have ind : ∀ e, ok_ (tb_V T) (e / 2) → lv v < lv (tb_V T (e / 2)) → ∀ s y, ef_ φ e (fu_u s v y) = ef_ φ e s := fun e he hl s y =>
    S0.edep P.1.2.2.2 O he (Nat.zero_le _) (fun w _ hw => fu_n (fun c => by subst c; omega))
  obtain ⟨r, T', φ', I', r1, r2, X, nw, tc, -, wk⟩ := xm_make (la := la) (li := li) (hh := hh) (va := va) (lv := lv) (C := C) (M := M) (G := G) (W := W) (S := S) I (Or.inl rfl) hv ha hb (ind a ha la') (ind b hb lb) room (fun a' b' j h1 h2 h3 h4 h5 =>
    ⟨S0.uni P.1.2.2.2 O hv (Nat.zero_le _) (by rw [h1]; exact ha) (by rw [h2]; exact hb) (by rw [h1]; exact la') (by rw [h2]; exact lb) h3 h4 h5, S0.ne0 h4⟩)
  refine ⟨r, T', φ', I', ?_, r1, r2, X, tc, wk⟩
  intro i hi _
  have e0 := I.1.1.2.1
  have e0' := I'.1.1.2.1
  rcases nw i hi with z | ⟨z1, z2, z3, -⟩
  · obtain ⟨-, x2, x3, x4, -⟩ := X.1 i z
    obtain ⟨-, -, -, -, -, o1, o2⟩ := S0.2.1 i z
    rw [x2, x3, x4, X.V e0 e0' o1, X.V e0 e0' o2]
    exact O i z (Nat.zero_le _)
  · rw [z1, z2, z3, X.V e0 e0' ha, X.V e0 e0' hb]
    exact ⟨la', lb⟩
theorem xm_leave {t c : Nat} {φ : Nat → BF_} (P : Pm_ n va lv) (I : Ti_ n E 0 T φ) (O : Od_ 0 lv (tb_V T) (tb_L T) (tb_H T)) (K : Ca_ (tb_V T) φ C) (ht : ma_n M = t + 1) (ht8 : t < 8) (hv : ma_v M t < n) (hp : ma_p M t < 2)
    (of : ok_ (tb_V T) (ma_f M t / 2)) (og : ok_ (tb_V T) (ma_g M t / 2)) (oh : ok_ (tb_V T) (ma_h M t / 2)) (ol : ok_ (tb_V T) (ma_l M t / 2)) (oc : ok_ (tb_V T) (c / 2)) (ll : lv (ma_v M t) < lv (tb_V T (ma_l M t / 2))) (lc : lv (ma_v M t) < lv (tb_V T (c / 2)))
    (sem : ∀ s : Nat → Bool, (if s (ma_v M t) = true then ef_ φ c s else ef_ φ (ma_l M t) s) = i3_ φ (ma_f M t) (ma_g M t) (ma_h M t) s) (room : tc_ 0 (tb_V T) < 1023) :
    ∃ r T' C' φ', Ti_ n E 0 T' φ' ∧ Od_ 0 lv (tb_V T') (tb_L T') (tb_H T') ∧ Ca_ (tb_V T') φ' C' ∧ Xt_ T φ T' φ' ∧ ok_ (tb_V T') (r / 2) ∧ (∀ s, ef_ φ' r s = (i3_ φ (ma_f M t) (ma_g M t) (ma_h M t) s ^^ decide (ma_p M t = 1))) ∧ tc_ 0 (tb_V T') ≤ tc_ 0 (tb_V T) + 1 ∧
      ∀ post : Int32 → SX → Prop, post (nI r) (st_ n la li E hh va lv T' C' (md_ M t) G W S) → wpX_leave post (st_ n la li E hh va lv T C M G W S) (nI c) := by
  obtain ⟨r, T', φ', I', O', r1, r2, X, tc, wk⟩ := xm_mk (la := la) (li := li) (hh := hh) (C := C) (M := md_ M t) (G := G) (W := W) (S := S) P I O hv ol oc ll lc room
  have K' := X.ca K
  have hsl := (sl_w (ma_f M t) (ma_g M t) (ma_h M t)).1
  have vsl : vp_in (nI (sl_ (ma_f M t) (ma_g M t) (ma_h M t))) 256 := vp_in_nI hsl (by omega)
  have hi : vp_in (nI t) 8 := vp_in_nI ht8 (by omega)
  refine ⟨r ^^^ ma_p M t, T', (fu_u (ca_F C) (sl_ (ma_f M t) (ma_g M t) (ma_h M t)) (ma_f M t), fu_u (ca_G C) (sl_ (ma_f M t) (ma_g M t) (ma_h M t)) (ma_g M t), fu_u (ca_H C) (sl_ (ma_f M t) (ma_g M t) (ma_h M t)) (ma_h M t), fu_u (ca_R C) (sl_ (ma_f M t) (ma_g M t) (ma_h M t)) r), φ', I', O', ?_, X, ?_, fun s => ?_, tc, fun post hpost => ?_⟩
  · intro i hi' hn
    show (ok_ _ (fu_u _ _ _ i / 2) ∧ ok_ _ (fu_u _ _ _ i / 2) ∧ ok_ _ (fu_u _ _ _ i / 2) ∧ ok_ _ (fu_u _ _ _ i / 2)) ∧ ∀ s : Nat → Bool, ef_ φ' (fu_u _ _ _ i) s = if ef_ φ' (fu_u _ _ _ i) s = true then ef_ φ' (fu_u _ _ _ i) s else ef_ φ' (fu_u _ _ _ i) s
    have hn' : fu_u (ca_F C) (sl_ (ma_f M t) (ma_g M t) (ma_h M t)) (ma_f M t) i ≠ 0 := hn
    by_cases e : i = sl_ (ma_f M t) (ma_g M t) (ma_h M t)
    · rw [← e, fu_s, fu_s, fu_s, fu_s]
      refine ⟨⟨X.ok of, X.ok og, X.ok oh, r1⟩, fun s => ?_⟩
      rw [X.ef of, X.ef og, X.ef oh, r2 s]
      exact sem s
    · rw [fu_n e, fu_n e, fu_n e, fu_n e]
      rw [fu_n e] at hn'
      exact K' i hi' hn'
  · rw [xr_d hp]; exact r1
  · rw [ef_x hp, r2 s, sem s]
  · unfold wpX_leave st_
    dsimp only
    refine nm_r (e' := nI t) (by rw [ht]; exact nI_pred t) ?_
    rw [nI_clamp (n := t) (by omega)]
    refine ⟨hi, hi, ?_⟩
    refine wk _ ?_
    dsimp only [st_]
    refine ⟨hi, hi, hi, ?_⟩
    refine xw_slot (f := ma_f M t) (g := ma_g M t) (h := ma_h M t) ?_
    rw [nI_clamp (n := sl_ (ma_f M t) (ma_g M t) (ma_h M t)) (by omega)]
    refine ⟨hi, vsl, nm_r en_uI ⟨hi, vsl, nm_r en_uI ⟨hi, vsl, nm_r en_uI ⟨vsl, nm_r en_uI ⟨hi, ?_⟩⟩⟩⟩⟩
    rw [show nI r ^^^ en_I (ma_p (md_ M t)) t = nI (r ^^^ ma_p M t) from nx_xor _ _]
    exact hpost
theorem xm_run (P : Pm_ n va lv) : ∀ (d : Nat) (T : TN_) (C : CN_) (M : MN_) (φ : Nat → BF_) (st : Nat), Ti_ n E 0 T φ → Od_ 0 lv (tb_V T) (tb_L T) (tb_H T) → Ca_ (tb_V T) φ C → ok_ (tb_V T) (ma_F M / 2) → ok_ (tb_V T) (ma_G M / 2) → ok_ (tb_V T) (ma_H M / 2) → d ≤ n → n ≤ lv (tb_V T (ma_F M / 2)) + d → n ≤ lv (tb_V T (ma_G M / 2)) + d → n ≤ lv (tb_V T (ma_H M / 2)) + d → ma_n M + d ≤ 7 → tc_ 0 (tb_V T) + 2 ^ d ≤ 1024 → st + tt_ d ≤ 511 →
    ∃ r T' C' M' φ' k, k ≤ tt_ d ∧ Ti_ n E 0 T' φ' ∧ Od_ 0 lv (tb_V T') (tb_L T') (tb_H T') ∧ Ca_ (tb_V T') φ' C' ∧ Xt_ T φ T' φ' ∧ ok_ (tb_V T') (r / 2) ∧ (∀ s, ef_ φ' r s = i3_ φ (ma_F M) (ma_G M) (ma_H M) s) ∧ tc_ 0 (tb_V T') + 1 ≤ tc_ 0 (tb_V T) + 2 ^ d ∧ ma_n M' = ma_n M ∧ Fq_ (ma_n M) M M' ∧
      ∀ (post : Int32 → SX → Prop) (N : Nat) (x4 : Int32), wX_combine_32 post N (nI r) 0 0 (nI (st + k)) (nI n) (nI la) (nI li) (nI (tb_fh T')) (nI (tb_lo T')) (nI (tb_to T')) (nI (ma_F M')) (nI (ma_G M')) (nI (ma_H M')) (nI (ma_n M')) (nI (ga_n G)) (nI (wo_n W)) (en_E E) (en_I hh) (en_I va) (en_I lv) (en_V (tb_V T')) (en_I (tb_L T')) (en_I (tb_H T')) (en_I (tb_R T')) (en_I (tb_X T')) (en_I (tb_D T')) (en_I (tb_Q T')) (en_I (ca_F C')) (en_I (ca_G C')) (en_I (ca_H C')) (en_I (ca_R C')) (en_I (ma_f M')) (en_I (ma_g M')) (en_I (ma_h M')) (en_I (ma_v M')) (en_I (ma_p M')) (en_I (ma_l M')) (en_I (ma_b M')) (en_I (ga_r G)) (en_I (ga_s G)) (en_I (ga_i G)) (en_I (ga_w G)) (en_I (wo_w W)) (en_I (si_z S)) (en_I (si_c S)) → wX_combine_32 post (N + k) x4 1 0 (nI st) (nI n) (nI la) (nI li) (nI (tb_fh T)) (nI (tb_lo T)) (nI (tb_to T)) (nI (ma_F M)) (nI (ma_G M)) (nI (ma_H M)) (nI (ma_n M)) (nI (ga_n G)) (nI (wo_n W)) (en_E E) (en_I hh) (en_I va) (en_I lv) (en_V (tb_V T)) (en_I (tb_L T)) (en_I (tb_H T)) (en_I (tb_R T)) (en_I (tb_X T)) (en_I (tb_D T)) (en_I (tb_Q T)) (en_I (ca_F C)) (en_I (ca_G C)) (en_I (ca_H C)) (en_I (ca_R C)) (en_I (ma_f M)) (en_I (ma_g M)) (en_I (ma_h M)) (en_I (ma_v M)) (en_I (ma_p M)) (en_I (ma_l M)) (en_I (ma_b M)) (en_I (ga_r G)) (en_I (ga_s G)) (en_I (ga_i G)) (en_I (ga_w G)) (en_I (wo_w W)) (en_I (si_z S)) (en_I (si_c S)) := by
  have hn6 := P.1.2.1
  intro d
  induction d with
  | zero =>
    intro T C M φ st I O K o1 o2 o3 hdn v1 v2 v3 hfr hroom hst
    simp only [tt_] at hst
    rcases xw_enter (la := la) (li := li) (E := E) (hh := hh) (G := G) (W := W) (S := S) P I.1 K o1 o2 o3 (Or.inl (by omega)) with ⟨r, f, g, h, a1, a2, a3⟩ | ⟨f, g, h, p, t, b1, b2, b3, b4, b5, b6, b7, b8, b9, b10, b11, b12⟩
    · have := ef_lt a1
      refine ⟨r, T, C, mo_ M f g h, φ, 1, by simp [tt_], I, O, K, Xt_.refl _ _, a1, a2, by simp, rfl, fun i _ => ⟨rfl, rfl, rfl, rfl, rfl, rfl, rfl⟩, fun post N x4 hp => ?_⟩
      refine pk_le 512 st (fun z => by omega) (fun _ => br_t rfl (br_f (by decide) ?_))
      refine a3 _ ?_
      dsimp only [st_]
      exact br_t (nI_pos' (by omega)) (nm_r (nI_1 _) hp)
    · have := b10 n hn6 (by omega) (by omega) (by omega)
      omega
  | succ d ih =>
    intro T C M φ st I O K o1 o2 o3 hdn v1 v2 v3 hfr hroom hst
    simp only [tt_] at hst ⊢
    have p2 : 2 ^ (d + 1) = 2 ^ d + 2 ^ d := by rw [Nat.pow_succ]; omega
    have p1 : 0 < 2 ^ d := Nat.two_pow_pos d
    rcases xw_enter (la := la) (li := li) (E := E) (hh := hh) (G := G) (W := W) (S := S) P I.1 K o1 o2 o3 (Or.inl (by omega)) with ⟨r, f, g, h, a1, a2, a3⟩ | ⟨f, g, h, p, t, b1, b2, b3, b4, b5, b6, b7, b8, b9, b10, b11, b12⟩
    · have := ef_lt a1
      refine ⟨r, T, C, mo_ M f g h, φ, 1, by omega, I, O, K, Xt_.refl _ _, a1, a2, by omega, rfl, fun i _ => ⟨rfl, rfl, rfl, rfl, rfl, rfl, rfl⟩, fun post N x4 hp => ?_⟩
      refine pk_le 512 st (fun z => by omega) (fun _ => br_t rfl (br_f (by decide) ?_))
      refine a3 _ ?_
      dsimp only [st_]
      exact br_t (nI_pos' (by omega)) (nm_r (nI_1 _) hp)
    · have htd := b10 (n - (d + 1)) (by omega) (by omega) (by omega) (by omega)
      have hv := (P.2.1 t b3).1
      have hlt := (P.2.1 t b3).2
      obtain ⟨q1, q2, q3⟩ := cd_sem I.1 P O (b := 0) b4 hv (by omega) (by rw [hlt]; exact b7)
      obtain ⟨q4, q5, q6⟩ := cd_sem I.1 P O (b := 0) b5 hv (by omega) (by rw [hlt]; exact b8)
      obtain ⟨q7, q8, q9⟩ := cd_sem I.1 P O (b := 0) b6 hv (by omega) (by rw [hlt]; exact b9)
      rw [hlt] at q2 q5 q8
      obtain ⟨r1, T1, C1, M1, φ1, k1, e1, I1, O1, K1, X1, ok1, s1, t1, n1, f1, w1⟩ := ih T C (mf_ M (cd_ (tb_V T) (tb_L T) (tb_H T) f (va t) 0) (cd_ (tb_V T) (tb_L T) (tb_H T) g (va t) 0) (cd_ (tb_V T) (tb_L T) (tb_H T) h (va t) 0) f g h (va t) p) φ (st + 1) I O K q1 q4 q7 (by omega) (by show n ≤ lv (tb_V T (cd_ (tb_V T) (tb_L T) (tb_H T) f (va t) 0 / 2)) + d; omega) (by show n ≤ lv (tb_V T (cd_ (tb_V T) (tb_L T) (tb_H T) g (va t) 0 / 2)) + d; omega) (by show n ≤ lv (tb_V T (cd_ (tb_V T) (tb_L T) (tb_H T) h (va t) 0 / 2)) + d; omega) (by show ma_n M + 1 + d ≤ 7; omega) (by omega) (by omega)
      have n1' : ma_n M1 = ma_n M + 1 := n1
      obtain ⟨j1, j2, j3, j4, j5, j6, j7⟩ := f1 (ma_n M) (Nat.lt_succ_self _)
      have j1' : ma_f M1 (ma_n M) = f := j1.trans fu_s
      have j2' : ma_g M1 (ma_n M) = g := j2.trans fu_s
      have j3' : ma_h M1 (ma_n M) = h := j3.trans fu_s
      have j4' : ma_v M1 (ma_n M) = va t := j4.trans fu_s
      have j5' : ma_p M1 (ma_n M) = p := j5.trans fu_s
      have j7' : ma_b M1 (ma_n M) = 0 := j7.trans fu_s
      have z0 := I.1.1.2.1
      have z1 := I1.1.1.2.1
      have c4 := X1.ok b4
      have c5 := X1.ok b5
      have c6 := X1.ok b6
      obtain ⟨u1, u2, u3⟩ := cd_sem I1.1 P O1 (b := 1) c4 hv (by omega) (by rw [hlt, X1.V z0 z1 b4]; exact b7)
      obtain ⟨u4, u5, u6⟩ := cd_sem I1.1 P O1 (b := 1) c5 hv (by omega) (by rw [hlt, X1.V z0 z1 b5]; exact b8)
      obtain ⟨u7, u8, u9⟩ := cd_sem I1.1 P O1 (b := 1) c6 hv (by omega) (by rw [hlt, X1.V z0 z1 b6]; exact b9)
      rw [hlt] at u2 u5 u8
      obtain ⟨M2, hM2⟩ : ∃ M2 : MN_, M2 = (cd_ (tb_V T1) (tb_L T1) (tb_H T1) f (va t) 1, cd_ (tb_V T1) (tb_L T1) (tb_H T1) g (va t) 1, cd_ (tb_V T1) (tb_L T1) (tb_H T1) h (va t) 1, ma_n M + 1, ma_f M1, ma_g M1, ma_h M1, ma_v M1, ma_p M1, fu_u (ma_l M1) (ma_n M) r1, fu_u (ma_b M1) (ma_n M) 1) := ⟨_, rfl⟩
      obtain ⟨r2, T2, C2, M3, φ2, k2, e2, I2, O2, K2, X2, ok2, s2, t2, n2, f2, w2⟩ := ih T1 C1 M2 φ1 (st + 1 + k1 + 1) I1 O1 K1 (by rw [hM2]; exact u1) (by rw [hM2]; exact u4) (by rw [hM2]; exact u7) (by omega) (by rw [hM2]; show n ≤ lv (tb_V T1 (cd_ (tb_V T1) (tb_L T1) (tb_H T1) f (va t) 1 / 2)) + d; omega) (by rw [hM2]; show n ≤ lv (tb_V T1 (cd_ (tb_V T1) (tb_L T1) (tb_H T1) g (va t) 1 / 2)) + d; omega) (by rw [hM2]; show n ≤ lv (tb_V T1 (cd_ (tb_V T1) (tb_L T1) (tb_H T1) h (va t) 1 / 2)) + d; omega) (by rw [hM2]; show ma_n M + 1 + d ≤ 7; omega) (by omega) (by omega)
      have n2' : ma_n M3 = ma_n M + 1 := by rw [n2, hM2]
      have nM2 : ma_n M2 = ma_n M + 1 := by rw [hM2]
      obtain ⟨i1, i2, i3, i4, i5, i6, i7⟩ := f2 (ma_n M) (by rw [nM2]; exact Nat.lt_succ_self _)
      have i1' : ma_f M3 (ma_n M) = f := by rw [i1, hM2]; exact j1'
      have i2' : ma_g M3 (ma_n M) = g := by rw [i2, hM2]; exact j2'
      have i3' : ma_h M3 (ma_n M) = h := by rw [i3, hM2]; exact j3'
      have i4' : ma_v M3 (ma_n M) = va t := by rw [i4, hM2]; exact j4'
      have i5' : ma_p M3 (ma_n M) = p := by rw [i5, hM2]; exact j5'
      have i6' : ma_l M3 (ma_n M) = r1 := by rw [i6, hM2]; exact fu_s
      have i7' : ma_b M3 (ma_n M) = 1 := by rw [i7, hM2]; exact fu_s
      have X12 := X1.trans X2
      have z2 := I2.1.1.2.1
      have g4 := X12.ok b4
      have g5 := X12.ok b5
      have g6 := X12.ok b6
      have or1 := X2.ok ok1
      -- what the two branches mean
      have m1 : ∀ s, ef_ φ2 r1 s = i3_ φ f g h (fu_u s (va t) false) := fun s => by
        rw [X2.ef ok1, s1 s]
        show i3_ φ (cd_ (tb_V T) (tb_L T) (tb_H T) f (va t) 0) (cd_ (tb_V T) (tb_L T) (tb_H T) g (va t) 0) (cd_ (tb_V T) (tb_L T) (tb_H T) h (va t) 0) s = _
        unfold i3_
        rw [q3, q6, q9]
        rfl
      have m2 : ∀ s, ef_ φ2 r2 s = i3_ φ f g h (fu_u s (va t) true) := fun s => by
        rw [s2 s, hM2]
        show i3_ φ1 (cd_ (tb_V T1) (tb_L T1) (tb_H T1) f (va t) 1) (cd_ (tb_V T1) (tb_L T1) (tb_H T1) g (va t) 1) (cd_ (tb_V T1) (tb_L T1) (tb_H T1) h (va t) 1) s = _
        unfold i3_
        rw [u3, u6, u9, X1.ef b4, X1.ef b5, X1.ef b6]
        rfl
      have i3e : ∀ s, i3_ φ2 f g h s = i3_ φ f g h s := fun s => by
        unfold i3_
        rw [X12.ef b4, X12.ef b5, X12.ef b6]
      have dep : ∀ (x : Bool) (a b : Nat → Bool), (∀ w, w < n → t + 1 ≤ lv w → a w = b w) → i3_ φ f g h (fu_u a (va t) x) = i3_ φ f g h (fu_u b (va t) x) := fun x a b hab => by
        have key : ∀ e, ok_ (tb_V T) (e / 2) → t ≤ lv (tb_V T (e / 2)) → ef_ φ e (fu_u a (va t) x) = ef_ φ e (fu_u b (va t) x) := fun e he hle =>
          I.1.edep P.1.2.2.2 O he (Nat.zero_le _) (fun w hw hlw => by
            by_cases c : w = va t
            · rw [c, fu_s, fu_s]
            · rw [fu_n c, fu_n c]
              refine hab w hw ?_
              have : lv w ≠ t := fun e => c (P.inj hw hv (by rw [hlt]; exact e))
              omega)
        unfold i3_
        rw [key f b4 b7, key g b5 b8, key h b6 b9]
      have lv1 : t + 1 ≤ lv (tb_V T2 (r1 / 2)) := I2.1.lvl P.1.2.2.1 (by omega) or1 (fun a b hab => by rw [m1, m1]; exact dep false a b hab)
      have lv2 : t + 1 ≤ lv (tb_V T2 (r2 / 2)) := I2.1.lvl P.1.2.2.1 (by omega) ok2 (fun a b hab => by rw [m2, m2]; exact dep true a b hab)
      obtain ⟨r3, T3, C3, φ3, I3, O3, K3, X3, ok3, s3, t3, w3⟩ := xm_leave (la := la) (li := li) (hh := hh) (M := M3) (G := G) (W := W) (S := S) (t := ma_n M) (c := r2) P I2 O2 K2 n2' (by omega) (by rw [i4']; exact hv) (by rw [i5']; exact b1) (by rw [i1']; exact g4) (by rw [i2']; exact g5) (by rw [i3']; exact g6) (by rw [i6']; exact or1) ok2 (by rw [i4', i6', hlt]; exact lv1) (by rw [i4', hlt]; exact lv2)
        (fun s => by
          rw [i1', i2', i3', i4', i6', i3e s, m1 s, m2 s]
          by_cases c : s (va t) = true
          · rw [if_pos c, fu_e c]
          · rw [if_neg c, fu_e (by simpa using c)]) (by omega)
      refine ⟨r3, T3, C3, md_ M3 (ma_n M), φ3, k1 + k2 + 3, by omega, I3, O3, K3, X12.trans X3, ok3, fun s => ?_, by omega, rfl, fun i hi => ?_, fun post N x4 hp => ?_⟩
      · rw [s3 s, i1', i2', i3', i5', i3e s, b11 s]
      · obtain ⟨y1, y2, y3, y4, y5, y6, y7⟩ := f2 i (by rw [nM2]; omega)
        obtain ⟨x1, x2, x3, x4, x5, x6, x7⟩ := f1 i (Nat.lt_succ_of_lt hi)
        have hne : i ≠ ma_n M := by omega
        rw [hM2] at y1 y2 y3 y4 y5 y6 y7
        have y6' : ma_l M3 i = ma_l M1 i := y6.trans (fu_n hne)
        have y7' : ma_b M3 i = ma_b M1 i := y7.trans (fu_n hne)
        exact ⟨y1.trans (x1.trans (fu_n hne)), y2.trans (x2.trans (fu_n hne)), y3.trans (x3.trans (fu_n hne)), y4.trans (x4.trans (fu_n hne)), y5.trans (x5.trans (fu_n hne)), y6'.trans x6, y7'.trans (x7.trans (fu_n hne))⟩
      · rw [show N + (k1 + k2 + 3) = ((N + 1 + k2) + 1 + k1) + 1 from by omega]
        refine pk_le 512 st (fun z => by omega) (fun _ => br_t rfl (br_f (by decide) ?_))
        refine b12 _ ?_
        dsimp only [st_]
        refine br_f (by decide) (nm_r (nI_1 _) ?_)
        refine w1 post (N + 1 + k2 + 1) _ ?_
        -- the half step
        have vi : vp_in (nI (ma_n M)) 8 := vp_in_nI (by omega) (by omega)
        have ep : nI (ma_n M1) - 1 = nI (ma_n M) := by rw [n1']; exact nI_pred _
        refine pk_le 512 (st + 1 + k1) (fun z => by omega) (fun _ => br_t rfl (br_t rfl (pk_eq (ma_n M1) 0 (fun z => by omega) (fun _ => ?_))))
        rw [ep, nI_clamp (n := ma_n M) (by omega)]
        refine ⟨vi, br_t (by show nI _ = 0; rw [j7']; rfl) ⟨vi, nm_r en_uI ⟨vi, nm_r (en_uI (x := 1)) ?_⟩⟩⟩
        have lf := ef_lt c4
        have lg := ef_lt c5
        have lh := ef_lt c6
        refine xw_load (M := (ma_F M1, ma_G M1, ma_H M1, ma_n M1, ma_f M1, ma_g M1, ma_h M1, ma_v M1, ma_p M1, fu_u (ma_l M1) (ma_n M) r1, fu_u (ma_b M1) (ma_n M) 1)) (t := ma_n M) (b := 1) n1' (by omega) (by omega) (by show ma_f M1 _ < 2048; rw [j1']; exact lf) (by show ma_g M1 _ < 2048; rw [j2']; exact lg) (by show ma_h M1 _ < 2048; rw [j3']; exact lh) (by show tb_V T1 (ma_f M1 _ / 2) ≤ 6; rw [j1']; exact I1.1.v6 c4) (by show tb_V T1 (ma_g M1 _ / 2) ≤ 6; rw [j2']; exact I1.1.v6 c5) (by show tb_V T1 (ma_h M1 _ / 2) ≤ 6; rw [j3']; exact I1.1.v6 c6) (by show ma_v M1 _ < 7; rw [j4']; omega) ?_
        have w2' := w2 post (N + 1) (nI r1)
        have eM : mo_ (ma_F M1, ma_G M1, ma_H M1, ma_n M1, ma_f M1, ma_g M1, ma_h M1, ma_v M1, ma_p M1, fu_u (ma_l M1) (ma_n M) r1, fu_u (ma_b M1) (ma_n M) 1) (cd_ (tb_V T1) (tb_L T1) (tb_H T1) (ma_f M1 (ma_n M)) (ma_v M1 (ma_n M)) 1) (cd_ (tb_V T1) (tb_L T1) (tb_H T1) (ma_g M1 (ma_n M)) (ma_v M1 (ma_n M)) 1) (cd_ (tb_V T1) (tb_L T1) (tb_H T1) (ma_h M1 (ma_n M)) (ma_v M1 (ma_n M)) 1) = M2 := by
          rw [hM2, j1', j2', j3', j4']
          unfold mo_
          dsimp only
          rw [n1']
        show (fun u : SX => _) (st_ n la li E hh va lv T1 C1 (mo_ (ma_F M1, ma_G M1, ma_H M1, ma_n M1, ma_f M1, ma_g M1, ma_h M1, ma_v M1, ma_p M1, fu_u (ma_l M1) (ma_n M) r1, fu_u (ma_b M1) (ma_n M) 1) (cd_ (tb_V T1) (tb_L T1) (tb_H T1) (ma_f M1 (ma_n M)) (ma_v M1 (ma_n M)) 1) (cd_ (tb_V T1) (tb_L T1) (tb_H T1) (ma_g M1 (ma_n M)) (ma_v M1 (ma_n M)) 1) (cd_ (tb_V T1) (tb_L T1) (tb_H T1) (ma_h M1 (ma_n M)) (ma_v M1 (ma_n M)) 1)) G W S)
        rw [eM]
        dsimp only [st_]
        refine nm_r (e' := nI (st + 1 + k1 + 1)) (nI_1 _) (w2' ?_)
        -- the leave step
        have ep3 : nI (ma_n M3) - 1 = nI (ma_n M) := by rw [n2']; exact nI_pred _
        refine pk_le 512 (st + 1 + k1 + 1 + k2) (fun z => by omega) (fun _ => br_t rfl (br_t rfl (pk_eq (ma_n M3) 0 (fun z => by omega) (fun _ => ?_))))
        rw [ep3, nI_clamp (n := ma_n M) (by omega)]
        refine ⟨vi, br_f (by show ¬ nI _ = 0; rw [i7']; decide) ?_⟩
        refine w3 _ ?_
        dsimp only [st_]
        refine nm_r (e' := nI (st + (k1 + k2 + 3))) ?_ hp
        rw [nI_1]
        exact congrArg nI (by omega)
theorem xm_combine {f g h : Nat} {φ : Nat → BF_} (P : Pm_ n va lv) (I : Ti_ n E 0 T φ) (O : Od_ 0 lv (tb_V T) (tb_L T) (tb_H T)) (K : Ca_ (tb_V T) φ C) (o1 : ok_ (tb_V T) (f / 2)) (o2 : ok_ (tb_V T) (g / 2)) (o3 : ok_ (tb_V T) (h / 2)) (hroom : tc_ 0 (tb_V T) + 64 ≤ 1024) :
    ∃ r T' C' M' φ', Ti_ n E 0 T' φ' ∧ Od_ 0 lv (tb_V T') (tb_L T') (tb_H T') ∧ Ca_ (tb_V T') φ' C' ∧ Xt_ T φ T' φ' ∧ ok_ (tb_V T') (r / 2) ∧ (∀ s, ef_ φ' r s = i3_ φ f g h s) ∧ tc_ 0 (tb_V T') ≤ tc_ 0 (tb_V T) + 63 ∧
      ∀ post : Int32 → SX → Prop, post (nI r) (st_ n la li E hh va lv T' C' M' G W S) → wpX_combine post (st_ n la li E hh va lv T C M G W S) (nI f) (nI g) (nI h) := by
  have hn6 := P.1.2.1
  have pw : 2 ^ n ≤ 64 := by
    have := Nat.pow_le_pow_right (n := 2) (by omega) hn6
    exact this
  have tb : tt_ n ≤ 253 := by
    have h2 := P.1.1
    have : n = 2 ∨ n = 3 ∨ n = 4 ∨ n = 5 ∨ n = 6 := by omega
    rcases this with e | e | e | e | e <;> subst e <;> decide
  obtain ⟨r, T', C', M', φ', k, e1, I', O', K', X, ok', s1, t1, n1, f1, w1⟩ := xm_run (la := la) (li := li) (hh := hh) (G := G) (W := W) (S := S) P n T C (f, g, h, 0, M.2.2.2.2) φ 0 I O K o1 o2 o3 (Nat.le_refl _) (by omega) (by omega) (by omega) (by show 0 + n ≤ 7; omega) (by omega) (by omega)
  have n1' : ma_n M' = 0 := n1
  refine ⟨r, T', C', M', φ', I', O', K', X, ok', s1, by omega, fun post hp => ?_⟩
  unfold wpX_combine st_
  dsimp only
  refine ⟨2 + k, w1 post 2 0 ?_⟩
  refine pk_le 512 (0 + k) (fun z => by omega) (fun _ => br_t rfl (br_t rfl (pk_eq (ma_n M') 0 (fun _ => nm_r (nI_1 _) ?_) (fun z => absurd n1' z))))
  exact br_c (fun _ => hp) (fun _ => br_f (by decide) hp)
end
end
section
/-! gather -/
def Rh_ (V L H : Nat → Nat) (r j : Nat) : Prop := ∀ Q : Nat → Prop, Q r → (∀ i, al_ V i → Q i → Q (L i / 2) ∧ Q (H i / 2)) → Q j
def Gv_ (V L H : Nat → Nat) (r : Nat) (G : GN_) : Prop :=
  (∀ k, k < ga_n G → al_ V (ga_r G k) ∧ Rh_ V L H r (ga_r G k)) ∧ (∀ k l, k < ga_n G → l < ga_n G → ga_r G k = ga_r G l → k = l) ∧ (∀ j, ga_s G j = 0 ∨ ga_s G j = 1) ∧ (∀ j, ga_s G j = 1 ↔ ∃ k, k < ga_n G ∧ ga_r G k = j)
theorem inj_bd {f : Nat → Nat} {m : Nat} (h1 : ∀ k, k < m → 0 < f k ∧ f k < 1024) (h2 : ∀ k l, k < m → l < m → f k = f l → k = l) : m ≤ 1023 := by
  have a := ls_inj (fun a b : Nat => f a = b + 1) (List.range m) (List.range 1023) List.nodup_range (fun a ha => by
    have ha' := List.mem_range.mp ha
    have := h1 a ha'
    exact ⟨f a - 1, List.mem_range.mpr (by omega), by omega⟩) (fun a a' b ha ha' e e' => h2 a a' (List.mem_range.mp ha) (List.mem_range.mp ha') (by rw [e, e']))
  simpa using a
theorem Gv_.bd {n r : Nat} {V L H : Nat → Nat} {φ : Nat → BF_} {G : GN_} (h : Gv_ V L H r G) (S : Sm_ n V L H φ) : ga_n G ≤ 1023 :=
  inj_bd (f := ga_r G) (fun k hk => ⟨by have := S.ne0 (h.1 k hk).1; omega, (h.1 k hk).1.1⟩) h.2.1
/-- node put in at p, the entries from p to i - 1 one up -/
def in_ (re : Nat → Nat) (p i x : Nat) : Nat → Nat := fun j => if j = p then x else if p < j ∧ j ≤ i then re (j - 1) else re j
def sf_ (re : Nat → Nat) (p i : Nat) : Nat → Nat := fun j => if p < j ∧ j ≤ i then re (j - 1) else re j
def gr_ (G : GN_) (re : Nat → Nat) : GN_ := (ga_n G, re, ga_s G, ga_i G, ga_w G)
def sg_ (q i k : Nat) : Nat := if k = q then i else if q < k ∧ k ≤ i then k - 1 else k
theorem in_sg {re : Nat → Nat} {q i k : Nat} : in_ re q i (re i) k = re (sg_ q i k) := by
  unfold in_ sg_
  split
  · rfl
  · split <;> rfl
theorem sg_lt {q i k m : Nat} (h1 : q ≤ i) (h2 : i < m) (h3 : k < m) : sg_ q i k < m := by
  unfold sg_; split
  · omega
  · split <;> omega
theorem sg_inj {q i k l : Nat} (h1 : q ≤ i) (h : sg_ q i k = sg_ q i l) : k = l := by
  unfold sg_ at h
  (repeat' split at h) <;> omega
theorem sg_sur {q i j m : Nat} (h1 : q ≤ i) (h2 : i < m) (h3 : j < m) : ∃ k, k < m ∧ sg_ q i k = j := by
  by_cases e : j = i
  · exact ⟨q, by omega, by unfold sg_; rw [if_pos rfl, e]⟩
  · by_cases g : q ≤ j ∧ j < i
    · exact ⟨j + 1, by omega, by unfold sg_; rw [if_neg (by omega), if_pos (by omega)]; omega⟩
    · exact ⟨j, h3, by unfold sg_; rw [if_neg (by omega), if_neg (by omega)]⟩
section
variable {n la li : Nat} {E hh va lv : Nat → Nat} {T : TN_} {C : CN_} {M : MN_} {G : GN_} {W : WN_} {S : SN_}
theorem xm_visit {r e : Nat} {φ : Nat → BF_} (S0 : Sm_ n (tb_V T) (tb_L T) (tb_H T) φ) (V0 : Gv_ (tb_V T) (tb_L T) (tb_H T) r G) (oe : ok_ (tb_V T) (e / 2)) (re : Rh_ (tb_V T) (tb_L T) (tb_H T) r (e / 2)) :
    ∃ G', Gv_ (tb_V T) (tb_L T) (tb_H T) r G' ∧ ga_n G ≤ ga_n G' ∧ (∀ k, k < ga_n G → ga_r G' k = ga_r G k) ∧ (e / 2 = 0 ∨ ∃ k, k < ga_n G' ∧ ga_r G' k = e / 2) ∧ (ga_i G' = ga_i G ∧ ga_w G' = ga_w G) ∧ ∀ post : SX → Prop, post (st_ n la li E hh va lv T C M G' W S) → wpX_visit post (st_ n la li E hh va lv T C M G W S) (nI e) := by
  have le := ef_lt oe
  have hi : vp_in (nI (e / 2)) 1024 := vp_in_nI (by omega) (by omega)
  have bd := V0.bd S0
  obtain ⟨g1, g2, g3, g4⟩ := V0
  have start : ∀ post : SX → Prop, ((e / 2 = 0 → post (st_ n la li E hh va lv T C M G W S)) ∧ (e / 2 ≠ 0 → ((ga_s G (e / 2) = 0 → post (st_ n la li E hh va lv T C M ((ga_n G + 1, fu_u (ga_r G) (ga_n G) (e / 2), fu_u (ga_s G) (e / 2) 1, ga_i G, ga_w G)) W S)) ∧ (ga_s G (e / 2) ≠ 0 → post (st_ n la li E hh va lv T C M G W S))))) → wpX_visit post (st_ n la li E hh va lv T C M G W S) (nI e) := fun post hp => by
    unfold wpX_visit st_
    dsimp only
    refine nm_r (nn_half (by omega)) ?_
    rw [nI_clamp (n := e / 2) (by omega), nI_clamp (n := ga_n G) (by omega)]
    refine pk_eq (e / 2) 0 (fun z => hp.1 z) (fun z => ⟨hi, pk_eq (ga_s G (e / 2)) 0 (fun y => pk_le 1024 (ga_n G) (fun w => by omega) (fun _ => ⟨hi, nm_r (en_uI (x := 1)) ⟨vp_in_nI (by omega) (by omega), nm_r en_uI (nm_r (nI_1 _) ((hp.2 z).1 y))⟩⟩)) (fun y => (hp.2 z).2 y) rfl rfl (by have := g3 (e / 2); omega)⟩)
  by_cases c0 : e / 2 = 0
  · exact ⟨G, ⟨g1, g2, g3, g4⟩, Nat.le_refl _, fun _ _ => rfl, Or.inl c0, ⟨rfl, rfl⟩, fun post hp => start post ⟨fun _ => hp, fun z => absurd c0 z⟩⟩
  · by_cases c1 : ga_s G (e / 2) = 0
    · have hnew : ¬ ∃ k, k < ga_n G ∧ ga_r G k = e / 2 := fun z => by
        have := (g4 _).mpr z
        omega
      have hal : al_ (tb_V T) (e / 2) := oe.elim (fun z => absurd z c0) id
      refine ⟨(ga_n G + 1, fu_u (ga_r G) (ga_n G) (e / 2), fu_u (ga_s G) (e / 2) 1, ga_i G, ga_w G), ⟨fun k hk => ?_, fun k l hk hl hkl => ?_, fun j => ?_, fun j => ?_⟩, by show ga_n G ≤ ga_n G + 1; omega, fun k hk => ?_, Or.inr ⟨ga_n G, by show ga_n G < ga_n G + 1; omega, fu_s⟩, ⟨rfl, rfl⟩, fun post hp => start post ⟨fun z => absurd z c0, fun _ => ⟨fun _ => hp, fun z => absurd c1 z⟩⟩⟩
      · have hk' : k < ga_n G + 1 := hk
        show al_ _ (fu_u _ _ _ k) ∧ Rh_ _ _ _ r (fu_u _ _ _ k)
        by_cases z : k = ga_n G
        · rw [z, fu_s]; exact ⟨hal, re⟩
        · rw [fu_n z]; exact g1 k (by omega)
      · have hk' : k < ga_n G + 1 := hk
        have hl' : l < ga_n G + 1 := hl
        have hkl' : fu_u (ga_r G) (ga_n G) (e / 2) k = fu_u (ga_r G) (ga_n G) (e / 2) l := hkl
        by_cases z1 : k = ga_n G
        · by_cases z2 : l = ga_n G
          · omega
          · rw [z1, fu_s, fu_n z2] at hkl'
            exact absurd ⟨l, by omega, hkl'.symm⟩ hnew
        · by_cases z2 : l = ga_n G
          · rw [z2, fu_s, fu_n z1] at hkl'
            exact absurd ⟨k, by omega, hkl'⟩ hnew
          · rw [fu_n z1, fu_n z2] at hkl'
            exact g2 k l (by omega) (by omega) hkl'
      · show fu_u _ _ _ j = 0 ∨ fu_u _ _ _ j = 1
        by_cases z : j = e / 2
        · rw [z, fu_s]; exact Or.inr rfl
        · rw [fu_n z]; exact g3 j
      · show fu_u (ga_s G) (e / 2) 1 j = 1 ↔ ∃ k, k < ga_n G + 1 ∧ fu_u (ga_r G) (ga_n G) (e / 2) k = j
        by_cases z : j = e / 2
        · rw [z, fu_s]
          exact ⟨fun _ => ⟨ga_n G, by omega, fu_s⟩, fun _ => rfl⟩
        · rw [fu_n z, g4 j]
          constructor
          · intro ⟨k, h1, h2⟩
            exact ⟨k, by omega, by rw [fu_n (by omega)]; exact h2⟩
          · intro ⟨k, h1, h2⟩
            by_cases y : k = ga_n G
            · rw [y, fu_s] at h2; exact absurd h2.symm z
            · rw [fu_n y] at h2; exact ⟨k, by omega, h2⟩
      · show fu_u _ _ _ k = _
        rw [fu_n (by omega)]
    · exact ⟨G, ⟨g1, g2, g3, g4⟩, Nat.le_refl _, fun _ _ => rfl, Or.inr ((g4 _).mp (by have := g3 (e / 2); omega)), ⟨rfl, rfl⟩, fun post hp => start post ⟨fun z => absurd z c0, fun _ => ⟨fun z => absurd z c1, fun _ => hp⟩⟩⟩
def In_ (G : GN_) (j : Nat) : Prop := j = 0 ∨ ∃ k, k < ga_n G ∧ ga_r G k = j
theorem xw_bfs {r : Nat} {φ : Nat → BF_} (S0 : Sm_ n (tb_V T) (tb_L T) (tb_H T) φ) : ∀ (m i : Nat) (G : GN_), i + m = 1024 → i ≤ ga_n G → Gv_ (tb_V T) (tb_L T) (tb_H T) r G → In_ G r → (∀ k, k < i → In_ G (tb_L T (ga_r G k) / 2) ∧ In_ G (tb_H T (ga_r G k) / 2)) →
    ∃ G', Gv_ (tb_V T) (tb_L T) (tb_H T) r G' ∧ In_ G' r ∧ (∀ k, k < ga_n G' → In_ G' (tb_L T (ga_r G' k) / 2) ∧ In_ G' (tb_H T (ga_r G' k) / 2)) ∧ (ga_i G' = ga_i G ∧ ga_w G' = ga_w G) ∧ ∀ post : SX → Prop, (∃ n62, wX_gather_62 post (nI n) (nI la) (nI li) (nI (tb_fh T)) (nI (tb_lo T)) (nI (tb_to T)) (nI (ma_F M)) (nI (ma_G M)) (nI (ma_H M)) (nI (ma_n M)) (nI (ga_n G')) (nI (wo_n W)) n62 0 (en_E E) (en_I hh) (en_I va) (en_I lv) (en_V (tb_V T)) (en_I (tb_L T)) (en_I (tb_H T)) (en_I (tb_R T)) (en_I (tb_X T)) (en_I (tb_D T)) (en_I (tb_Q T)) (en_I (ca_F C)) (en_I (ca_G C)) (en_I (ca_H C)) (en_I (ca_R C)) (en_I (ma_f M)) (en_I (ma_g M)) (en_I (ma_h M)) (en_I (ma_v M)) (en_I (ma_p M)) (en_I (ma_l M)) (en_I (ma_b M)) (en_I (ga_r G')) (en_I (ga_s G')) (en_I (ga_i G')) (en_I (ga_w G')) (en_I (wo_w W)) (en_I (si_z S)) (en_I (si_c S))) → wX_gather_12 post (m + 1) (nI i) (nI n) (nI la) (nI li) (nI (tb_fh T)) (nI (tb_lo T)) (nI (tb_to T)) (nI (ma_F M)) (nI (ma_G M)) (nI (ma_H M)) (nI (ma_n M)) (nI (ga_n G)) (nI (wo_n W)) (en_E E) (en_I hh) (en_I va) (en_I lv) (en_V (tb_V T)) (en_I (tb_L T)) (en_I (tb_H T)) (en_I (tb_R T)) (en_I (tb_X T)) (en_I (tb_D T)) (en_I (tb_Q T)) (en_I (ca_F C)) (en_I (ca_G C)) (en_I (ca_H C)) (en_I (ca_R C)) (en_I (ma_f M)) (en_I (ma_g M)) (en_I (ma_h M)) (en_I (ma_v M)) (en_I (ma_p M)) (en_I (ma_l M)) (en_I (ma_b M)) (en_I (ga_r G)) (en_I (ga_s G)) (en_I (ga_i G)) (en_I (ga_w G)) (en_I (wo_w W)) (en_I (si_z S)) (en_I (si_c S))
  | 0, i, G, hi, hle, V0, R0, D0 => by
    have := V0.bd S0
    omega
  | m + 1, i, G, hi, hle, V0, R0, D0 => by
    have bd := V0.bd S0
    by_cases c : ga_n G ≤ i
    · refine ⟨G, V0, R0, fun k hk => D0 k (by omega), ⟨rfl, rfl⟩, fun post hp => ?_⟩
      exact pk_le (ga_n G) i (fun _ => hp) (fun z => by omega)
    · obtain ⟨hal, hrh⟩ := V0.1 i (by omega)
      obtain ⟨-, -, -, -, -, o1, o2⟩ := S0.2.1 _ hal
      obtain ⟨G1, V1, n1, k1, i1, ⟨im1, wt1⟩, w1⟩ := xm_visit (la := la) (li := li) (E := E) (hh := hh) (va := va) (lv := lv) (C := C) (M := M) (G := G) (W := W) (S := S) S0 V0 o1 (fun Q q1 q2 => (q2 _ hal (hrh Q q1 q2)).1)
      obtain ⟨G2, V2, n2, k2, i2, ⟨im2, wt2⟩, w2⟩ := xm_visit (la := la) (li := li) (E := E) (hh := hh) (va := va) (lv := lv) (C := C) (M := M) (G := G1) (W := W) (S := S) S0 V1 o2 (fun Q q1 q2 => (q2 _ hal (hrh Q q1 q2)).2)
      have up1 : ∀ j, In_ G j → In_ G1 j := fun j hj => hj.imp id (fun ⟨k, h1, h2⟩ => ⟨k, by omega, by rw [k1 k h1]; exact h2⟩)
      have up2 : ∀ j, In_ G1 j → In_ G2 j := fun j hj => hj.imp id (fun ⟨k, h1, h2⟩ => ⟨k, by omega, by rw [k2 k h1]; exact h2⟩)
      have same : ∀ k, k < ga_n G → ga_r G2 k = ga_r G k := fun k hk => by rw [k2 k (by omega), k1 k hk]
      obtain ⟨G3, V3, R3, D3, ⟨im3, wt3⟩, w3⟩ := xw_bfs S0 m (i + 1) G2 (by omega) (by omega) V2 (up2 _ (up1 _ R0)) (fun k hk => by
        rw [same k (by omega)]
        by_cases e : k = i
        · subst e; exact ⟨up2 _ i1, i2⟩
        · have := D0 k (by omega)
          exact ⟨up2 _ (up1 _ this.1), up2 _ (up1 _ this.2)⟩)
      refine ⟨G3, V3, R3, D3, ⟨by rw [im3, im2, im1], by rw [wt3, wt2, wt1]⟩, fun post hp => ?_⟩
      have hlt := hal.1
      have vk : vp_in (nI (ga_r G i)) 1024 := vp_in_nI hlt (by omega)
      refine pk_le (ga_n G) i (fun z => by omega) (fun _ => pk_le 1024 i (fun z => by omega) (fun _ => ⟨vp_in_nI (by omega) (by omega), nm_r (e' := nI (ga_r G i)) (by rw [nI_clamp (n := i) (by omega)]; rfl) ⟨vk, ?_⟩⟩))
      rw [nI_clamp (n := ga_r G i) (by omega)]
      refine w1 _ ?_
      dsimp only [st_]
      refine ⟨vk, ?_⟩
      refine w2 _ ?_
      dsimp only [st_]
      exact nm_r (nI_1 _) (w3 post hp)
theorem xw_ins {post : SX → Prop} {i x : Nat} {re : Nat → Nat} {J : Int32 → (Nat → Int32) → (Nat → Int32) → (Nat → Int32) → (Nat → Int32) → (Nat → Int32) → (Nat → Int32) → (Nat → Int32) → (Nat → Int32) → (Nat → Int32) → (Nat → Int32) → (Nat → Int32) → (Nat → Int32) → (Nat → Int32) → (Nat → Int32) → (Nat → Int32) → (Nat → Int32) → (Nat → Int32) → (Nat → Int32) → (Nat → Int32) → (Nat → Int32) → (Nat → Int32) → (Nat → Int32) → (Nat → Int32) → (Nat → Int32) → (Nat → Int32) → (Nat → Int32) → (Nat → Int32) → (Nat → Int32) → (Nat → Int32) → Prop}
    (hi : i < 1024) (hr : ∀ k, k < i → re k < 1024 ∧ tb_V T (re k) ≤ 6) (hl : ∀ w, w ≤ 6 → lv w ≤ 6) (hx : tb_V T x ≤ 6) (hJ : ∀ q, q ≤ i → (∀ j, q ≤ j → j < i → lv (tb_V T x) < lv (tb_V T (re j))) → (q = 0 ∨ lv (tb_V T (re (q - 1))) ≤ lv (tb_V T x)) → J (nI (i + 1)) (en_E E) (en_I hh) (en_I va) (en_I lv) (en_V (tb_V T)) (en_I (tb_L T)) (en_I (tb_H T)) (en_I (tb_R T)) (en_I (tb_X T)) (en_I (tb_D T)) (en_I (tb_Q T)) (en_I (ca_F C)) (en_I (ca_G C)) (en_I (ca_H C)) (en_I (ca_R C)) (en_I (ma_f M)) (en_I (ma_g M)) (en_I (ma_h M)) (en_I (ma_v M)) (en_I (ma_p M)) (en_I (ma_l M)) (en_I (ma_b M)) (en_I (ga_r (gr_ G (in_ re q i x)))) (en_I (ga_s (gr_ G (in_ re q i x)))) (en_I (ga_i (gr_ G (in_ re q i x)))) (en_I (ga_w (gr_ G (in_ re q i x)))) (en_I (wo_w W)) (en_I (si_z S)) (en_I (si_c S))) :
    ∀ (p : Nat), p ≤ i → (∀ j, p ≤ j → j < i → lv (tb_V T x) < lv (tb_V T (re j))) → wX_gather_100 post J (nI i) (nI x) (nI (lv (tb_V T x))) (nI n) (nI la) (nI li) (nI (tb_fh T)) (nI (tb_lo T)) (nI (tb_to T)) (nI (ma_F M)) (nI (ma_G M)) (nI (ma_H M)) (nI (ma_n M)) (nI (ga_n G)) (nI (wo_n W)) (p + 1) (nI p) (en_E E) (en_I hh) (en_I va) (en_I lv) (en_V (tb_V T)) (en_I (tb_L T)) (en_I (tb_H T)) (en_I (tb_R T)) (en_I (tb_X T)) (en_I (tb_D T)) (en_I (tb_Q T)) (en_I (ca_F C)) (en_I (ca_G C)) (en_I (ca_H C)) (en_I (ca_R C)) (en_I (ma_f M)) (en_I (ma_g M)) (en_I (ma_h M)) (en_I (ma_v M)) (en_I (ma_p M)) (en_I (ma_l M)) (en_I (ma_b M)) (en_I (ga_r (gr_ G (sf_ re p i)))) (en_I (ga_s (gr_ G (sf_ re p i)))) (en_I (ga_i (gr_ G (sf_ re p i)))) (en_I (ga_w (gr_ G (sf_ re p i)))) (en_I (wo_w W)) (en_I (si_z S)) (en_I (si_c S))
  | 0, hp, hgt => by
    have e : fu_u (sf_ re 0 i) 0 x = in_ re 0 i x := by
      funext j; unfold fu_u in_ sf_; split <;> rfl
    refine br_t (by decide) ⟨vp_in_nI (by omega) (by omega), nm_r (e' := en_I (in_ re 0 i x)) ?_ (nm_r (nI_1 _) (hJ 0 (by omega) hgt (Or.inl rfl)))⟩
    rw [← e, ← en_uI, show (nI 0).toNatClampNeg = 0 from rfl]
    rfl
  | p + 1, hp, hgt => by
    have hvp : vp_in (nI (p + 1)) 1024 := vp_in_nI (by omega) (by omega)
    obtain ⟨r1, r2⟩ := hr p (by omega)
    have lx := hl _ hx
    have lr := hl _ r2
    have es : sf_ re (p + 1) i p = re p := by unfold sf_; rw [if_neg (by omega)]
    refine br_f (nI_nle (by omega) (by omega)) ?_
    rw [nI_pred p, nI_clamp (n := p) (by omega), nI_clamp (n := p + 1) (by omega)]
    have er : en_I (ga_r (gr_ G (sf_ re (p + 1) i))) p = nI (re p) := by show nI (sf_ re (p + 1) i p) = _; rw [es]
    rw [er, nI_clamp (n := re p) (by omega), en_Vk (by omega), nI_clamp (n := tb_V T (re p)) (by omega)]
    refine ⟨vp_in_nI (by omega) (by omega), vp_in_nI r1 (by omega), vp_in_nI (by omega) (by omega), pk_le (lv (tb_V T (re p))) (lv (tb_V T x)) (fun z => ?_) (fun z => ?_)⟩
    · have e : fu_u (sf_ re (p + 1) i) (p + 1) x = in_ re (p + 1) i x := by
        funext j; unfold fu_u in_ sf_; split <;> rfl
      refine ⟨hvp, nm_r (e' := en_I (in_ re (p + 1) i x)) ?_ (nm_r (nI_1 _) (hJ (p + 1) (by omega) hgt (Or.inr z)))⟩
      rw [← e, ← en_uI]
      rfl
    · have e : fu_u (sf_ re (p + 1) i) (p + 1) (re p) = sf_ re p i := by
        funext j; unfold fu_u sf_
        by_cases h1 : j = p + 1
        · rw [if_pos h1, if_pos (by omega), h1]; rfl
        · rw [if_neg h1]
          by_cases h2 : p + 1 < j ∧ j ≤ i
          · rw [if_pos h2, if_pos (by omega)]
          · rw [if_neg h2, if_neg (by omega)]
      refine ⟨vp_in_nI (by omega) (by omega), hvp, nm_r (e' := en_I (sf_ re p i)) ?_ (nm_r (e' := nI p) (pk_m1 p) ?_)⟩
      · rw [← e, ← en_uI]
        rfl
      · exact xw_ins hi hr hl hx hJ p (by omega) (fun j h1 h2 => by
          by_cases e : j = p
          · subst e; exact z
          · exact hgt j (by omega) h2)
theorem xw_sort {φ : Nat → BF_} (P : Pm_ n va lv) (S0 : Sm_ n (tb_V T) (tb_L T) (tb_H T) φ) (hm1 : ga_n G < 1024) : ∀ (m i : Nat) (re se : Nat → Nat), i + m = ga_n G → (∀ k, k < ga_n G → al_ (tb_V T) (re k)) → (∀ k l, k < ga_n G → l < ga_n G → re k = re l → k = l) → (∀ k l, k < l → l < i → lv (tb_V T (re k)) ≤ lv (tb_V T (re l))) → (∀ j, se j = 0 ∨ ∃ k, i ≤ k ∧ k < ga_n G ∧ re k = j) →
    ∃ re' se', (∀ k, k < ga_n G → al_ (tb_V T) (re' k)) ∧ (∀ k l, k < ga_n G → l < ga_n G → re' k = re' l → k = l) ∧ (∀ k l, k < l → l < ga_n G → lv (tb_V T (re' k)) ≤ lv (tb_V T (re' l))) ∧ (∀ j, se' j = 0) ∧ (∀ j, (∃ k, k < ga_n G ∧ re' k = j) ↔ (∃ k, k < ga_n G ∧ re k = j)) ∧
      ∀ post : SX → Prop, post (st_ n la li E hh va lv T C M ((ga_n G, re', se', ga_i G, ga_w G)) W S) → wX_gather_62 post (nI n) (nI la) (nI li) (nI (tb_fh T)) (nI (tb_lo T)) (nI (tb_to T)) (nI (ma_F M)) (nI (ma_G M)) (nI (ma_H M)) (nI (ma_n M)) (nI (ga_n G)) (nI (wo_n W)) (m + 1) (nI i) (en_E E) (en_I hh) (en_I va) (en_I lv) (en_V (tb_V T)) (en_I (tb_L T)) (en_I (tb_H T)) (en_I (tb_R T)) (en_I (tb_X T)) (en_I (tb_D T)) (en_I (tb_Q T)) (en_I (ca_F C)) (en_I (ca_G C)) (en_I (ca_H C)) (en_I (ca_R C)) (en_I (ma_f M)) (en_I (ma_g M)) (en_I (ma_h M)) (en_I (ma_v M)) (en_I (ma_p M)) (en_I (ma_l M)) (en_I (ma_b M)) (en_I (ga_r ((ga_n G, re, se, ga_i G, ga_w G)))) (en_I (ga_s ((ga_n G, re, se, ga_i G, ga_w G)))) (en_I (ga_i ((ga_n G, re, se, ga_i G, ga_w G)))) (en_I (ga_w ((ga_n G, re, se, ga_i G, ga_w G)))) (en_I (wo_w W)) (en_I (si_z S)) (en_I (si_c S))
  | 0, i, re, se, hi, h1, h2, h3, h4 => by
    refine ⟨re, se, h1, h2, fun k l hk hl => h3 k l hk (by omega), fun j => (h4 j).elim id (fun ⟨k, a, b, _⟩ => by omega), fun j => Iff.rfl, fun post hp => ?_⟩
    exact pk_le (ga_n G) i (fun _ => hp) (fun z => by omega)
  | m + 1, i, re, se, hi, h1, h2, h3, h4 => by
    have hal := h1 i (by omega)
    have hlt := hal.1
    have v6 : tb_V T (re i) ≤ 6 := S0.v6 (Or.inr hal)
    -- what any insertion gives
    have any : ∀ q, q ≤ i → (∀ j, q ≤ j → j < i → lv (tb_V T (re i)) < lv (tb_V T (re j))) → (q = 0 ∨ lv (tb_V T (re (q - 1))) ≤ lv (tb_V T (re i))) →
        ∃ re' se', (∀ k, k < ga_n G → al_ (tb_V T) (re' k)) ∧ (∀ k l, k < ga_n G → l < ga_n G → re' k = re' l → k = l) ∧ (∀ k l, k < l → l < ga_n G → lv (tb_V T (re' k)) ≤ lv (tb_V T (re' l))) ∧ (∀ j, se' j = 0) ∧ (∀ j, (∃ k, k < ga_n G ∧ re' k = j) ↔ (∃ k, k < ga_n G ∧ re k = j)) ∧
        ∀ post : SX → Prop, post (st_ n la li E hh va lv T C M ((ga_n G, re', se', ga_i G, ga_w G)) W S) → wX_gather_62 post (nI n) (nI la) (nI li) (nI (tb_fh T)) (nI (tb_lo T)) (nI (tb_to T)) (nI (ma_F M)) (nI (ma_G M)) (nI (ma_H M)) (nI (ma_n M)) (nI (ga_n G)) (nI (wo_n W)) (m + 1) (nI (i + 1)) (en_E E) (en_I hh) (en_I va) (en_I lv) (en_V (tb_V T)) (en_I (tb_L T)) (en_I (tb_H T)) (en_I (tb_R T)) (en_I (tb_X T)) (en_I (tb_D T)) (en_I (tb_Q T)) (en_I (ca_F C)) (en_I (ca_G C)) (en_I (ca_H C)) (en_I (ca_R C)) (en_I (ma_f M)) (en_I (ma_g M)) (en_I (ma_h M)) (en_I (ma_v M)) (en_I (ma_p M)) (en_I (ma_l M)) (en_I (ma_b M)) (en_I (ga_r ((ga_n G, in_ re q i (re i), fu_u se (re i) 0, ga_i G, ga_w G)))) (en_I (ga_s ((ga_n G, in_ re q i (re i), fu_u se (re i) 0, ga_i G, ga_w G)))) (en_I (ga_i ((ga_n G, in_ re q i (re i), fu_u se (re i) 0, ga_i G, ga_w G)))) (en_I (ga_w ((ga_n G, in_ re q i (re i), fu_u se (re i) 0, ga_i G, ga_w G)))) (en_I (wo_w W)) (en_I (si_z S)) (en_I (si_c S)) := by
      intro q hq gt le
      have lelow : ∀ j, j < q → lv (tb_V T (re j)) ≤ lv (tb_V T (re i)) := fun j hj => by
        rcases le with z | z
        · omega
        · by_cases e : j = q - 1
          · rw [e]; exact z
          · exact Nat.le_trans (h3 j (q - 1) (by omega) (by omega)) z
      obtain ⟨re', se', a1, a2, a3, a4, a5, a6⟩ := xw_sort P S0 hm1 m (i + 1) (in_ re q i (re i)) (fu_u se (re i) 0) (by omega) (fun k hk => by rw [in_sg]; exact h1 _ (sg_lt hq (by omega) hk)) (fun k l hk hl hkl => by
          rw [in_sg, in_sg] at hkl
          exact sg_inj hq (h2 _ _ (sg_lt hq (by omega) hk) (sg_lt hq (by omega) hl) hkl)) (fun k l hk hl => by
          rw [in_sg, in_sg]
          unfold sg_
          by_cases e1 : k = q
          · rw [if_pos e1, if_neg (by omega), if_pos (by omega)]
            exact Nat.le_of_lt (gt (l - 1) (by omega) (by omega))
          · rw [if_neg e1]
            by_cases e2 : q < k ∧ k ≤ i
            · rw [if_pos e2, if_neg (by omega), if_pos (by omega)]
              exact h3 _ _ (by omega) (by omega)
            · rw [if_neg e2]
              by_cases e3 : l = q
              · rw [if_pos e3]; exact lelow k (by omega)
              · rw [if_neg e3]
                by_cases e4 : q < l ∧ l ≤ i
                · rw [if_pos e4]
                  by_cases e5 : k = l - 1
                  · rw [e5]; exact Nat.le_refl _
                  · exact h3 _ _ (by omega) (by omega)
                · rw [if_neg e4]
                  exact h3 _ _ (by omega) (by omega)) (fun j => by
          by_cases e : j = re i
          · left; rw [e, fu_s]
          · rw [fu_n e]
            refine (h4 j).imp id (fun ⟨k, b1, b2, b3⟩ => ?_)
            have hki : k ≠ i := fun z => e (by rw [← b3, z])
            refine ⟨k, by omega, b2, ?_⟩
            rw [in_sg]
            unfold sg_
            rw [if_neg (by omega), if_neg (by omega)]
            exact b3)
      refine ⟨re', se', a1, a2, a3, a4, fun j => ?_, a6⟩
      rw [a5 j]
      constructor
      · intro ⟨k, b1, b2⟩
        rw [in_sg] at b2
        exact ⟨_, sg_lt hq (by omega) b1, b2⟩
      · intro ⟨k, b1, b2⟩
        obtain ⟨l, c1, c2⟩ := sg_sur hq (by omega) b1
        exact ⟨l, c1, by rw [in_sg, c2]; exact b2⟩
    -- the place where it goes
    have place : ∃ q, q ≤ i ∧ (∀ j, q ≤ j → j < i → lv (tb_V T (re i)) < lv (tb_V T (re j))) ∧ (q = 0 ∨ lv (tb_V T (re (q - 1))) ≤ lv (tb_V T (re i))) := by
      have k : ∀ p, p ≤ i → (∀ j, p ≤ j → j < i → lv (tb_V T (re i)) < lv (tb_V T (re j))) → ∃ q, q ≤ i ∧ (∀ j, q ≤ j → j < i → lv (tb_V T (re i)) < lv (tb_V T (re j))) ∧ (q = 0 ∨ lv (tb_V T (re (q - 1))) ≤ lv (tb_V T (re i))) := by
        intro p
        induction p with
        | zero => intro h1 h2; exact ⟨0, h1, h2, Or.inl rfl⟩
        | succ p ih =>
          intro h1 h2
          by_cases c : lv (tb_V T (re p)) ≤ lv (tb_V T (re i))
          · exact ⟨p + 1, h1, h2, Or.inr c⟩
          · exact ih (by omega) (fun j a b => by
              by_cases e : j = p
              · subst e; omega
              · exact h2 j (by omega) b)
      exact k i (Nat.le_refl _) (fun j a b => by omega)
    obtain ⟨q, q1, q2, q3⟩ := place
    obtain ⟨re', se', a1, a2, a3, a4, a5, a6⟩ := any q q1 q2 q3
    refine ⟨re', se', a1, a2, a3, a4, a5, fun post hp => ?_⟩
    have vk : vp_in (nI (re i)) 1024 := vp_in_nI hlt (by omega)
    refine pk_le (ga_n G) i (fun z => by omega) (fun _ => ?_)
    refine ⟨vp_in_nI (by omega) (by omega), nm_r (e' := nI (re i)) (by rw [nI_clamp (n := i) (by omega)]; rfl) ?_⟩
    rw [nI_clamp (n := re i) (by omega), en_Vk (by omega), nI_clamp (n := tb_V T (re i)) (by omega)]
    refine ⟨vk, vp_in_nI (by omega) (by omega), nm_r (e' := nI (lv (tb_V T (re i)))) rfl ⟨vk, nm_r (en_uI (x := 0)) ⟨i + 1, ?_⟩⟩⟩
    have e : sf_ re i i = re := by funext j; unfold sf_; rw [if_neg (by omega)]
    have w := xw_ins (n := n) (la := la) (li := li) (E := E) (hh := hh) (va := va) (lv := lv) (T := T) (C := C) (M := M) (W := W) (S := S) (G := (ga_n G, re, fu_u se (re i) 0, ga_i G, ga_w G)) (post := post) (i := i) (x := re i) (re := re) (J := wX_gather_62 post (nI n) (nI la) (nI li) (nI (tb_fh T)) (nI (tb_lo T)) (nI (tb_to T)) (nI (ma_F M)) (nI (ma_G M)) (nI (ma_H M)) (nI (ma_n M)) (nI (ga_n G)) (nI (wo_n W)) (m + 1)) (by omega) (fun k hk => ⟨(h1 k (by omega)).1, S0.v6 (Or.inr (h1 k (by omega)))⟩) P.1.2.2.2 v6 (fun q' b1 b2 b3 => by
      have : q' = q := by
        rcases Nat.lt_trichotomy q' q with z | z | z
        · rcases q3 with y | y
          · omega
          · have := b2 (q - 1) (by omega) (by omega); omega
        · exact z
        · rcases b3 with y | y
          · omega
          · have := q2 (q' - 1) (by omega) (by omega); omega
      subst this
      exact a6 post hp) i (Nat.le_refl _) (fun j a b => by omega)
    rw [e] at w
    exact w
/-- the outcome of gather from the edge r -/
def Go_ (V L H lev : Nat → Nat) (r : Nat) (G : GN_) : Prop :=
  ga_n G < 1024 ∧ (∀ k, k < ga_n G → al_ V (ga_r G k) ∧ Rh_ V L H (r / 2) (ga_r G k)) ∧ (∀ k l, k < ga_n G → l < ga_n G → ga_r G k = ga_r G l → k = l) ∧ (∀ k l, k < l → l < ga_n G → lev (V (ga_r G k)) ≤ lev (V (ga_r G l))) ∧ (∀ j, ga_s G j = 0) ∧ In_ G (r / 2) ∧ (∀ k, k < ga_n G → In_ G (L (ga_r G k) / 2) ∧ In_ G (H (ga_r G k) / 2))
theorem xm_gather {r : Nat} {φ : Nat → BF_} (P : Pm_ n va lv) (S0 : Sm_ n (tb_V T) (tb_L T) (tb_H T) φ) (hs : ∀ j, ga_s G j = 0) (or : ok_ (tb_V T) (r / 2)) :
    ∃ G', Go_ (tb_V T) (tb_L T) (tb_H T) lv r G' ∧ (ga_i G' = ga_i G ∧ ga_w G' = ga_w G) ∧ ∀ post : SX → Prop, post (st_ n la li E hh va lv T C M G' W S) → wpX_gather post (st_ n la li E hh va lv T C M G W S) (nI r) := by
  obtain ⟨G1, V1, n1, k1, i1, ⟨im1, wt1⟩, w1⟩ := xm_visit (la := la) (li := li) (E := E) (hh := hh) (va := va) (lv := lv) (C := C) (M := M) (G := (0, ga_r G, ga_s G, ga_i G, ga_w G)) (W := W) (S := S) (r := r / 2) (e := r) S0 ⟨fun k hk => absurd hk (Nat.not_lt_zero _), fun k l hk => absurd hk (Nat.not_lt_zero _), fun j => Or.inl (hs j), fun j => ⟨fun z => by have := hs j; have z' : ga_s G j = 1 := z; omega, fun ⟨k, hk, _⟩ => absurd hk (Nat.not_lt_zero _)⟩⟩ or (fun Q q _ => q)
  obtain ⟨G2, V2, R2, D2, ⟨im2, wt2⟩, w2⟩ := xw_bfs (la := la) (li := li) (E := E) (hh := hh) (va := va) (lv := lv) (C := C) (M := M) (W := W) (S := S) S0 1024 0 G1 (by omega) (by omega) V1 i1 (fun k hk => by omega)
  have bd := V2.bd S0
  obtain ⟨re, se, a1, a2, a3, a4, a5, a6⟩ := xw_sort (la := la) (li := li) (E := E) (hh := hh) (C := C) (M := M) (W := W) (S := S) (G := G2) P S0 (by omega) (ga_n G2) 0 (ga_r G2) (ga_s G2) (by omega) (fun k hk => (V2.1 k hk).1) V2.2.1 (fun k l hk hl => by omega) (fun j => by
    rcases V2.2.2.1 j with z | z
    · exact Or.inl z
    · obtain ⟨k, h1, h2⟩ := (V2.2.2.2 j).mp z
      exact Or.inr ⟨k, by omega, h1, h2⟩)
  have inn : ∀ j, In_ G2 j → In_ (ga_n G2, re, se, ga_i G2, ga_w G2) j := fun j hj => hj.imp id (fun z => (a5 j).mpr z)
  refine ⟨(ga_n G2, re, se, ga_i G2, ga_w G2), ⟨by show ga_n G2 < 1024; omega, fun k hk => ⟨a1 k hk, ?_⟩, a2, a3, a4, inn _ R2, fun k hk => ?_⟩, ⟨by show ga_i G2 = _; rw [im2, im1], by show ga_w G2 = _; rw [wt2, wt1]⟩, fun post hp => ?_⟩
  · obtain ⟨l, h1, h2⟩ := (a5 (re k)).mp ⟨k, hk, rfl⟩
    show Rh_ _ _ _ _ (re k)
    rw [← h2]
    exact (V2.1 l h1).2
  · obtain ⟨l, h1, h2⟩ := (a5 (re k)).mp ⟨k, hk, rfl⟩
    have := D2 l h1
    rw [h2] at this
    exact ⟨inn _ this.1, inn _ this.2⟩
  · unfold wpX_gather st_
    dsimp only
    refine w1 _ ?_
    dsimp only [st_]
    exact ⟨_, w2 post ⟨_, a6 post hp⟩⟩
end
end
section
/-! cofactors by the upper levels, and counting -/
def mx_ (lev : Nat → Nat) (K : Nat) (s t : Nat → Bool) : Nat → Bool := fun w => if lev w < K then s w else t w
def Cf_ (lev V : Nat → Nat) (φ : Nat → BF_) (F : BF_) (i : Nat) : Prop := ∃ (s : Nat → Bool) (b : Bool), ∀ t, φ i t = (F (mx_ lev (lev (V i)) s t) ^^ b)
theorem mx_hi {lev : Nat → Nat} {K w : Nat} {s t : Nat → Bool} (h : K ≤ lev w) : mx_ lev K s t w = t w := if_neg (by omega)
theorem mx_lo {lev : Nat → Nat} {K w : Nat} {s t : Nat → Bool} (h : lev w < K) : mx_ lev K s t w = s w := if_pos h
theorem bx_l {a b c : Bool} (h : a = (b ^^ c)) : b = (a ^^ c) := by rw [h, Bool.xor_assoc, Bool.xor_self, Bool.xor_false]
section
variable {n : Nat} {V L H va lv : Nat → Nat} {φ : Nat → BF_}
theorem cf_root (S : Sm_ n V L H φ) (P : Pm_ n va lv) (O : Od_ 0 lv V L H) {r : Nat} (h : al_ V (r / 2)) : Cf_ lv V φ (ef_ φ r) (r / 2) := by
  refine ⟨fun _ => false, decide (r % 2 = 1), fun t => ?_⟩
  rw [S.edep P.1.2.2.2 O (Or.inr h) (Nat.zero_le _) (b := t) (fun w _ hw => mx_hi hw)]
  unfold ef_
  rw [Bool.xor_assoc, Bool.xor_self, Bool.xor_false]
theorem cf_step (S : Sm_ n V L H φ) (P : Pm_ n va lv) (O : Od_ 0 lv V L H) {F : BF_} {i c : Nat} (hi : al_ V i) (hc : c = L i ∨ c = H i) (h : Cf_ lv V φ F i) : Cf_ lv V φ F (c / 2) := by
  obtain ⟨s, b, hs⟩ := h
  obtain ⟨hv, -, -, -, -, o1, o2⟩ := S.2.1 i hi
  obtain ⟨l1, l2⟩ := O i hi (Nat.zero_le _)
  have key : ∃ x : Bool, (∀ t, ef_ φ c t = φ i (fu_u t (V i) x)) ∧ ok_ V (c / 2) ∧ lv (V i) < lv (V (c / 2)) := by
    rcases hc with e | e
    · subst e; exact ⟨false, fun t => (S.fal hi t).symm, o1, l1⟩
    · subst e; exact ⟨true, fun t => (S.tru hi t).symm, o2, l2⟩
  obtain ⟨x, hx, ho, hl⟩ := key
  refine ⟨fu_u s (V i) x, (b ^^ decide (c % 2 = 1)), fun t => ?_⟩
  have e1 : φ (c / 2) t = (ef_ φ c t ^^ decide (c % 2 = 1)) := by
    unfold ef_; rw [Bool.xor_assoc, Bool.xor_self, Bool.xor_false]
  have e2 : ef_ φ c t = ef_ φ c (mx_ lv (lv (V (c / 2))) (fu_u s (V i) x) t) := S.edep P.1.2.2.2 O ho (Nat.zero_le _) (fun w _ hw => (mx_hi hw).symm)
  have e3 : mx_ lv (lv (V i)) s (fu_u (mx_ lv (lv (V (c / 2))) (fu_u s (V i) x) t) (V i) x) = mx_ lv (lv (V (c / 2))) (fu_u s (V i) x) t := by
    funext w
    by_cases a : lv w < lv (V i)
    · have hne : w ≠ V i := fun e => by subst e; omega
      rw [mx_lo a, mx_lo (by omega), fu_n hne]
    · rw [mx_hi (by omega)]
      by_cases c : w = V i
      · rw [c, fu_s, mx_lo hl, fu_s]
      · rw [fu_n c]
  rw [e1, e2, hx, hs, e3, Bool.xor_assoc]
theorem cf_reach (S : Sm_ n V L H φ) (P : Pm_ n va lv) (O : Od_ 0 lv V L H) {r j : Nat} (hr : Rh_ V L H (r / 2) j) (hj : al_ V j) : Cf_ lv V φ (ef_ φ r) j :=
  hr (fun j => al_ V j → Cf_ lv V φ (ef_ φ r) j) (fun h => cf_root S P O h) (fun i hi q => ⟨fun _ => cf_step S P O hi (Or.inl rfl) (q hi), fun _ => cf_step S P O hi (Or.inr rfl) (q hi)⟩) hj
/-- along a choice for the upper levels -/
theorem cf_path (S : Sm_ n V L H φ) (P : Pm_ n va lv) (O : Od_ 0 lv V L H) {K : Nat} (hK : K ≤ 6) (s : Nat → Bool) : ∀ (d e : Nat), ok_ V (e / 2) → 6 - lv (V (e / 2)) < d → ∃ e', ok_ V (e' / 2) ∧ Rh_ V L H (e / 2) (e' / 2) ∧ K ≤ lv (V (e' / 2)) ∧ ∀ t, ef_ φ e' t = ef_ φ e (mx_ lv K s t)
  | 0, _, _, h => by omega
  | d + 1, e, he, hd => by
    by_cases c : K ≤ lv (V (e / 2))
    · exact ⟨e, he, fun Q q _ => q, c, fun t => S.edep P.1.2.2.2 O he (Nat.zero_le _) (fun w _ hw => (mx_hi (by omega)).symm)⟩
    · have hal : al_ V (e / 2) := he.elim (fun z => by rw [z, S.1.2.1, P.1.2.2.1] at c; omega) id
      have hv := (S.2.1 _ hal).1
      have hb : (if s (V (e / 2)) = true then 1 else 0) < 2 := by split <;> omega
      obtain ⟨c1, c2, c3⟩ := cd_sem S P O (b := if s (V (e / 2)) = true then 1 else 0) he hv hb (Nat.le_refl _)
      have l6 := P.1.2.2.2 _ (S.v6 c1)
      obtain ⟨e', a1, a2, a3, a4⟩ := cf_path S P O hK s d _ c1 (by omega)
      refine ⟨e', a1, fun Q q1 q2 => a2 Q ?_ q2, a3, fun t => ?_⟩
      · unfold cd_
        rw [if_pos rfl, xr_d (Nat.mod_lt _ (by omega))]
        by_cases z : s (V (e / 2)) = true
        · rw [if_pos z, if_neg (by decide)]; exact (q2 _ hal q1).2
        · rw [if_neg z, if_pos rfl]; exact (q2 _ hal q1).1
      · rw [a4 t, c3]
        congr 1
        refine fu_e ?_
        rw [mx_lo (by omega)]
        cases s (V (e / 2)) <;> rfl
theorem bits_ex : ∀ (l : Nat) (f : Nat → Bool), ∃ p, p < 2 ^ l ∧ ∀ j, j < l → p.testBit j = f j
  | 0, f => ⟨0, by simp, fun j hj => by omega⟩
  | l + 1, f => by
    obtain ⟨p, h1, h2⟩ := bits_ex l f
    refine ⟨2 ^ l * (f l).toNat + p, ?_, fun j hj => ?_⟩
    · rw [Nat.pow_succ]
      cases f l <;> simp <;> omega
    · rw [Nat.testBit_two_pow_mul_add _ h1]
      by_cases c : j < l
      · rw [if_pos c]; exact h2 j c
      · rw [if_neg c]
        have e : j = l := by omega
        subst e
        rw [Nat.sub_self]
        cases f j <;> rfl
/-- the cofactor at level l by the choice p -/
def cp_ (lev : Nat → Nat) (F : BF_) (l p : Nat) : BF_ := fun t => F (mx_ lev l (fun w => p.testBit (lev w)) t)
def Dn_ (n : Nat) (F : BF_) : Prop := ∀ a b : Nat → Bool, (∀ w, w < n → a w = b w) → F a = F b
theorem ef_dn (S : Sm_ n V L H φ) (P : Pm_ n va lv) (O : Od_ 0 lv V L H) {r : Nat} (h : ok_ V (r / 2)) : Dn_ n (ef_ φ r) := fun a b hab =>
  S.edep P.1.2.2.2 O h (Nat.zero_le _) (fun w hw _ => hab w hw)
theorem cf_cp {F : BF_} (hF : Dn_ n F) {i : Nat} (h : Cf_ lv V φ F i) (P : Pm_ n va lv) (hl : lv (V i) ≤ n) : ∃ p, p < 2 ^ lv (V i) ∧ ∃ b : Bool, ∀ t, φ i t = (cp_ lv F (lv (V i)) p t ^^ b) := by
  obtain ⟨s, b, hs⟩ := h
  obtain ⟨p, p1, p2⟩ := bits_ex (lv (V i)) (fun j => s (va j))
  refine ⟨p, p1, b, fun t => ?_⟩
  rw [hs t]
  congr 1
  apply hF
  intro w hw
  by_cases c : lv w < lv (V i)
  · rw [mx_lo c, mx_lo c, p2 _ c, (P.2.2 w hw).2]
  · rw [mx_hi (by omega), mx_hi (by omega)]
/-- two nodes with one function up to complement are one -/
theorem Sm_.one (S : Sm_ n V L H φ) {i j : Nat} (hi : ok_ V i) (hj : ok_ V j) {f : BF_} {b c : Bool} (h1 : ∀ t, φ i t = (f t ^^ b)) (h2 : ∀ t, φ j t = (f t ^^ c)) : i = j := by
  apply S.2.2.2.2.2 i j hi hj
  have z1 := h1 (fun _ => false)
  have z2 := h2 (fun _ => false)
  rw [S.2.2.2.2.1 i hi] at z1
  rw [S.2.2.2.2.1 j hj] at z2
  have : b = c := by
    revert z1 z2
    cases f (fun _ => false) <;> cases b <;> cases c <;> simp
  intro t
  rw [h1, h2, this]
theorem pw_un {l l' p p' : Nat} (h1 : p < 2 ^ l) (h2 : p' < 2 ^ l') (h : 2 ^ l + p = 2 ^ l' + p') : l = l' ∧ p = p' := by
  have key : ∀ {l l' p p' : Nat}, p < 2 ^ l → 2 ^ l + p = 2 ^ l' + p' → ¬ l < l' := by
    intro l l' p p' h1 h c
    have : 2 ^ (l + 1) ≤ 2 ^ l' := Nat.pow_le_pow_right (by omega) c
    rw [Nat.pow_succ] at this
    omega
  have a := key h1 h
  have b := key h2 h.symm
  have e : l = l' := by omega
  subst e
  exact ⟨rfl, by omega⟩
/-- nodes above level K that are cofactors of m functions: at most m (2 ^ K - 1) -/
theorem cf_count (S : Sm_ n V L H φ) (P : Pm_ n va lv) {m K : Nat} (Fs : Nat → BF_) (hF : ∀ h, h < m → Dn_ n (Fs h)) (ls : List Nat) (hn : ls.Nodup) (h : ∀ i, i ∈ ls → al_ V i ∧ lv (V i) < K ∧ ∃ k, k < m ∧ Cf_ lv V φ (Fs k) i) : ls.length ≤ m * (2 ^ K - 1) := by
  have := ls_inj (fun i c : Nat => ∃ k p, k < m ∧ p < 2 ^ lv (V i) ∧ c = k * (2 ^ K - 1) + (2 ^ lv (V i) + p - 1) ∧ ∃ b : Bool, ∀ t, φ i t = (cp_ lv (Fs k) (lv (V i)) p t ^^ b)) ls (List.range (m * (2 ^ K - 1))) hn (fun i hi => by
    obtain ⟨hal, hlt, k, hk, hc⟩ := h i hi
    have hl := (P.2.2 _ (S.2.1 i hal).1).1
    obtain ⟨p, p1, b, hb⟩ := cf_cp (hF k hk) hc P (by omega)
    refine ⟨k * (2 ^ K - 1) + (2 ^ lv (V i) + p - 1), List.mem_range.mpr ?_, k, p, hk, p1, rfl, b, hb⟩
    have q1 : 2 ^ (lv (V i) + 1) ≤ 2 ^ K := Nat.pow_le_pow_right (by omega) hlt
    rw [Nat.pow_succ] at q1
    have q2 : (k + 1) * (2 ^ K - 1) ≤ m * (2 ^ K - 1) := Nat.mul_le_mul_right _ hk
    rw [Nat.succ_mul] at q2
    omega) (fun i i' c hi hi' => by
    rintro ⟨k, p, k1, p1, e1, b, hb⟩ ⟨k', p', k1', p1', e1', b', hb'⟩
    obtain ⟨hal, hlt, -⟩ := h i hi
    obtain ⟨hal', hlt', -⟩ := h i' hi'
    have q1 : 2 ^ (lv (V i) + 1) ≤ 2 ^ K := Nat.pow_le_pow_right (by omega) hlt
    have q1' : 2 ^ (lv (V i') + 1) ≤ 2 ^ K := Nat.pow_le_pow_right (by omega) hlt'
    rw [Nat.pow_succ] at q1 q1'
    have r1 : 0 < 2 ^ lv (V i) := Nat.two_pow_pos _
    have r1' : 0 < 2 ^ lv (V i') := Nat.two_pow_pos _
    have key : ∀ {k k' x x' M : Nat}, x < M → k * M + x = k' * M + x' → ¬ k < k' := by
      intro k k' x x' M hx he hlt
      have : (k + 1) * M ≤ k' * M := Nat.mul_le_mul_right _ hlt
      rw [Nat.succ_mul] at this
      omega
    have a := key (k := k) (k' := k') (x := 2 ^ lv (V i) + p - 1) (x' := 2 ^ lv (V i') + p' - 1) (M := 2 ^ K - 1) (by omega) (by omega)
    have b' := key (k := k') (k' := k) (x := 2 ^ lv (V i') + p' - 1) (x' := 2 ^ lv (V i) + p - 1) (M := 2 ^ K - 1) (by omega) (by omega)
    have ek : k = k' := by omega
    subst ek
    have ep : 2 ^ lv (V i) + p = 2 ^ lv (V i') + p' := by omega
    obtain ⟨el, epp⟩ := pw_un p1 p1' ep
    rw [← el, ← epp] at hb'
    exact S.one (Or.inr hal) (Or.inr hal') hb hb')
  simpa using this
theorem tc_ls {V : Nat → Nat} : tc_ 0 V = (ls_r (fun j => decide (V j < 6 ∧ j ≠ 0)) 1024).length := by
  rw [ls_rl]
  apply sm_ext
  intro j _
  by_cases c : V j < 6 ∧ j ≠ 0
  · rw [if_pos c, decide_eq_true c]; rfl
  · rw [if_neg c, decide_eq_false c]; rfl
end
/-- without loose nodes every node is a cofactor of a handle's function -/
theorem cf_all {n : Nat} {E va lv : Nat → Nat} {T : TN_} {φ : Nat → BF_} (P : Pm_ n va lv) (I : Ti_ n E 0 T φ) (O : Od_ 0 lv (tb_V T) (tb_L T) (tb_H T)) (h0 : tb_lo T = 0) : ∀ (d i : Nat), lv (tb_V T i) < d → al_ (tb_V T) i → ∃ h, 2 ≤ h ∧ h < 10 ∧ E h < 2048 ∧ Cf_ lv (tb_V T) φ (ef_ φ (E h)) i
  | 0, _, h, _ => by omega
  | d + 1, i, hd, hi => by
    have S0 := I.1
    have hR := I.2.2.2.1 i (Or.inr hi)
    have hnz := lc_z (by rw [← I.2.2.2.2.1]; exact h0) hi
    rw [if_neg (S0.ne0 hi)] at hR
    by_cases c : hr_ E i = 0
    · obtain ⟨j, j1, j2⟩ := nr_nz (V := tb_V T) (L := tb_L T) (H := tb_H T) (i := i) (by omega)
      obtain ⟨l1, l2⟩ := O j j1 (Nat.zero_le _)
      have hl : lv (tb_V T j) < lv (tb_V T i) := by
        rcases j2 with e | e
        · rw [← e]; exact l1
        · rw [← e]; exact l2
      obtain ⟨h, a1, a2, a3, a4⟩ := cf_all P I O h0 d j (by omega) j1
      refine ⟨h, a1, a2, a3, ?_⟩
      rcases j2 with e | e
      · rw [← e]; exact cf_step S0 P O j1 (Or.inl rfl) a4
      · rw [← e]; exact cf_step S0 P O j1 (Or.inr rfl) a4
    · obtain ⟨h, a1, a2, a3, a4⟩ := hr_nz c
      refine ⟨h, a1, a2, a3, ?_⟩
      rw [← a4]
      exact cf_root S0 P O (by rw [a4]; exact hi)
theorem tc_kept {n : Nat} {E va lv : Nat → Nat} {T : TN_} {φ : Nat → BF_} (P : Pm_ n va lv) (I : Ti_ n E 0 T φ) (O : Od_ 0 lv (tb_V T) (tb_L T) (tb_H T)) (h0 : tb_lo T = 0) : tc_ 0 (tb_V T) ≤ 504 := by
  rw [tc_ls]
  have hn6 := P.1.2.1
  have c := cf_count (m := 8) (K := n) I.1 P (fun k => if E (k + 2) < 2048 then ef_ φ (E (k + 2)) else fun _ => false) (fun h hh => by
    by_cases e : E (h + 2) < 2048
    · rw [if_pos e]; exact ef_dn I.1 P O (I.2.2.2.2.2.2 _ (by omega) (by omega) e)
    · rw [if_neg e]; exact fun _ _ _ => rfl) (ls_r (fun j => decide (tb_V T j < 6 ∧ j ≠ 0)) 1024) ls_rn (fun i hi => by
    obtain ⟨a, b⟩ := ls_rm.mp hi
    have b' := of_decide_eq_true b
    have hal : al_ (tb_V T) i := ⟨a, b'.1⟩
    obtain ⟨h, h1, h2, h3, h4⟩ := cf_all P I O h0 _ i (Nat.lt_succ_self _) hal
    refine ⟨hal, (P.2.2 _ (I.1.2.1 i hal).1).1, h - 2, by omega, ?_⟩
    rw [show h - 2 + 2 = h from by omega, if_pos h3]
    exact h4)
  have : 2 ^ n ≤ 2 ^ 6 := Nat.pow_le_pow_right (by omega) hn6
  have e6 : (2 : Nat) ^ 6 = 64 := rfl
  have : 8 * (2 ^ n - 1) ≤ 8 * 63 := Nat.mul_le_mul_left _ (by omega)
  omega
end
section
/-! fix -/
theorem nd_map {f : Nat → Nat} : ∀ {l : List Nat}, l.Nodup → (∀ a b, a ∈ l → b ∈ l → f a = f b → a = b) → (l.map f).Nodup
  | [], _, _ => List.nodup_nil
  | x :: l, hn, hi => by
    have h := List.nodup_cons.mp hn
    rw [List.map_cons, List.nodup_cons]
    refine ⟨fun c => ?_, nd_map h.2 (fun a b ha hb => hi a b (by simp [ha]) (by simp [hb]))⟩
    obtain ⟨y, hy, e⟩ := List.mem_map.mp c
    have := hi y x (by simp [hy]) (by simp) e
    subst this
    exact h.1 hy
def gi_ (G : GN_) (im : Nat → Nat) : GN_ := (ga_n G, ga_r G, ga_s G, im, ga_w G)
def sb_v (V lev : Nat → Nat) (G : GN_) (K : Nat) : Nat → Nat := sm_n (fun k => if lev (V (ga_r G k)) < K then 1 else 0)
theorem sb_bd {n r K : Nat} {V L H va lv : Nat → Nat} {φ : Nat → BF_} {G : GN_} (S : Sm_ n V L H φ) (P : Pm_ n va lv) (O : Od_ 0 lv V L H) (g : Go_ V L H lv r G) (or : ok_ V (r / 2)) : sb_v V lv G K (ga_n G) ≤ 2 ^ K - 1 := by
  have e : sb_v V lv G K (ga_n G) = ((ls_r (fun k => decide (lv (V (ga_r G k)) < K)) (ga_n G)).map (ga_r G)).length := by
    rw [List.length_map, ls_rl]
    apply sm_ext
    intro j _
    by_cases c : lv (V (ga_r G j)) < K
    · rw [if_pos c, decide_eq_true c]; rfl
    · rw [if_neg c, decide_eq_false c]; rfl
  rw [e]
  have c := cf_count (m := 1) (K := K) S P (fun _ => ef_ φ r) (fun _ _ => ef_dn S P O or) _ (nd_map (l := ls_r (fun k => decide (lv (V (ga_r G k)) < K)) (ga_n G)) (f := ga_r G) ls_rn (fun a b ha hb hab => g.2.2.1 a b (ls_rm.mp ha).1 (ls_rm.mp hb).1 hab)) (fun i hi => by
    obtain ⟨k, hk, hki⟩ := List.mem_map.mp hi
    obtain ⟨k1, k2⟩ := ls_rm.mp hk
    have k2' := of_decide_eq_true k2
    subst hki
    have := g.2.1 k k1
    exact ⟨this.1, k2', 0, by omega, cf_reach S P O this.2 this.1⟩)
  omega
section
variable {n la li : Nat} {E hh va lv : Nat → Nat} {T : TN_} {C : CN_} {M : MN_} {G : GN_} {W : WN_} {S : SN_}
theorem xw_fix {r v b : Nat} {T0 : TN_} {φ0 : Nat → BF_} (P : Pm_ n va lv) (I0 : Ti_ n E 0 T0 φ0) (O0 : Od_ 0 lv (tb_V T0) (tb_L T0) (tb_H T0)) (g : Go_ (tb_V T0) (tb_L T0) (tb_H T0) lv r G) (or : ok_ (tb_V T0) (r / 2)) (hv : v < n) (hb : b < 2) :
    ∀ (m : Nat) (T : TN_) (φ : Nat → BF_) (im : Nat → Nat), m ≤ ga_n G → Ti_ n E 0 T φ → Od_ 0 lv (tb_V T) (tb_L T) (tb_H T) → Xt_ T0 φ0 T φ → im 0 = 0 → (∀ k, m ≤ k → k < ga_n G → ok_ (tb_V T) (im (ga_r G k) / 2) ∧ ∀ s, ef_ φ (im (ga_r G k)) s = φ0 (ga_r G k) (fu_u s v (decide (b = 1)))) → tc_ 0 (tb_V T) + sb_v (tb_V T0) lv G (lv v) m ≤ 1023 →
    ∃ e T' φ' im', Ti_ n E 0 T' φ' ∧ Od_ 0 lv (tb_V T') (tb_L T') (tb_H T') ∧ Xt_ T0 φ0 T' φ' ∧ im' 0 = 0 ∧ ok_ (tb_V T') (e / 2) ∧ (∀ s, ef_ φ' e s = ef_ φ0 r (fu_u s v (decide (b = 1)))) ∧ tc_ 0 (tb_V T') ≤ tc_ 0 (tb_V T) + sb_v (tb_V T0) lv G (lv v) m ∧
      ∀ post : Int32 → SX → Prop, post (nI e) (st_ n la li E hh va lv T' C M (gi_ G im') W S) → wX_fix_21 post (nI r) (nI b) (nI (lv v)) (m + 1) (nI m - 1) (nI n) (nI la) (nI li) (nI (tb_fh T)) (nI (tb_lo T)) (nI (tb_to T)) (nI (ma_F M)) (nI (ma_G M)) (nI (ma_H M)) (nI (ma_n M)) (nI (ga_n (gi_ G im))) (nI (wo_n W)) (en_E E) (en_I hh) (en_I va) (en_I lv) (en_V (tb_V T)) (en_I (tb_L T)) (en_I (tb_H T)) (en_I (tb_R T)) (en_I (tb_X T)) (en_I (tb_D T)) (en_I (tb_Q T)) (en_I (ca_F C)) (en_I (ca_G C)) (en_I (ca_H C)) (en_I (ca_R C)) (en_I (ma_f M)) (en_I (ma_g M)) (en_I (ma_h M)) (en_I (ma_v M)) (en_I (ma_p M)) (en_I (ma_l M)) (en_I (ma_b M)) (en_I (ga_r (gi_ G im))) (en_I (ga_s (gi_ G im))) (en_I (ga_i (gi_ G im))) (en_I (ga_w (gi_ G im))) (en_I (wo_w W)) (en_I (si_z S)) (en_I (si_c S)) := by
  have S0 := I0.1
  have hn6 := P.1.2.1
  have hlr := ef_lt or
  have hlv := (P.2.2 v hv).1
  have z0 := S0.1.2.1
  -- the image of a child's edge
  have edge : ∀ (m : Nat) (T : TN_) (φ : Nat → BF_) (im : Nat → Nat) (c : Nat), Ti_ n E 0 T φ → Xt_ T0 φ0 T φ → im 0 = 0 → (∀ k, m ≤ k → k < ga_n G → ok_ (tb_V T) (im (ga_r G k) / 2) ∧ ∀ s, ef_ φ (im (ga_r G k)) s = φ0 (ga_r G k) (fu_u s v (decide (b = 1)))) → (c / 2 = 0 ∨ ∃ k, m ≤ k ∧ k < ga_n G ∧ ga_r G k = c / 2) → ok_ (tb_V T) ((im (c / 2) ^^^ (c % 2)) / 2) ∧ ∀ s, ef_ φ (im (c / 2) ^^^ (c % 2)) s = ef_ φ0 c (fu_u s v (decide (b = 1))) := by
    intro m T φ im c I X h0 hp hc
    have hm : c % 2 < 2 := Nat.mod_lt _ (by omega)
    rw [xr_d hm]
    rcases hc with e | ⟨k, k1, k2, k3⟩
    · rw [e, h0]
      refine ⟨Or.inl rfl, fun s => ?_⟩
      rw [ef_x hm, (ef_0 I.1 s).1]
      unfold ef_
      rw [e, S0.1.2.2]
    · obtain ⟨a1, a2⟩ := hp k k1 k2
      rw [k3] at a1 a2
      refine ⟨a1, fun s => ?_⟩
      rw [ef_x hm, a2 s]
      rfl
  intro m
  induction m with
  | zero =>
    intro T φ im hm I O X h0 hp hroom
    have hr : r / 2 = 0 ∨ ∃ k, 0 ≤ k ∧ k < ga_n G ∧ ga_r G k = r / 2 := g.2.2.2.2.2.1.imp id (fun ⟨k, a, b⟩ => ⟨k, by omega, a, b⟩)
    obtain ⟨e1, e2⟩ := edge 0 T φ im r I X h0 hp hr
    refine ⟨im (r / 2) ^^^ (r % 2), T, φ, im, I, O, X, h0, e1, e2, by omega, fun post hpost => ?_⟩
    refine br_t (by decide) ?_
    rw [nn_half (by omega), nI_clamp (n := r / 2) (by omega), nn_low (by omega)]
    refine ⟨vp_in_nI (by omega) (by omega), ?_⟩
    rw [show en_I (ga_i (gi_ G im)) (r / 2) ^^^ nI (r % 2) = nI (im (r / 2) ^^^ (r % 2)) from nx_xor _ _]
    exact hpost
  | succ m ih =>
    intro T φ im hm I O X h0 hp hroom
    have hgl := g.1
    obtain ⟨hal, hrh⟩ := g.2.1 m (by omega)
    generalize hnode : ga_r G m = x at *
    have hx := hal.1
    obtain ⟨xv, xl, xh, -, -, o1, o2⟩ := S0.2.1 x hal
    obtain ⟨lo1, lo2⟩ := O0 x hal (Nat.zero_le _)
    obtain ⟨alT, eV, eL, eH, -⟩ := X.1 x hal
    have lx := (P.2.2 _ xv).1
    have esb : sb_v (tb_V T0) lv G (lv v) (m + 1) = sb_v (tb_V T0) lv G (lv v) m + (if lv (tb_V T0 x) < lv v then 1 else 0) := by
      unfold sb_v; simp only [sm_n]; rw [hnode]
    rw [esb] at hroom
    -- going on with one image more
    have go : ∀ (T1 : TN_) (φ1 : Nat → BF_) (y : Nat), Ti_ n E 0 T1 φ1 → Od_ 0 lv (tb_V T1) (tb_L T1) (tb_H T1) → Xt_ T φ T1 φ1 → ok_ (tb_V T1) (y / 2) → (∀ s, ef_ φ1 y s = φ0 x (fu_u s v (decide (b = 1)))) → tc_ 0 (tb_V T1) ≤ tc_ 0 (tb_V T) + (if lv (tb_V T0 x) < lv v then 1 else 0) →
        ∃ e T' φ' im', Ti_ n E 0 T' φ' ∧ Od_ 0 lv (tb_V T') (tb_L T') (tb_H T') ∧ Xt_ T0 φ0 T' φ' ∧ im' 0 = 0 ∧ ok_ (tb_V T') (e / 2) ∧ (∀ s, ef_ φ' e s = ef_ φ0 r (fu_u s v (decide (b = 1)))) ∧ tc_ 0 (tb_V T') ≤ tc_ 0 (tb_V T) + (sb_v (tb_V T0) lv G (lv v) m + (if lv (tb_V T0 x) < lv v then 1 else 0)) ∧
        ∀ post : Int32 → SX → Prop, post (nI e) (st_ n la li E hh va lv T' C M (gi_ G im') W S) → wX_fix_21 post (nI r) (nI b) (nI (lv v)) (m + 1) (nI m - 1) (nI n) (nI la) (nI li) (nI (tb_fh T1)) (nI (tb_lo T1)) (nI (tb_to T1)) (nI (ma_F M)) (nI (ma_G M)) (nI (ma_H M)) (nI (ma_n M)) (nI (ga_n (gi_ G (fu_u im x y)))) (nI (wo_n W)) (en_E E) (en_I hh) (en_I va) (en_I lv) (en_V (tb_V T1)) (en_I (tb_L T1)) (en_I (tb_H T1)) (en_I (tb_R T1)) (en_I (tb_X T1)) (en_I (tb_D T1)) (en_I (tb_Q T1)) (en_I (ca_F C)) (en_I (ca_G C)) (en_I (ca_H C)) (en_I (ca_R C)) (en_I (ma_f M)) (en_I (ma_g M)) (en_I (ma_h M)) (en_I (ma_v M)) (en_I (ma_p M)) (en_I (ma_l M)) (en_I (ma_b M)) (en_I (ga_r (gi_ G (fu_u im x y)))) (en_I (ga_s (gi_ G (fu_u im x y)))) (en_I (ga_i (gi_ G (fu_u im x y)))) (en_I (ga_w (gi_ G (fu_u im x y)))) (en_I (wo_w W)) (en_I (si_z S)) (en_I (si_c S)) := by
      intro T1 φ1 y I1 O1 X1 oy sy ht
      obtain ⟨e, T', φ', im', a1, a2, a3, a4, a5, a6, a7, a8⟩ := ih T1 φ1 (fu_u im x y) (by omega) I1 O1 (X.trans X1) (by rw [fu_n (fun e => S0.ne0 hal e.symm)]; exact h0) (fun k k1 k2 => by
        by_cases e : k = m
        · rw [e, hnode, fu_s]; exact ⟨oy, sy⟩
        · have hne : ga_r G k ≠ x := fun c => by
            have := g.2.2.1 k m k2 (by omega) (by rw [c, hnode])
            exact e this
          rw [fu_n hne]
          obtain ⟨p1, p2⟩ := hp k (by omega) k2
          exact ⟨X1.ok p1, fun s => by rw [X1.ef p1]; exact p2 s⟩) (by omega)
      exact ⟨e, T', φ', im', a1, a2, a3, a4, a5, a6, by omega, a8⟩
    have dec : nI m + (-1) = nI m - 1 := by rw [Int32.sub_eq_add_neg]
    have vx : vp_in (nI x) 1024 := vp_in_nI hx (by omega)
    have eVx : en_V (tb_V T) x = nI (tb_V T0 x) := by rw [en_Vk (by omega), eV]
    have eLx : en_I (tb_L T) x = nI (tb_L T0 x) := by show nI _ = _; rw [eL]
    have eHx : en_I (tb_H T) x = nI (tb_H T0 x) := by show nI _ = _; rw [eH]
    -- children are done
    have child : ∀ c, lv (tb_V T0 x) < lv (tb_V T0 (c / 2)) → In_ G (c / 2) → (c / 2 = 0 ∨ ∃ k, m + 1 ≤ k ∧ k < ga_n G ∧ ga_r G k = c / 2) := fun c hc hin => hin.imp id (fun ⟨k, k1, k2⟩ => by
      refine ⟨k, ?_, k1, k2⟩
      apply Classical.byContradiction
      intro h
      have : lv (tb_V T0 (ga_r G k)) ≤ lv (tb_V T0 (ga_r G m)) := by
        by_cases e : k = m
        · rw [e]; exact Nat.le_refl _
        · exact g.2.2.2.1 k m (by omega) (by omega)
      rw [k2, hnode] at this
      omega)
    obtain ⟨in1, in2⟩ := g.2.2.2.2.2.2 m (by omega)
    rw [hnode] at in1 in2
    by_cases c1 : lv (tb_V T0 x) ≤ lv v
    · by_cases c2 : lv (tb_V T0 x) = lv v
      · have hvx : tb_V T0 x = v := P.inj xv hv c2
        rcases (by omega : b = 0 ∨ b = 1) with e | e
        · obtain ⟨e', T', φ', im', a1, a2, a3, a4, a5, a6, a7, a8⟩ := go T φ (tb_L T0 x) I O (Xt_.refl _ _) (X.ok o1) (fun s => by
            rw [X.ef o1, ← S0.fal hal, hvx, e]; rfl) (by omega)
          refine ⟨e', T', φ', im', a1, a2, a3, a4, a5, a6, by rw [esb]; exact a7, fun post hpost => ?_⟩
          rw [nI_pred m]
          refine br_f (nI_pos (by omega)) ⟨vp_in_nI (by omega) (by omega), nm_r (e' := nI x) (by rw [nI_clamp (n := m) (by omega), ← hnode]; rfl) ?_⟩
          rw [nI_clamp (n := x) (by omega), eVx, nI_clamp (n := tb_V T0 x) (by omega)]
          refine ⟨vx, vp_in_nI (by omega) (by omega), nm_r (e' := nI (lv (tb_V T0 x))) rfl ⟨vx, nm_r eLx ⟨vx, nm_r eHx ?_⟩⟩⟩
          rw [nn_half (e := tb_L T0 x) (by omega), nn_half (e := tb_H T0 x) (by omega), nI_clamp (n := tb_L T0 x / 2) (by omega), nI_clamp (n := tb_H T0 x / 2) (by omega), nn_low (e := tb_L T0 x) (by omega), nn_low (e := tb_H T0 x) (by omega)]
          rw [show nI x <<< ((1 : Int32) &&& 31) = nI (2 * x) from by rw [pk_shlN _ 1 (by decide) (by omega)]; exact congrArg nI (by omega)]
          exact pk_le _ _ (fun _ => pk_eq _ _ (fun _ => pk_eq b 0 (fun _ => ⟨vx, nm_r en_uI (nm_r dec (a8 post hpost))⟩) (fun z => absurd e z)) (fun z => absurd c2 z) rfl rfl (by omega) (by omega)) (fun z => by omega) rfl rfl (by omega) (by omega)
        · obtain ⟨e', T', φ', im', a1, a2, a3, a4, a5, a6, a7, a8⟩ := go T φ (tb_H T0 x) I O (Xt_.refl _ _) (X.ok o2) (fun s => by
            rw [X.ef o2, ← S0.tru hal, hvx, e]; rfl) (by omega)
          refine ⟨e', T', φ', im', a1, a2, a3, a4, a5, a6, by rw [esb]; exact a7, fun post hpost => ?_⟩
          rw [nI_pred m]
          refine br_f (nI_pos (by omega)) ⟨vp_in_nI (by omega) (by omega), nm_r (e' := nI x) (by rw [nI_clamp (n := m) (by omega), ← hnode]; rfl) ?_⟩
          rw [nI_clamp (n := x) (by omega), eVx, nI_clamp (n := tb_V T0 x) (by omega)]
          refine ⟨vx, vp_in_nI (by omega) (by omega), nm_r (e' := nI (lv (tb_V T0 x))) rfl ⟨vx, nm_r eLx ⟨vx, nm_r eHx ?_⟩⟩⟩
          rw [nn_half (e := tb_L T0 x) (by omega), nn_half (e := tb_H T0 x) (by omega), nI_clamp (n := tb_L T0 x / 2) (by omega), nI_clamp (n := tb_H T0 x / 2) (by omega), nn_low (e := tb_L T0 x) (by omega), nn_low (e := tb_H T0 x) (by omega)]
          rw [show nI x <<< ((1 : Int32) &&& 31) = nI (2 * x) from by rw [pk_shlN _ 1 (by decide) (by omega)]; exact congrArg nI (by omega)]
          exact pk_le _ _ (fun _ => pk_eq _ _ (fun _ => pk_eq b 0 (fun z => by omega) (fun _ => ⟨vx, nm_r en_uI (nm_r dec (a8 post hpost))⟩)) (fun z => absurd c2 z) rfl rfl (by omega) (by omega)) (fun z => by omega) rfl rfl (by omega) (by omega)
      · have c3 : lv (tb_V T0 x) < lv v := by omega
        have hvx : tb_V T0 x ≠ v := fun e => by rw [e] at c3; omega
        obtain ⟨d1, d2⟩ := edge (m + 1) T φ im (tb_L T0 x) I X h0 hp (child _ lo1 in1)
        obtain ⟨d3, d4⟩ := edge (m + 1) T φ im (tb_H T0 x) I X h0 hp (child _ lo2 in2)
        have lvl : ∀ c c', ok_ (tb_V T0) (c / 2) → lv (tb_V T0 x) < lv (tb_V T0 (c / 2)) → ok_ (tb_V T) (c' / 2) → (∀ s, ef_ φ c' s = ef_ φ0 c (fu_u s v (decide (b = 1)))) → lv (tb_V T0 x) < lv (tb_V T (c' / 2)) := fun c c' oc hl oc' hs =>
          I.1.lvl (K := lv (tb_V T0 x) + 1) P.1.2.2.1 (by omega) oc' (fun s t hst => by
            rw [hs, hs]
            exact S0.edep P.1.2.2.2 O0 oc (Nat.zero_le _) (fun w hw hlw => by
              by_cases e : w = v
              · rw [e, fu_s, fu_s]
              · rw [fu_n e, fu_n e]; exact hst w hw (by omega)))
        obtain ⟨y, T1, φ1, I1, O1, y1, y2, X1, tc1, wk⟩ := xm_mk (la := la) (li := li) (hh := hh) (C := C) (M := M) (G := gi_ G im) (W := W) (S := S) (v := tb_V T0 x) P I O xv d1 d3 (lvl _ _ o1 lo1 d1 d2) (lvl _ _ o2 lo2 d3 d4) (by rw [if_pos c3] at hroom; omega)
        obtain ⟨e', T', φ', im', a1, a2, a3, a4, a5, a6, a7, a8⟩ := go T1 φ1 y I1 O1 X1 y1 (fun s => by
          rw [y2 s, d2, d4, S0.2.2.1 x hal, fu_n hvx]) (by rw [if_pos c3]; exact tc1)
        refine ⟨e', T', φ', im', a1, a2, a3, a4, a5, a6, by rw [esb]; exact a7, fun post hpost => ?_⟩
        rw [nI_pred m]
        refine br_f (nI_pos (by omega)) ⟨vp_in_nI (by omega) (by omega), nm_r (e' := nI x) (by rw [nI_clamp (n := m) (by omega), ← hnode]; rfl) ?_⟩
        rw [nI_clamp (n := x) (by omega), eVx, nI_clamp (n := tb_V T0 x) (by omega)]
        refine ⟨vx, vp_in_nI (by omega) (by omega), nm_r (e' := nI (lv (tb_V T0 x))) rfl ⟨vx, nm_r eLx ⟨vx, nm_r eHx ?_⟩⟩⟩
        rw [nn_half (e := tb_L T0 x) (by omega), nn_half (e := tb_H T0 x) (by omega), nI_clamp (n := tb_L T0 x / 2) (by omega), nI_clamp (n := tb_H T0 x / 2) (by omega), nn_low (e := tb_L T0 x) (by omega), nn_low (e := tb_H T0 x) (by omega)]
        rw [show nI x <<< ((1 : Int32) &&& 31) = nI (2 * x) from by rw [pk_shlN _ 1 (by decide) (by omega)]; exact congrArg nI (by omega)]
        refine pk_le _ _ (fun _ => pk_eq _ _ (fun z => absurd z c2) (fun _ => ⟨vp_in_nI (by omega) (by omega), nm_r (e' := nI (im (tb_L T0 x / 2) ^^^ (tb_L T0 x % 2))) (nx_xor _ _) ⟨vp_in_nI (by omega) (by omega), nm_r (e' := nI (im (tb_H T0 x / 2) ^^^ (tb_H T0 x % 2))) (nx_xor _ _) ⟨vx, ?_⟩⟩⟩) rfl rfl (by omega) (by omega)) (fun z => by omega) rfl rfl (by omega) (by omega)
        refine wk _ ?_
        dsimp only [st_]
        exact ⟨vx, nm_r en_uI (nm_r dec (a8 post hpost))⟩
    · obtain ⟨e', T', φ', im', a1, a2, a3, a4, a5, a6, a7, a8⟩ := go T φ (2 * x) I O (Xt_.refl _ _) (by rw [show 2 * x / 2 = x from by omega]; exact Or.inr alT) (fun s => by
        unfold ef_
        rw [show 2 * x / 2 = x from by omega, show 2 * x % 2 = 0 from by omega, X.2 x (Or.inr hal)]
        have : φ0 x s = φ0 x (fu_u s v (decide (b = 1))) := S0.dep P.1.2.2.2 O0 7 x (Or.inr hal) (Nat.zero_le _) (by omega) _ _ (fun w _ hw => by rw [fu_n (fun e => by subst e; omega)])
        rw [← this]
        simp) (by omega)
      refine ⟨e', T', φ', im', a1, a2, a3, a4, a5, a6, by rw [esb]; exact a7, fun post hpost => ?_⟩
      rw [nI_pred m]
      refine br_f (nI_pos (by omega)) ⟨vp_in_nI (by omega) (by omega), nm_r (e' := nI x) (by rw [nI_clamp (n := m) (by omega), ← hnode]; rfl) ?_⟩
      rw [nI_clamp (n := x) (by omega), eVx, nI_clamp (n := tb_V T0 x) (by omega)]
      refine ⟨vx, vp_in_nI (by omega) (by omega), nm_r (e' := nI (lv (tb_V T0 x))) rfl ⟨vx, nm_r eLx ⟨vx, nm_r eHx ?_⟩⟩⟩
      rw [nn_half (e := tb_L T0 x) (by omega), nn_half (e := tb_H T0 x) (by omega), nI_clamp (n := tb_L T0 x / 2) (by omega), nI_clamp (n := tb_H T0 x / 2) (by omega), nn_low (e := tb_L T0 x) (by omega), nn_low (e := tb_H T0 x) (by omega)]
      rw [show nI x <<< ((1 : Int32) &&& 31) = nI (2 * x) from by rw [pk_shlN _ 1 (by decide) (by omega)]; exact congrArg nI (by omega)]
      exact pk_le _ _ (fun z => by omega) (fun _ => ⟨vx, nm_r en_uI (nm_r dec (a8 post hpost))⟩) rfl rfl (by omega) (by omega)
theorem xm_fix {r v b : Nat} {φ : Nat → BF_} (P : Pm_ n va lv) (I : Ti_ n E 0 T φ) (O : Od_ 0 lv (tb_V T) (tb_L T) (tb_H T)) (K : Ca_ (tb_V T) φ C) (hs : ∀ j, ga_s G j = 0) (hi0 : ga_i G 0 = 0) (or : ok_ (tb_V T) (r / 2)) (hv : v < n) (hb : b < 2) (hroom : tc_ 0 (tb_V T) + 2 ^ lv v ≤ 1024) :
    ∃ e T' G' φ', Ti_ n E 0 T' φ' ∧ Od_ 0 lv (tb_V T') (tb_L T') (tb_H T') ∧ Ca_ (tb_V T') φ' C ∧ Xt_ T φ T' φ' ∧ ok_ (tb_V T') (e / 2) ∧ (∀ s, ef_ φ' e s = ef_ φ r (fu_u s v (decide (b = 1)))) ∧ tc_ 0 (tb_V T') + 1 ≤ tc_ 0 (tb_V T) + 2 ^ lv v ∧ (∀ j, ga_s G' j = 0) ∧ ga_i G' 0 = 0 ∧ ga_w G' = ga_w G ∧
      ∀ post : Int32 → SX → Prop, post (nI e) (st_ n la li E hh va lv T' C M G' W S) → wpX_fix post (st_ n la li E hh va lv T C M G W S) (nI r) (nI v) (nI b) := by
  have hn6 := P.1.2.1
  obtain ⟨G1, g, ⟨gi1, gw1⟩, w1⟩ := xm_gather (la := la) (li := li) (E := E) (hh := hh) (C := C) (M := M) (W := W) (S := S) P I.1 hs or
  have bd := sb_bd (K := lv v) I.1 P O g or
  have p1 : 0 < 2 ^ lv v := Nat.two_pow_pos _
  obtain ⟨e, T', φ', im', a1, a2, a3, a4, a5, a6, a7, a8⟩ := xw_fix (la := la) (li := li) (hh := hh) (C := C) (M := M) (W := W) (S := S) P I O g or hv hb (ga_n G1) T φ (ga_i G1) (Nat.le_refl _) I O (Xt_.refl _ _) (by rw [gi1]; exact hi0) (fun k h1 h2 => by omega) (by omega)
  refine ⟨e, T', gi_ G1 im', φ', a1, a2, a3.ca K, a3, a5, a6, by omega, g.2.2.2.2.1, a4, gw1, fun post hp => ?_⟩
  unfold wpX_fix st_
  dsimp only
  refine w1 _ ?_
  dsimp only [st_]
  rw [nI_clamp (n := v) (by omega)]
  exact ⟨vp_in_nI (by omega) (by omega), nm_r (e' := nI (lv v)) rfl (nm_e ⟨_, a8 post hp⟩)⟩
end
end
section
/-! rewrite: a node of x with a child of y becomes a node of y -/
def Sw_ (l x y : Nat) (lv : Nat → Nat) (Wl pend : Nat → Prop) (T : TN_) : Prop :=
  (∀ j, al_ (tb_V T) j → ∀ c, (c = tb_L T j / 2 ∨ c = tb_H T j / 2) → lv (tb_V T j) < lv (tb_V T c) ∨ (tb_V T j = x ∧ tb_V T c = y ∧ pend j)) ∧
  (∀ j, pend j → al_ (tb_V T) j ∧ tb_V T j = x ∧ ¬ Wl (tb_L T j / 2) ∧ ¬ Wl (tb_H T j / 2)) ∧
  (∀ j, al_ (tb_V T) j → tb_V T j = y → ¬ Wl j → ∀ c, (c = tb_L T j / 2 ∨ c = tb_H T j / 2) → l + 2 ≤ lv (tb_V T c)) ∧
  (∀ j, al_ (tb_V T) j → ∀ c, (c = tb_L T j / 2 ∨ c = tb_H T j / 2) → tb_V T c = x → (tb_V T (tb_L T c / 2) = y ∨ tb_V T (tb_H T c / 2) = y) → lv (tb_V T j) < l) ∧
  (∀ j, al_ (tb_V T) j → tb_R T j = 0 → l ≤ lv (tb_V T j))
/-- the order of the levels about x and y -/
def Lx_ (n l x y : Nat) (lv : Nat → Nat) : Prop := x < n ∧ y < n ∧ lv x = l + 1 ∧ lv y = l ∧ l + 2 ≤ n ∧ n ≤ 6 ∧ lv 6 = 6 ∧ (∀ w, w ≤ 6 → lv w ≤ 6) ∧ (∀ w, w < n → lv w = l + 1 → w = x) ∧ (∀ w, w < n → lv w = l → w = y)
theorem Sw_.od {n l x y : Nat} {lv : Nat → Nat} {Wl pend : Nat → Prop} {T : TN_} (h : Sw_ l x y lv Wl pend T) (X : Lx_ n l x y lv) : Od_ (l + 2) lv (tb_V T) (tb_L T) (tb_H T) := by
  intro i hi hK
  have hx := X.2.2.1
  refine ⟨(h.1 i hi _ (Or.inl rfl)).elim id (fun z => ?_), (h.1 i hi _ (Or.inr rfl)).elim id (fun z => ?_)⟩
  · rw [z.1] at hK; omega
  · rw [z.1] at hK; omega
/-- the four grandchildren -/
theorem sw_cd {n l x y : Nat} {E lv : Nat → Nat} {Wl pend : Nat → Prop} {T : TN_} {φ : Nat → BF_} (h : Sw_ l x y lv Wl pend T) (X : Lx_ n l x y lv) (S : Sm_ n (tb_V T) (tb_L T) (tb_H T) φ) {k f b : Nat} (hk : pend k) (hf : f = tb_L T k ∨ f = tb_H T k) (hb : b < 2) :
    ok_ (tb_V T) (cd_ (tb_V T) (tb_L T) (tb_H T) f y b / 2) ∧ l + 2 ≤ lv (tb_V T (cd_ (tb_V T) (tb_L T) (tb_H T) f y b / 2)) ∧ ∀ s, ef_ φ (cd_ (tb_V T) (tb_L T) (tb_H T) f y b) s = ef_ φ f (fu_u s y (decide (b = 1))) := by
  obtain ⟨hal, hvk, w1, w2⟩ := h.2.1 k hk
  obtain ⟨-, -, -, -, -, o1, o2⟩ := S.2.1 k hal
  obtain ⟨xn, yn, lx, ly, ln, n6, l6, hl, ux, uy⟩ := X
  have hfo : ok_ (tb_V T) (f / 2) := by
    rcases hf with e | e
    · rw [e]; exact o1
    · rw [e]; exact o2
  have hwl : ¬ Wl (f / 2) := by
    rcases hf with e | e
    · rw [e]; exact w1
    · rw [e]; exact w2
  have hor := h.1 k hal (f / 2) (hf.imp (fun e => by rw [e]) (fun e => by rw [e]))
  have hm : f % 2 < 2 := Nat.mod_lt _ (by omega)
  unfold cd_
  by_cases c : tb_V T (f / 2) = y
  · have hfa : al_ (tb_V T) (f / 2) := hfo.elim (fun z => by rw [z, S.1.2.1] at c; omega) id
    obtain ⟨-, -, -, -, -, p1, p2⟩ := S.2.1 _ hfa
    have q := h.2.2.1 _ hfa c hwl
    rw [if_pos c]
    rcases (by omega : b = 0 ∨ b = 1) with e | e
    · subst e
      rw [if_pos rfl, xr_d hm]
      refine ⟨p1, q _ (Or.inl rfl), fun s => ?_⟩
      rw [ef_x hm, ← S.fal hfa, c]
      rfl
    · subst e
      rw [if_neg (by decide), xr_d hm]
      refine ⟨p2, q _ (Or.inr rfl), fun s => ?_⟩
      rw [ef_x hm, ← S.tru hfa, c]
      rfl
  · rw [if_neg c]
    have hlev : l + 2 ≤ lv (tb_V T (f / 2)) := by
      rcases hor with z | z
      · rw [hvk, lx] at z; omega
      · exact absurd z.2.1 c
    refine ⟨hfo, hlev, fun s => ?_⟩
    exact S.edep hl (h.od ⟨xn, yn, lx, ly, ln, n6, l6, hl, ux, uy⟩) hfo hlev (fun w _ hw => by rw [fu_n (fun e => by subst e; omega)])
section
variable {n la li : Nat} {E hh va lv : Nat → Nat} {T : TN_} {C : CN_} {M : MN_} {G : GN_} {W : WN_} {S : SN_}
/-- make of (x, a, b) below both levels, node k out of the chains -/
theorem sw_make {l x y k a b : Nat} {Wl pend : Nat → Prop} {φ : Nat → BF_} (h : Od_ (l + 2) lv (tb_V T) (tb_L T) (tb_H T)) (X : Lx_ n l x y lv) (I : Ti_ n E k T φ) (hk : al_ (tb_V T) k) (hky : tb_V T (tb_L T k / 2) = y ∨ tb_V T (tb_H T k / 2) = y) (ha : ok_ (tb_V T) (a / 2)) (hb : ok_ (tb_V T) (b / 2)) (la' : l + 2 ≤ lv (tb_V T (a / 2))) (lb : l + 2 ≤ lv (tb_V T (b / 2))) (room : tc_ 0 (tb_V T) < 1023) :
    ∃ r T' φ', Ti_ n E k T' φ' ∧ Od_ (l + 2) lv (tb_V T') (tb_L T') (tb_H T') ∧ ok_ (tb_V T') (r / 2) ∧ (∀ s : Nat → Bool, ef_ φ' r s = if s x = true then ef_ φ b s else ef_ φ a s) ∧ Xt_ T φ T' φ' ∧ (∀ j, al_ (tb_V T') j → al_ (tb_V T) j ∨ (tb_V T' j = x ∧ tb_L T' j / 2 = a / 2 ∧ tb_H T' j / 2 = b / 2)) ∧ tc_ 0 (tb_V T') ≤ tc_ 0 (tb_V T) + 1 ∧ r % 2 = a % 2 ∧ l + 1 ≤ lv (tb_V T' (r / 2)) ∧ (tb_V T' (r / 2) = x → tb_L T' (r / 2) / 2 = a / 2 ∧ tb_H T' (r / 2) / 2 = b / 2) ∧
      ∀ post : Int32 → SX → Prop, post (nI r) (st_ n la li E hh va lv T' C M G W S) → wpX_make post (st_ n la li E hh va lv T C M G W S) (nI x) (nI a) (nI b) := by
  have S0 := I.1
  have XX := X
  obtain ⟨xn, yn, lx, ly, ln, n6, l6, hl, ux, uy⟩ := X
  have dep : ∀ e, ok_ (tb_V T) (e / 2) → l + 2 ≤ lv (tb_V T (e / 2)) → ∀ s t : Nat → Bool, (∀ w, w < n → l + 2 ≤ lv w → s w = t w) → ef_ φ e s = ef_ φ e t := fun e he hle s t hst =>
    S0.edep hl h he hle (fun w hw hlw => hst w hw (by omega))
  have ind : ∀ e, ok_ (tb_V T) (e / 2) → l + 2 ≤ lv (tb_V T (e / 2)) → ∀ s z, ef_ φ e (fu_u s x z) = ef_ φ e s := fun e he hle s z =>
    dep e he hle _ _ (fun w _ hw => fu_n (fun c => by subst c; omega))
  obtain ⟨r, T', φ', I', r1, r2, Xx, nw, tc, rm, wk⟩ := xm_make (la := la) (li := li) (hh := hh) (va := va) (lv := lv) (C := C) (M := M) (G := G) (W := W) (S := S) I (Or.inr hk) xn ha hb (ind a ha la') (ind b hb lb) room (fun a' b' j h1 h2 h3 h4 h5 => by
    have u := S0.uni hl h xn (by omega) (by rw [h1]; exact ha) (by rw [h2]; exact hb) (by rw [h1]; omega) (by rw [h2]; omega) h3 h4 h5
    refine ⟨u, fun e => ?_⟩
    subst e
    rcases hky with z | z
    · rw [u.2.1, h1] at z
      rw [z] at la'; omega
    · rw [u.2.2, h2] at z
      rw [z] at lb; omega)
  have e0 := I.1.1.2.1
  have e0' := I'.1.1.2.1
  have dep' : ∀ s t : Nat → Bool, (∀ w, w < n → l + 1 ≤ lv w → s w = t w) → ef_ φ' r s = ef_ φ' r t := fun s t hst => by
    rw [r2, r2, hst x xn (by omega), dep a ha la' s t (fun w hw hlw => hst w hw (by omega)), dep b hb lb s t (fun w hw hlw => hst w hw (by omega))]
  have rl : l + 1 ≤ lv (tb_V T' (r / 2)) := I'.1.lvl l6 (by omega) r1 dep'
  refine ⟨r, T', φ', I', ?_, r1, r2, Xx, fun j hj => (nw j hj).imp id (fun z => ⟨z.1, z.2.1, z.2.2.1⟩), tc, rm, rl, fun hv => ?_, wk⟩
  · intro i hi hK
    rcases nw i hi with z | ⟨z1, z2, z3, -⟩
    · obtain ⟨-, x2, x3, x4, -⟩ := Xx.1 i z
      obtain ⟨-, -, -, -, -, o1, o2⟩ := S0.2.1 i z
      rw [x2] at hK
      rw [x2, x3, x4, Xx.V e0 e0' o1, Xx.V e0 e0' o2]
      exact h i z hK
    · rw [z1] at hK; omega
  · have ral : al_ (tb_V T') (r / 2) := r1.elim (fun z => by rw [z, e0'] at hv; omega) id
    obtain ⟨-, -, -, -, -, o1, o2⟩ := I'.1.2.1 _ ral
    have hm : r % 2 < 2 := Nat.mod_lt _ (by omega)
    have ef1 : ∀ s, φ' (r / 2) s = (ef_ φ' r s ^^ decide (r % 2 = 1)) := fun s => by unfold ef_; rw [Bool.xor_assoc, Bool.xor_self, Bool.xor_false]
    have ea : ef_ φ' a = ef_ φ a := Xx.ef ha
    have eb : ef_ φ' b = ef_ φ b := Xx.ef hb
    have hL : tb_L T' (r / 2) = a ^^^ (r % 2) := I'.1.can o1 (by rw [xr_d hm]; exact Xx.ok ha) (fun s => by
      rw [← I'.1.fal ral, hv, ef1, r2, fu_s, if_neg (by decide), ind a ha la', ef_x hm, ea])
    have hH : tb_H T' (r / 2) = b ^^^ (r % 2) := I'.1.can o2 (by rw [xr_d hm]; exact Xx.ok hb) (fun s => by
      rw [← I'.1.tru ral, hv, ef1, r2, fu_s, if_pos rfl, ind b hb lb, ef_x hm, eb])
    rw [hL, hH, xr_d hm, xr_d hm]
    exact ⟨rfl, rfl⟩
theorem xm_rewrite {l x y k : Nat} {Wl pend : Nat → Prop} {φ : Nat → BF_} (h : Sw_ l x y lv Wl pend T) (X : Lx_ n l x y lv) (I : Ti_ n E 0 T φ) (hp : pend k) (hwl : ∀ j, pend j → Wl j) (hwa : ∀ j, Wl j → al_ (tb_V T) j ∧ lv (tb_V T j) ≤ l + 1) (hky : tb_V T (tb_L T k / 2) = y ∨ tb_V T (tb_H T k / 2) = y) (room : tc_ 0 (tb_V T) + 2 ≤ 1023) :
    ∃ T' φ', Ti_ n E 0 T' φ' ∧ Sw_ l x y lv Wl (fun j => pend j ∧ j ≠ k) T' ∧ (∀ j, ok_ (tb_V T) j → ok_ (tb_V T') j ∧ φ' j = φ j) ∧ (∀ j, al_ (tb_V T) j → j ≠ k → tb_V T' j = tb_V T j) ∧ tb_V T' k = y ∧ tc_ 0 (tb_V T') ≤ tc_ 0 (tb_V T) + 2 ∧
      ∀ post : SX → Prop, post (st_ n la li E hh va lv T' C M G W S) → wpX_rewrite post (st_ n la li E hh va lv T C M G W S) (nI k) (nI x) (nI y) := by
  have XX := X
  obtain ⟨xn, yn, lx, ly, ln, n6, l6, hl, ux, uy⟩ := X
  have S0 := I.1
  obtain ⟨hal, hvk, wk1, wk2⟩ := h.2.1 k hp
  obtain ⟨-, bl, bh, ev, lne, o1, o2⟩ := S0.2.1 k hal
  have hkl := hal.1
  -- grandchildren
  obtain ⟨a1, a2, a3⟩ := sw_cd (E := E) h XX S0 hp (Or.inl rfl) (b := 0) (by omega)
  obtain ⟨b1, b2, b3⟩ := sw_cd (E := E) h XX S0 hp (Or.inl rfl) (b := 1) (by omega)
  obtain ⟨c1, c2, c3⟩ := sw_cd (E := E) h XX S0 hp (Or.inr rfl) (b := 0) (by omega)
  obtain ⟨d1, d2, d3⟩ := sw_cd (E := E) h XX S0 hp (Or.inr rfl) (b := 1) (by omega)
  have v0 := S0.v6 o1
  have v1 := S0.v6 o2
  -- what is needed of the shape of the grandchildren
  have even00 : cd_ (tb_V T) (tb_L T) (tb_H T) (tb_L T k) y 0 % 2 = 0 := by
    unfold cd_
    by_cases c : tb_V T (tb_L T k / 2) = y
    · have hfa : al_ (tb_V T) (tb_L T k / 2) := o1.elim (fun z => by rw [z, S0.1.2.1] at c; omega) id
      rw [if_pos c, if_pos rfl, xr_m, ev]
      have := (S0.2.1 _ hfa).2.2.2.1
      omega
    · rw [if_neg c]; exact ev
  have gne : cd_ (tb_V T) (tb_L T) (tb_H T) (tb_L T k) y 0 ≠ cd_ (tb_V T) (tb_L T) (tb_H T) (tb_L T k) y 1 ∨ cd_ (tb_V T) (tb_L T) (tb_H T) (tb_H T k) y 0 ≠ cd_ (tb_V T) (tb_L T) (tb_H T) (tb_H T k) y 1 := by
    have key : ∀ f, ok_ (tb_V T) (f / 2) → tb_V T (f / 2) = y → cd_ (tb_V T) (tb_L T) (tb_H T) f y 0 ≠ cd_ (tb_V T) (tb_L T) (tb_H T) f y 1 := by
      intro f hf c e
      have hfa : al_ (tb_V T) (f / 2) := hf.elim (fun z => by rw [z, S0.1.2.1] at c; omega) id
      have hm : f % 2 < 2 := Nat.mod_lt _ (by omega)
      unfold cd_ at e
      rw [if_pos c, if_pos c, if_pos rfl, if_neg (by decide)] at e
      apply (S0.2.1 _ hfa).2.2.2.2.1
      have p1 := xr_d (e := tb_L T (f / 2)) hm
      have p2 := xr_d (e := tb_H T (f / 2)) hm
      have q1 := xr_m (e := tb_L T (f / 2)) (b := f % 2)
      have q2 := xr_m (e := tb_H T (f / 2)) (b := f % 2)
      rw [e] at p1 q1
      omega
    exact hky.imp (key _ o1) (key _ o2)
  generalize hf00 : cd_ (tb_V T) (tb_L T) (tb_H T) (tb_L T k) y 0 = f00 at *
  generalize hf01 : cd_ (tb_V T) (tb_L T) (tb_H T) (tb_L T k) y 1 = f01 at *
  generalize hf10 : cd_ (tb_V T) (tb_L T) (tb_H T) (tb_H T k) y 0 = f10 at *
  generalize hf11 : cd_ (tb_V T) (tb_L T) (tb_H T) (tb_H T k) y 1 = f11 at *
  -- out of its chain
  obtain ⟨p, q, l1, l2, l3, l4, l5, l6', I1⟩ := ti_cut I hal
  -- the two new children
  obtain ⟨lo, T1, φ1, J1, O1, lo1, lo2, X1, nw1, tc1, lom, lol, lox, wkA⟩ := sw_make (la := la) (li := li) (hh := hh) (va := va) (C := C) (M := M) (G := G) (W := W) (S := S) (T := tu_ k (p.getLastD 0) T) (Wl := Wl) (pend := pend) (h.od XX) XX I1 hal hky a1 c1 a2 c2 (by show tc_ 0 (tb_V T) < 1023; omega)
  have e0 : tb_V T 0 = 6 := S0.1.2.1
  have e1 : tb_V T1 0 = 6 := J1.1.1.2.1
  have XV1 : ∀ {j}, ok_ (tb_V T) j → tb_V T1 j = tb_V T j := fun hj => X1.V e0 e1 hj
  obtain ⟨k1, k2, k3, k4, -⟩ := X1.1 k hal
  have k2' : tb_V T1 k = x := k2.trans hvk
  have k3' : tb_L T1 k = tb_L T k := k3
  have k4' : tb_H T1 k = tb_H T k := k4
  obtain ⟨hi, T2, φ2, J2, O2, hi1, hi2, X2, nw2, tc2, him, hil, hix, wkB⟩ := sw_make (la := la) (li := li) (hh := hh) (va := va) (C := C) (M := M) (G := G) (W := W) (S := S) (T := T1) (Wl := Wl) (pend := pend) O1 XX J1 k1 (by rw [k3', k4', XV1 o1, XV1 o2]; exact hky) (X1.ok b1) (X1.ok d1) (by rw [XV1 b1]; exact b2) (by rw [XV1 d1]; exact d2) (by have : tc_ 0 (tb_V T1) ≤ tc_ 0 (tb_V T) + 1 := tc1; omega)
  have e2 : tb_V T2 0 = 6 := J2.1.1.2.1
  have X12 : Xt_ (tu_ k (p.getLastD 0) T) φ T2 φ2 := X1.trans X2
  have XV2 : ∀ {j}, ok_ (tb_V T) j → tb_V T2 j = tb_V T j := fun hj => X12.V e0 e2 hj
  obtain ⟨m1, m2, m3, m4, m5⟩ := X12.1 k hal
  have m3' : tb_L T2 k = tb_L T k := m3
  have m4' : tb_H T2 k = tb_H T k := m4
  have oklo := X2.ok lo1
  have slo : ∀ s, ef_ φ2 lo s = if s x = true then ef_ φ f10 s else ef_ φ f00 s := fun s => by rw [X2.ef lo1]; exact lo2 s
  have shi : ∀ s, ef_ φ2 hi s = if s x = true then ef_ φ f11 s else ef_ φ f01 s := fun s => by rw [hi2 s, X1.ef b1, X1.ef d1]
  have XVlo : tb_V T2 (lo / 2) = tb_V T1 (lo / 2) := X2.V e1 e2 lo1
  have dep : ∀ e, ok_ (tb_V T) (e / 2) → l + 2 ≤ lv (tb_V T (e / 2)) → ∀ s t : Nat → Bool, (∀ w, w < n → l + 2 ≤ lv w → s w = t w) → ef_ φ e s = ef_ φ e t := fun e he hle s t hst =>
    S0.edep hl (h.od XX) he hle (fun w hw hlw => hst w hw (by omega))
  have indy : ∀ e, ok_ (tb_V T) (e / 2) → l + 2 ≤ lv (tb_V T (e / 2)) → ∀ s z, ef_ φ e (fu_u s y z) = ef_ φ e s := fun e he hle s z =>
    dep e he hle _ _ (fun w _ hw => fu_n (fun c => by subst c; omega))
  have indx : ∀ e, ok_ (tb_V T) (e / 2) → l + 2 ≤ lv (tb_V T (e / 2)) → ∀ s z, ef_ φ e (fu_u s x z) = ef_ φ e s := fun e he hle s z =>
    dep e he hle _ _ (fun w _ hw => fu_n (fun c => by subst c; omega))
  have xy : x ≠ y := fun e => by rw [e] at lx; omega
  have hne : lo ≠ hi := by
    intro e
    have hs : ∀ s, (if s x = true then ef_ φ f10 s else ef_ φ f00 s) = if s x = true then ef_ φ f11 s else ef_ φ f01 s := fun s => by rw [← slo, ← shi, e]
    rcases gne with z | z
    · apply z
      apply S0.can a1 b1
      intro s
      have := hs (fu_u s x false)
      rw [fu_s, if_neg (by decide), if_neg (by decide), indx _ a1 a2, indx _ b1 b2] at this
      exact this
    · apply z
      apply S0.can c1 d1
      intro s
      have := hs (fu_u s x true)
      rw [fu_s, if_pos rfl, if_pos rfl, indx _ c1 c2, indx _ d1 d2] at this
      exact this
  have eqk : ∀ s : Nat → Bool, φ2 k s = if s y = true then ef_ φ2 hi s else ef_ φ2 lo s := fun s => by
    rw [X12.2 k (Or.inr hal), S0.2.2.1 k hal s, hvk, slo, shi]
    have f0 : ef_ φ (tb_L T k) s = if s y = true then ef_ φ f01 s else ef_ φ f00 s := by
      by_cases c : s y = true
      · rw [if_pos c, b3, fu_e (by rw [c]; rfl)]
      · rw [if_neg c, a3, fu_e (by simpa using c)]
    have f1 : ef_ φ (tb_H T k) s = if s y = true then ef_ φ f11 s else ef_ φ f10 s := by
      by_cases c : s y = true
      · rw [if_pos c, d3, fu_e (by rw [c]; rfl)]
      · rw [if_neg c, c3, fu_e (by simpa using c)]
    rw [f0, f1]
    by_cases c : s y = true
    · rw [if_pos c, if_pos c, if_pos c]
    · rw [if_neg c, if_neg c, if_neg c]
  obtain ⟨w1, w2, w3, w4, I3⟩ := ti_rew J2 m1 yn oklo hi1 (by omega) hne eqk (fun s z => by rw [slo, slo, fu_n xy, indy _ c1 c2, indy _ a1 a2]) (fun s z => by rw [shi, shi, fu_n xy, indy _ d1 d2, indy _ b1 b2])
  rw [m3'] at w3
  rw [m3', m4'] at w4 I3
  -- facts of the last table
  have V3k : tb_V (tl_ k (tr_ k y lo hi (td_ (tb_H T k) (td_ (tb_L T k) (ta_ hi (ta_ lo T2)))))) k = y := fu_s
  have V3 : ∀ j, j ≠ k → tb_V (tl_ k (tr_ k y lo hi (td_ (tb_H T k) (td_ (tb_L T k) (ta_ hi (ta_ lo T2)))))) j = tb_V T2 j := fun j hj => fu_n hj
  have L3k : tb_L (tl_ k (tr_ k y lo hi (td_ (tb_H T k) (td_ (tb_L T k) (ta_ hi (ta_ lo T2)))))) k = lo := fu_s
  have L3 : ∀ j, j ≠ k → tb_L (tl_ k (tr_ k y lo hi (td_ (tb_H T k) (td_ (tb_L T k) (ta_ hi (ta_ lo T2)))))) j = tb_L T2 j := fun j hj => fu_n hj
  have H3k : tb_H (tl_ k (tr_ k y lo hi (td_ (tb_H T k) (td_ (tb_L T k) (ta_ hi (ta_ lo T2)))))) k = hi := fu_s
  have H3 : ∀ j, j ≠ k → tb_H (tl_ k (tr_ k y lo hi (td_ (tb_H T k) (td_ (tb_L T k) (ta_ hi (ta_ lo T2)))))) j = tb_H T2 j := fun j hj => fu_n hj
  have R3 : ∀ j, j ≠ tb_L T k / 2 → j ≠ tb_H T k / 2 → tb_R T2 j ≤ tb_R (tl_ k (tr_ k y lo hi (td_ (tb_H T k) (td_ (tb_L T k) (ta_ hi (ta_ lo T2)))))) j := fun j h1 h2 => by
    show tb_R T2 j ≤ fu_u (fu_u (tb_R (ta_ hi (ta_ lo T2))) (tb_L T k / 2) _) (tb_H T k / 2) _ j
    rw [fu_n h2, fu_n h1]
    show tb_R T2 j ≤ fu_u (fu_u (tb_R T2) (lo / 2) (tb_R T2 (lo / 2) + 1)) (hi / 2) (fu_u (tb_R T2) (lo / 2) (tb_R T2 (lo / 2) + 1) (hi / 2) + 1) j
    rw [ra_2]; omega
  have tc3 : tc_ 0 (tb_V (tl_ k (tr_ k y lo hi (td_ (tb_H T k) (td_ (tb_L T k) (ta_ hi (ta_ lo T2))))))) = tc_ 0 (tb_V T2) := by
    apply sm_ext
    intro j _
    by_cases e : j = k
    · have hm := m1.2
      rw [e, V3k]
      exact i1_c ⟨fun z => ⟨hm, z.2⟩, fun z => ⟨by omega, z.2⟩⟩
    · rw [V3 j e]
  have al3 : ∀ j, al_ (tb_V (tl_ k (tr_ k y lo hi (td_ (tb_H T k) (td_ (tb_L T k) (ta_ hi (ta_ lo T2))))))) j ↔ al_ (tb_V T2) j := fun j => by
    by_cases e : j = k
    · subst e
      exact ⟨fun _ => m1, fun _ => ⟨hkl, by rw [V3k]; omega⟩⟩
    · unfold al_; rw [V3 j e]
  have hbdR : ∀ j, ok_ (tb_V T2) j → tb_R T2 j ≤ 3000 := fun j hj => J2.2.2.2.1.bd hj
  -- new nodes of the two makes
  have nw : ∀ j, al_ (tb_V T2) j → al_ (tb_V T) j ∨ (¬ al_ (tb_V T) j ∧ tb_V T2 j = x ∧ ∀ c, (c = tb_L T2 j / 2 ∨ c = tb_H T2 j / 2) → ok_ (tb_V T) c ∧ l + 2 ≤ lv (tb_V T c)) := fun j hj => by
    by_cases ja : al_ (tb_V T) j
    · exact Or.inl ja
    · right
      refine ⟨ja, ?_⟩
      rcases nw2 j hj with z | ⟨z1, z2, z3⟩
      · rcases nw1 j z with y' | ⟨y1, y2, y3⟩
        · exact absurd y' ja
        · obtain ⟨-, x2, x3, x4, -⟩ := X2.1 j z
          refine ⟨x2.trans y1, fun c hc => ?_⟩
          rw [x3, x4, y2, y3] at hc
          rcases hc with e | e
          · rw [e]; exact ⟨a1, a2⟩
          · rw [e]; exact ⟨c1, c2⟩
      · refine ⟨z1, fun c hc => ?_⟩
        rw [z2, z3] at hc
        rcases hc with e | e
        · rw [e]; exact ⟨b1, b2⟩
        · rw [e]; exact ⟨d1, d2⟩
  have old : ∀ j, al_ (tb_V T) j → tb_V T2 j = tb_V T j ∧ tb_L T2 j = tb_L T j ∧ tb_H T2 j = tb_H T j ∧ tb_R T j ≤ tb_R T2 j := fun j hj => (X12.1 j hj).2
  -- a child other than k keeps its variable
  have nek : ∀ c, ok_ (tb_V T) c → l + 2 ≤ lv (tb_V T c) → c ≠ k := fun c _ hc e => by rw [e, hvk] at hc; omega
  have lok : lo / 2 ≠ k := fun e => by
    have hv : tb_V T1 (lo / 2) = x := by rw [e]; exact k2'
    obtain ⟨g1, g2⟩ := lox hv
    rw [e, k3', k4'] at *
    rcases hky with z | z
    · rw [g1] at z; rw [z] at a2; omega
    · rw [g2] at z; rw [z] at c2; omega
  have hik : hi / 2 ≠ k := fun e => by
    have hv : tb_V T2 (hi / 2) = x := by rw [e]; exact m2.trans hvk
    obtain ⟨g1, g2⟩ := hix hv
    rw [e, m3'] at g1
    rw [e, m4'] at g2
    rcases hky with z | z
    · rw [g1] at z; rw [z] at b2; omega
    · rw [g2] at z; rw [z] at d2; omega
  refine ⟨_, φ2, I3, ⟨?_, ?_, ?_, ?_, ?_⟩, fun j hj => ⟨?_, X12.2 j hj⟩, fun j hj hjk => ?_, V3k, ?_, fun post hpost => ?_⟩
  · intro j hj c hc
    have hj2 := (al3 j).mp hj
    by_cases ejk : j = k
    · left
      rw [ejk, V3k, ly]
      rw [ejk, L3k, H3k] at hc
      rcases hc with e | e
      · rw [e, V3 _ lok, XVlo]; omega
      · rw [e, V3 _ hik]; omega
    · rw [V3 j ejk]
      rw [L3 j ejk, H3 j ejk] at hc
      rcases nw j hj2 with z | ⟨z0, z1, z2⟩
      · obtain ⟨v2, g2, g3, -⟩ := old j z
        rw [g2, g3] at hc
        rw [v2]
        have oc : ok_ (tb_V T) c := by
          obtain ⟨-, -, -, -, -, p1, p2⟩ := S0.2.1 j z
          rcases hc with e | e
          · rw [e]; exact p1
          · rw [e]; exact p2
        by_cases eck : c = k
        · left
          rw [eck, V3k, ly]
          exact h.2.2.2.1 j z c hc (by rw [eck]; exact hvk) (by rw [eck]; exact hky)
        · rw [V3 c eck, XV2 oc]
          exact (h.1 j z c hc).imp id (fun w => ⟨w.1, w.2.1, w.2.2, ejk⟩)
      · left
        obtain ⟨oc, lc⟩ := z2 c hc
        rw [z1, V3 c (nek c oc lc), XV2 oc]
        omega
  · intro j ⟨hj, ejk⟩
    obtain ⟨p1, p2, p3, p4⟩ := h.2.1 j hj
    obtain ⟨v2, g2, g3, -⟩ := old j p1
    rw [L3 j ejk, H3 j ejk, V3 j ejk, g2, g3, v2]
    exact ⟨(al3 j).mpr (X12.1 j p1).1, p2, p3, p4⟩
  · intro j hj hjy hjw c hc
    have ejk : j ≠ k := fun e => hjw (by rw [e]; exact hwl k hp)
    have hj2 := (al3 j).mp hj
    rw [V3 j ejk] at hjy
    rw [L3 j ejk, H3 j ejk] at hc
    rcases nw j hj2 with z | ⟨z0, z1, z2⟩
    · obtain ⟨v2, g2, g3, -⟩ := old j z
      rw [g2, g3] at hc
      rw [v2] at hjy
      have q := h.2.2.1 j z hjy hjw c hc
      have oc : ok_ (tb_V T) c := by
        obtain ⟨-, -, -, -, -, p1, p2⟩ := S0.2.1 j z
        rcases hc with e | e
        · rw [e]; exact p1
        · rw [e]; exact p2
      rw [V3 c (nek c oc q), XV2 oc]
      exact q
    · exact absurd (z1.symm.trans hjy) xy
  · intro j hj c hc hcx hcy
    have hj2 := (al3 j).mp hj
    have eck : c ≠ k := fun e => by
      rw [e, V3k] at hcx
      exact xy hcx.symm
    rw [V3 c eck] at hcx
    rw [L3 c eck, H3 c eck] at hcy
    -- a child of c with variable y, in the last table
    have cy : ∀ g, ok_ (tb_V T) g → tb_V (tl_ k (tr_ k y lo hi (td_ (tb_H T k) (td_ (tb_L T k) (ta_ hi (ta_ lo T2)))))) g = y → g = k ∨ tb_V T g = y := fun g og hg => by
      by_cases e : g = k
      · exact Or.inl e
      · rw [V3 g e, XV2 og] at hg; exact Or.inr hg
    have low2 : ∀ g, ok_ (tb_V T) g → l + 2 ≤ lv (tb_V T g) → tb_V (tl_ k (tr_ k y lo hi (td_ (tb_H T k) (td_ (tb_L T k) (ta_ hi (ta_ lo T2)))))) g ≠ y := fun g og hg e => by
      rcases cy g og e with z | z
      · exact nek g og hg z
      · rw [z] at hg; omega
    by_cases ejk : j = k
    · exfalso
      rw [ejk, L3k, H3k] at hc
      rcases hc with e | e
      · rw [e, XVlo] at hcx
        obtain ⟨g1, g2⟩ := lox hcx
        have loal : al_ (tb_V T1) (lo / 2) := lo1.elim (fun z => by rw [z, e1] at hcx; omega) id
        obtain ⟨-, -, x3, x4, -⟩ := X2.1 _ loal
        rw [e, x3, x4, g1, g2] at hcy
        exact hcy.elim (low2 _ a1 a2) (low2 _ c1 c2)
      · rw [e] at hcx
        obtain ⟨g1, g2⟩ := hix hcx
        rw [e, g1, g2] at hcy
        exact hcy.elim (low2 _ b1 b2) (low2 _ d1 d2)
    · rw [V3 j ejk]
      rw [L3 j ejk, H3 j ejk] at hc
      have oc2 : ok_ (tb_V T2) c := by
        obtain ⟨-, -, -, -, -, p1, p2⟩ := J2.1.2.1 j hj2
        rcases hc with e | e
        · rw [e]; exact p1
        · rw [e]; exact p2
      have ca2 : al_ (tb_V T2) c := oc2.elim (fun z => by rw [z, e2] at hcx; omega) id
      rcases nw c ca2 with z | ⟨z0, z1, z2⟩
      · obtain ⟨cv, g2, g3, -⟩ := old c z
        rw [g2, g3] at hcy
        rw [cv] at hcx
        obtain ⟨-, -, -, -, -, p1, p2⟩ := S0.2.1 c z
        -- no child of c is k
        have nk : ∀ g, (g = tb_L T c / 2 ∨ g = tb_H T c / 2) → g ≠ k := fun g hg e => by
          rcases h.1 c z g hg with w | w
          · rw [hcx, e, hvk] at w; omega
          · rw [e, hvk] at w; exact xy w.2.1
        have hcy' : tb_V T (tb_L T c / 2) = y ∨ tb_V T (tb_H T c / 2) = y := hcy.imp (fun w => (cy _ p1 w).elim (fun e => absurd e (nk _ (Or.inl rfl))) id) (fun w => (cy _ p2 w).elim (fun e => absurd e (nk _ (Or.inr rfl))) id)
        rcases nw j hj2 with y' | ⟨y0, y1, y2⟩
        · obtain ⟨jv, j2, j3, -⟩ := old j y'
          rw [j2, j3] at hc
          rw [jv]
          exact h.2.2.2.1 j y' c hc hcx hcy'
        · have := (y2 c hc).2
          rw [hcx] at this
          omega
      · exfalso
        have w1 := z2 (tb_L T2 c / 2) (Or.inl rfl)
        have w2 := z2 (tb_H T2 c / 2) (Or.inr rfl)
        exact hcy.elim (low2 _ w1.1 w1.2) (low2 _ w2.1 w2.2)
  · intro j hj hr
    have hj2 := (al3 j).mp hj
    by_cases ejk : j = k
    · rw [ejk, V3k]; omega
    · rw [V3 j ejk]
      rcases nw j hj2 with z | ⟨z0, z1, z2⟩
      · obtain ⟨jv, -, -, jr⟩ := old j z
        rw [jv]
        by_cases g0 : j = tb_L T k / 2
        · rcases h.1 k hal j (Or.inl g0) with w | w
          · rw [hvk] at w; omega
          · rw [w.2.1]; omega
        · by_cases g1 : j = tb_H T k / 2
          · rcases h.1 k hal j (Or.inr g1) with w | w
            · rw [hvk] at w; omega
            · rw [w.2.1]; omega
          · have := R3 j g0 g1
            exact h.2.2.2.2 j z (by omega)
      · rw [z1]; omega
  · rcases hj with e | e
    · exact Or.inl e
    · exact Or.inr ((al3 j).mpr (X12.1 j e).1)
  · rw [V3 j hjk]; exact (old j hj).1
  · rw [tc3]
    have t1 : tc_ 0 (tb_V T1) ≤ tc_ 0 (tb_V T) + 1 := tc1
    omega
  · have vi : vp_in (nI k) 1024 := vp_in_nI hkl (by omega)
    have la1 := ef_lt oklo
    have la2 := ef_lt hi1
    have r1 := hbdR _ oklo
    have r2 := hbdR _ hi1
    have r3 := hbdR _ (X12.ok o1)
    have r4 := hbdR _ (X12.ok o2)
    have rr := ra_2 (R := tb_R T2) (a := lo / 2) (b := hi / 2)
    have rb1 : ∀ j, ok_ (tb_V T2) j → fu_u (fu_u (tb_R T2) (lo / 2) (tb_R T2 (lo / 2) + 1)) (hi / 2) (fu_u (tb_R T2) (lo / 2) (tb_R T2 (lo / 2) + 1) (hi / 2) + 1) j < 3500 := fun j hj => by
      have := hbdR j hj
      rw [rr j]
      split <;> split <;> omega
    unfold wpX_rewrite st_
    dsimp only
    rw [nI_clamp (n := k) (by omega)]
    refine ⟨vi, nm_r (e' := nI (tb_L T k)) rfl ⟨vi, nm_r (e' := nI (tb_H T k)) rfl ?_⟩⟩
    refine xw_child (e := tb_L T k) (v := y) (b := 0) bl v0 (by omega) (by omega) ?_
    refine xw_child (e := tb_L T k) (v := y) (b := 1) bl v0 (by omega) (by omega) ?_
    refine xw_child (e := tb_H T k) (v := y) (b := 0) bh v1 (by omega) (by omega) ?_
    refine xw_child (e := tb_H T k) (v := y) (b := 1) bh v1 (by omega) (by omega) ?_
    rw [hf00, hf01, hf10, hf11]
    refine xw_unlink (p := p) (q := q) hkl (by omega) l5 l6' l1 l2 l3 l4 ?_
    dsimp only [st_]
    refine wkA _ ?_
    dsimp only [st_]
    refine wkB _ ?_
    dsimp only [st_]
    refine xw_addRef (T := T2) la1 (by omega) w1 ?_
    dsimp only [st_]
    refine xw_addRef (T := ta_ lo T2) la2 ?_ w2 ?_
    · show fu_u (tb_R T2) (lo / 2) (tb_R T2 (lo / 2) + 1) (hi / 2) < 4000
      by_cases e : hi / 2 = lo / 2
      · rw [e, fu_s]; omega
      · rw [fu_n e]; omega
    dsimp only [st_]
    refine xw_dropRef (T := ta_ hi (ta_ lo T2)) (e := tb_L T k) bl ?_ w3 ?_
    · have : tb_R (ta_ hi (ta_ lo T2)) (tb_L T k / 2) < 3500 := rb1 _ (X12.ok o1)
      omega
    dsimp only [st_]
    refine xw_dropRef (T := td_ (tb_L T k) (ta_ hi (ta_ lo T2))) (e := tb_H T k) bh ?_ w4 ?_
    · show fu_u (tb_R (ta_ hi (ta_ lo T2))) (tb_L T k / 2) (tb_R (ta_ hi (ta_ lo T2)) (tb_L T k / 2) - 1) (tb_H T k / 2) < 4000
      have q1 : tb_R (ta_ hi (ta_ lo T2)) (tb_L T k / 2) < 3500 := rb1 _ (X12.ok o1)
      have q2 : tb_R (ta_ hi (ta_ lo T2)) (tb_H T k / 2) < 3500 := rb1 _ (X12.ok o2)
      by_cases e : tb_H T k / 2 = tb_L T k / 2
      · rw [e, fu_s]; omega
      · rw [fu_n e]; omega
    dsimp only [st_]
    refine ⟨vi, nm_r (en_uV (by omega)) ⟨vi, nm_r en_uI ⟨vi, nm_r en_uI ?_⟩⟩⟩
    refine xw_link (T := tr_ k y lo hi (td_ (tb_H T k) (td_ (tb_L T k) (ta_ hi (ta_ lo T2))))) hkl (by show fu_u _ _ _ _ < 6; rw [fu_s]; omega) ?_
    exact hpost
end
end
section
/-! swapLevels -/
def sv_ (va : Nat → Nat) (l : Nat) : Nat → Nat := fu_u (fu_u va l (va (l + 1))) (l + 1) (va l)
def sl2_ (va lv : Nat → Nat) (l : Nat) : Nat → Nat := fu_u (fu_u lv (va (l + 1)) l) (va l) (l + 1)
theorem pm_swap {n l : Nat} {va lv : Nat → Nat} (P : Pm_ n va lv) (hl : l + 1 < n) : Pm_ n (sv_ va l) (sl2_ va lv l) ∧ Lx_ n l (va l) (va (l + 1)) (sl2_ va lv l) := by
  obtain ⟨⟨n2, n6, l6, hb⟩, p1, p2⟩ := P
  obtain ⟨x1, x2⟩ := p1 l (by omega)
  obtain ⟨y1, y2⟩ := p1 (l + 1) hl
  have xy : va l ≠ va (l + 1) := fun e => by rw [← e, x2] at y2; omega
  have lx : sl2_ va lv l (va l) = l + 1 := fu_s
  have ly : sl2_ va lv l (va (l + 1)) = l := by unfold sl2_; rw [fu_n (fun e => xy e.symm), fu_s]
  have lo : ∀ w, w ≠ va l → w ≠ va (l + 1) → sl2_ va lv l w = lv w := fun w h1 h2 => by unfold sl2_; rw [fu_n h1, fu_n h2]
  have vl : sv_ va l l = va (l + 1) := by unfold sv_; rw [fu_n (by omega), fu_s]
  have vl1 : sv_ va l (l + 1) = va l := fu_s
  have vo : ∀ j, j ≠ l → j ≠ l + 1 → sv_ va l j = va j := fun j h1 h2 => by unfold sv_; rw [fu_n h2, fu_n h1]
  have h6 : sl2_ va lv l 6 = 6 := by rw [lo 6 (by omega) (by omega)]; exact l6
  have hb' : ∀ w, w ≤ 6 → sl2_ va lv l w ≤ 6 := fun w hw => by
    by_cases e1 : w = va l
    · rw [e1, lx]; omega
    · by_cases e2 : w = va (l + 1)
      · rw [e2, ly]; omega
      · rw [lo w e1 e2]; exact hb w hw
  have inj : ∀ w, w < n → ∀ j, j < n → sl2_ va lv l w = j → sv_ va l j = w := fun w hw j hj e => by
    by_cases e1 : w = va l
    · rw [e1, lx] at e
      rw [← e, vl1, e1]
    · by_cases e2 : w = va (l + 1)
      · rw [e2, ly] at e
        rw [← e, vl, e2]
      · rw [lo w e1 e2] at e
        have q := (p2 w hw).2
        rw [e] at q
        have g1 : j ≠ l := fun z => e1 (by rw [← q, z])
        have g2 : j ≠ l + 1 := fun z => e2 (by rw [← q, z])
        rw [vo j g1 g2, q]
  refine ⟨⟨⟨n2, n6, h6, hb'⟩, fun j hj => ?_, fun w hw => ?_⟩, x1, y1, lx, ly, by omega, n6, h6, hb', fun w hw e => ?_, fun w hw e => ?_⟩
  · by_cases e1 : j = l
    · rw [e1, vl, ly]; exact ⟨y1, rfl⟩
    · by_cases e2 : j = l + 1
      · rw [e2, vl1, lx]; exact ⟨x1, rfl⟩
      · rw [vo j e1 e2]
        obtain ⟨q1, q2⟩ := p1 j hj
        refine ⟨q1, ?_⟩
        rw [lo _ (fun z => e1 (by rw [← q2, z, x2])) (fun z => e2 (by rw [← q2, z, y2])), q2]
  · have : sl2_ va lv l w < n := by
      by_cases e1 : w = va l
      · rw [e1, lx]; omega
      · by_cases e2 : w = va (l + 1)
        · rw [e2, ly]; omega
        · rw [lo w e1 e2]; exact (p2 w hw).1
    exact ⟨this, inj w hw _ this rfl⟩
  · have := inj w hw (l + 1) (by omega) e
    rw [vl1] at this
    exact this.symm
  · have := inj w hw l (by omega) e
    rw [vl] at this
    exact this.symm
theorem ca_keep {V V' : Nat → Nat} {φ φ' : Nat → BF_} {C : CN_} (K : Ca_ V φ C) (h : ∀ j, ok_ V j → ok_ V' j ∧ φ' j = φ j) : Ca_ V' φ' C := by
  intro i hi hn
  obtain ⟨⟨k1, k2, k3, k4⟩, k5⟩ := K i hi hn
  refine ⟨⟨(h _ k1).1, (h _ k2).1, (h _ k3).1, (h _ k4).1⟩, fun s => ?_⟩
  unfold ef_ at k5 ⊢
  rw [(h _ k1).2, (h _ k2).2, (h _ k3).2, (h _ k4).2]
  exact k5 s
def pe_ (W : WN_) (i j : Nat) : Prop := ∃ k, i ≤ k ∧ k < wo_n W ∧ wo_w W k = j
/-- nodes of the first K levels, without loose ones: at most 8 (2 ^ K - 1) -/
theorem kept_K {n K : Nat} {E va lv : Nat → Nat} {T : TN_} {φ : Nat → BF_} (P : Pm_ n va lv) (I : Ti_ n E 0 T φ) (O : Od_ 0 lv (tb_V T) (tb_L T) (tb_H T)) (h0 : tb_lo T = 0) (ls : List Nat) (hn : ls.Nodup) (h : ∀ i, i ∈ ls → al_ (tb_V T) i ∧ lv (tb_V T i) < K) : ls.length ≤ 8 * (2 ^ K - 1) :=
  cf_count (m := 8) (K := K) I.1 P (fun k => if E (k + 2) < 2048 then ef_ φ (E (k + 2)) else fun _ => false) (fun h hh => by
    by_cases e : E (h + 2) < 2048
    · rw [if_pos e]; exact ef_dn I.1 P O (I.2.2.2.2.2.2 _ (by omega) (by omega) e)
    · rw [if_neg e]; exact fun _ _ _ => rfl) ls hn (fun i hi => by
    obtain ⟨hal, hlt⟩ := h i hi
    obtain ⟨h, h1, h2, h3, h4⟩ := cf_all P I O h0 _ i (Nat.lt_succ_self _) hal
    refine ⟨hal, hlt, h - 2, by omega, ?_⟩
    rw [show h - 2 + 2 = h from by omega, if_pos h3]
    exact h4)
section
variable {n la li : Nat} {E hh va lv : Nat → Nat} {T : TN_} {C : CN_} {M : MN_} {G : GN_} {W : WN_} {S : SN_}
theorem xw_swapL {l x y : Nat} (P : Pm_ n va lv) (X : Lx_ n l x y lv) (hwc : wo_n W < 1024) (hinj : ∀ k k', k < wo_n W → k' < wo_n W → wo_w W k = wo_w W k' → k = k') : ∀ (m i : Nat) (T : TN_) (φ : Nat → BF_), i + m = wo_n W → Ti_ n E 0 T φ → Sw_ l x y lv (pe_ W 0) (pe_ W i) T → Ca_ (tb_V T) φ C → (∀ j, pe_ W 0 j → al_ (tb_V T) j ∧ (tb_V T j = x ∨ tb_V T j = y)) → tc_ 0 (tb_V T) + 2 * m ≤ 1023 →
    ∃ T' C' W' φ', Ti_ n E 0 T' φ' ∧ Od_ 0 lv (tb_V T') (tb_L T') (tb_H T') ∧ tb_lo T' = 0 ∧ Ca_ (tb_V T') φ' C' ∧ (∀ j, ok_ (tb_V T) j → φ' j = φ j) ∧ ∀ post : SX → Prop, post (st_ n la li E hh va lv T' C' M G W' S) → wX_swapLevels_56 post (nI l) (nI x) (nI y) (m + 1) (nI i) (nI n) (nI la) (nI li) (nI (tb_fh T)) (nI (tb_lo T)) (nI (tb_to T)) (nI (ma_F M)) (nI (ma_G M)) (nI (ma_H M)) (nI (ma_n M)) (nI (ga_n G)) (nI (wo_n W)) (en_E E) (en_I hh) (en_I va) (en_I lv) (en_V (tb_V T)) (en_I (tb_L T)) (en_I (tb_H T)) (en_I (tb_R T)) (en_I (tb_X T)) (en_I (tb_D T)) (en_I (tb_Q T)) (en_I (ca_F C)) (en_I (ca_G C)) (en_I (ca_H C)) (en_I (ca_R C)) (en_I (ma_f M)) (en_I (ma_g M)) (en_I (ma_h M)) (en_I (ma_v M)) (en_I (ma_p M)) (en_I (ma_l M)) (en_I (ma_b M)) (en_I (ga_r G)) (en_I (ga_s G)) (en_I (ga_i G)) (en_I (ga_w G)) (en_I (wo_w W)) (en_I (si_z S)) (en_I (si_c S))
  | 0, i, T, φ, hi, I, h, K, hw, hroom => by
    have XX := X
    obtain ⟨xn, yn, lx, ly, ln, n6, l6, hl, ux, uy⟩ := X
    have hno : ∀ j, ¬ pe_ W i j := fun j ⟨k, a, b, _⟩ => by omega
    have O : Od_ 0 lv (tb_V T) (tb_L T) (tb_H T) := fun j hj _ => ⟨(h.1 j hj _ (Or.inl rfl)).elim id (fun z => absurd z.2.2 (hno j)), (h.1 j hj _ (Or.inr rfl)).elim id (fun z => absurd z.2.2 (hno j))⟩
    obtain ⟨T', C', W', a1, a2, a3, a4, a5, a6⟩ := xm_sweep (la := la) (li := li) (hh := hh) (M := M) (G := G) (W := W) (S := S) (l := l) P (by omega) I O (fun j hj hlt hr => by
      have := h.2.2.2.2 j hj hr
      omega) K
    refine ⟨T', C', W', φ, a1, a2, a4, a5, fun _ _ => rfl, fun post hp => ?_⟩
    refine pk_le (wo_n W) i (fun _ => ?_) (fun z => by omega)
    exact a6 _ hp
  | m + 1, i, T, φ, hi, I, h, K, hw, hroom => by
    have XX := X
    obtain ⟨xn, yn, lx, ly, ln, n6, l6, hl, ux, uy⟩ := X
    have hpi : pe_ W i (wo_w W i) := ⟨i, Nat.le_refl _, by omega, rfl⟩
    obtain ⟨hal, hvk, w1, w2⟩ := h.2.1 _ hpi
    have S0 := I.1
    obtain ⟨-, bl, bh, -, -, o1, o2⟩ := S0.2.1 _ hal
    have v1 := S0.v6 o1
    have v2 := S0.v6 o2
    have hkl := hal.1
    have vk : vp_in (nI (wo_w W i)) 1024 := vp_in_nI hkl (by omega)
    have eL : en_I (tb_L T) (wo_w W i) >>> ((1 : Int32) &&& 31) = nI (tb_L T (wo_w W i) / 2) := nn_half (by omega)
    have eH : en_I (tb_H T) (wo_w W i) >>> ((1 : Int32) &&& 31) = nI (tb_H T (wo_w W i) / 2) := nn_half (by omega)
    have vL : vp_in (nI (tb_L T (wo_w W i) / 2)) 1024 := vp_in_nI (by omega) (by omega)
    have vH : vp_in (nI (tb_H T (wo_w W i) / 2)) 1024 := vp_in_nI (by omega) (by omega)
    by_cases c : tb_V T (tb_L T (wo_w W i) / 2) = y ∨ tb_V T (tb_H T (wo_w W i) / 2) = y
    · obtain ⟨T1, φ1, I1, h1, kp, vo, vk1, tc1, wk⟩ := xm_rewrite (la := la) (li := li) (hh := hh) (va := va) (C := C) (M := M) (G := G) (W := W) (S := S) h XX I hpi (fun j ⟨k, _, b, c⟩ => ⟨k, Nat.zero_le _, b, c⟩) (fun j hj => by
        obtain ⟨q1, q2⟩ := hw j hj
        refine ⟨q1, ?_⟩
        rcases q2 with e | e
        · rw [e]; omega
        · rw [e]; omega) c (by omega)
      have ep : (fun j => pe_ W i j ∧ j ≠ wo_w W i) = pe_ W (i + 1) := by
        funext j
        apply propext
        constructor
        · intro ⟨⟨k, a, b, e⟩, hne⟩
          have : k ≠ i := fun z => hne (by rw [← e, z])
          exact ⟨k, by omega, b, e⟩
        · intro ⟨k, a, b, e⟩
          refine ⟨⟨k, by omega, b, e⟩, fun z => ?_⟩
          have := hinj k i b (by omega) (by rw [e, z])
          omega
      rw [ep] at h1
      obtain ⟨T', C', W', φ', a1, a2, a3, a4, a5, a6⟩ := xw_swapL P XX hwc hinj m (i + 1) T1 φ1 (by omega) I1 h1 (ca_keep K kp) (fun j hj => by
        obtain ⟨q1, q2⟩ := hw j hj
        have okj := (kp j (Or.inr q1)).1
        by_cases e : j = wo_w W i
        · have alj : al_ (tb_V T1) j := okj.elim (fun z => absurd z (S0.ne0 q1)) id
          exact ⟨alj, Or.inr (by rw [e]; exact vk1)⟩
        · have alj : al_ (tb_V T1) j := okj.elim (fun z => absurd z (S0.ne0 q1)) id
          rw [vo j q1 e]
          exact ⟨alj, q2⟩) (by omega)
      refine ⟨T', C', W', φ', a1, a2, a3, a4, fun j hj => by rw [a5 j (kp j hj).1, (kp j hj).2], fun post hp => ?_⟩
      have w118 : wX_swapLevels_118 post (wX_swapLevels_56 post (nI l) (nI x) (nI y) (m + 1)) (nI l) (nI x) (nI y) (nI i) (nI (wo_w W i)) (nI n) (nI la) (nI li) (nI (tb_fh T)) (nI (tb_lo T)) (nI (tb_to T)) (nI (ma_F M)) (nI (ma_G M)) (nI (ma_H M)) (nI (ma_n M)) (nI (ga_n G)) (nI (wo_n W)) (en_E E) (en_I hh) (en_I va) (en_I lv) (en_V (tb_V T)) (en_I (tb_L T)) (en_I (tb_H T)) (en_I (tb_R T)) (en_I (tb_X T)) (en_I (tb_D T)) (en_I (tb_Q T)) (en_I (ca_F C)) (en_I (ca_G C)) (en_I (ca_H C)) (en_I (ca_R C)) (en_I (ma_f M)) (en_I (ma_g M)) (en_I (ma_h M)) (en_I (ma_v M)) (en_I (ma_p M)) (en_I (ma_l M)) (en_I (ma_b M)) (en_I (ga_r G)) (en_I (ga_s G)) (en_I (ga_i G)) (en_I (ga_w G)) (en_I (wo_w W)) (en_I (si_z S)) (en_I (si_c S)) := by
        unfold wX_swapLevels_118
        refine wk _ ?_
        dsimp only [st_]
        exact nm_r (nI_1 _) (a6 post hp)
      refine pk_le (wo_n W) i (fun z => by omega) (fun _ => ⟨vp_in_nI (by omega) (by omega), nm_r (e' := nI (wo_w W i)) (by rw [nI_clamp (n := i) (by omega)]; rfl) ?_⟩)
      rw [nI_clamp (n := wo_w W i) (by omega), eL, eH, nI_clamp (n := tb_L T (wo_w W i) / 2) (by omega), nI_clamp (n := tb_H T (wo_w W i) / 2) (by omega)]
      refine ⟨vk, vL, nm_r (en_Vk (by omega)) ⟨vk, vH, nm_r (en_Vk (by omega)) ?_⟩⟩
      exact pk_eq _ y (fun _ => w118) (fun z1 => pk_eq _ y (fun _ => w118) (fun z2 => absurd c (fun z => z.elim z1 z2)) rfl rfl (by omega) (by omega)) rfl rfl (by omega) (by omega)
    · have h1 : Sw_ l x y lv (pe_ W 0) (pe_ W (i + 1)) T := by
        refine ⟨fun j hj d hd => ?_, fun j ⟨k, a, b, e⟩ => h.2.1 j ⟨k, by omega, b, e⟩, h.2.2.1, h.2.2.2.1, h.2.2.2.2⟩
        refine (h.1 j hj d hd).imp id (fun z => ⟨z.1, z.2.1, ?_⟩)
        obtain ⟨k, a, b, e⟩ := z.2.2
        refine ⟨k, ?_, b, e⟩
        have : k ≠ i := fun q => by
          apply c
          rw [q] at e
          rw [e]
          rcases hd with u | u
          · left; rw [← u]; exact z.2.1
          · right; rw [← u]; exact z.2.1
        omega
      obtain ⟨T', C', W', φ', a1, a2, a3, a4, a5, a6⟩ := xw_swapL P XX hwc hinj m (i + 1) T φ (by omega) I h1 K hw (by omega)
      refine ⟨T', C', W', φ', a1, a2, a3, a4, a5, fun post hp => ?_⟩
      refine pk_le (wo_n W) i (fun z => by omega) (fun _ => ⟨vp_in_nI (by omega) (by omega), nm_r (e' := nI (wo_w W i)) (by rw [nI_clamp (n := i) (by omega)]; rfl) ?_⟩)
      rw [nI_clamp (n := wo_w W i) (by omega), eL, eH, nI_clamp (n := tb_L T (wo_w W i) / 2) (by omega), nI_clamp (n := tb_H T (wo_w W i) / 2) (by omega)]
      refine ⟨vk, vL, nm_r (en_Vk (by omega)) ⟨vk, vH, nm_r (en_Vk (by omega)) ?_⟩⟩
      exact pk_eq _ y (fun z => absurd (Or.inl z) c) (fun _ => pk_eq _ y (fun z => absurd (Or.inr z) c) (fun _ => nm_r (nI_1 _) (a6 post hp)) rfl rfl (by omega) (by omega)) rfl rfl (by omega) (by omega)
theorem xm_swap {l : Nat} {φ : Nat → BF_} (P : Pm_ n va lv) (hl : l + 1 < n) (I : Ti_ n E 0 T φ) (O : Od_ 0 lv (tb_V T) (tb_L T) (tb_H T)) (h0 : tb_lo T = 0) (K : Ca_ (tb_V T) φ C) :
    ∃ T' C' W' φ', Ti_ n E 0 T' φ' ∧ Od_ 0 (sl2_ va lv l) (tb_V T') (tb_L T') (tb_H T') ∧ tb_lo T' = 0 ∧ Ca_ (tb_V T') φ' C' ∧ (∀ j, ok_ (tb_V T) j → φ' j = φ j) ∧ ∀ post : SX → Prop, post (st_ n la li E hh (sv_ va l) (sl2_ va lv l) T' C' M G W' S) → wpX_swapLevels post (st_ n la li E hh va lv T C M G W S) (nI l) := by
  obtain ⟨P', X⟩ := pm_swap P hl
  have n6 := P.1.2.1
  have S0 := I.1
  obtain ⟨x1, x2⟩ := P.2.1 l (by omega)
  obtain ⟨y1, y2⟩ := P.2.1 (l + 1) hl
  have xy : va l ≠ va (l + 1) := fun e => by rw [← e, x2] at y2; omega
  have lx : sl2_ va lv l (va l) = l + 1 := fu_s
  have ly : sl2_ va lv l (va (l + 1)) = l := by unfold sl2_; rw [fu_n (fun e => xy e.symm), fu_s]
  have lo : ∀ w, w ≠ va l → w ≠ va (l + 1) → sl2_ va lv l w = lv w := fun w h1 h2 => by unfold sl2_; rw [fu_n h1, fu_n h2]
  obtain ⟨W1, ⟨w1, w2, w3, w4⟩, w5⟩ := xm_list (la := la) (li := li) (hh := hh) (va := va) (lv := lv) (C := C) (M := M) (G := G) (W := W) (S := S) I (v := va l) (by omega)
  have hwc : wo_n W1 ≤ 248 := by
    have c := kept_K (K := l + 1) P I O h0 ((List.range (wo_n W1)).map (wo_w W1)) (nd_map List.nodup_range (fun a b ha hb e => w4 a b (List.mem_range.mp ha) (List.mem_range.mp hb) e)) (fun i hi => by
      obtain ⟨k, hk, e⟩ := List.mem_map.mp hi
      obtain ⟨q1, q2, q3⟩ := w2 k (List.mem_range.mp hk)
      subst e
      exact ⟨q1, by rw [q3, x2]; omega⟩)
    rw [List.length_map, List.length_range] at c
    have : 2 ^ (l + 1) ≤ 2 ^ 5 := Nat.pow_le_pow_right (by omega) (by omega)
    have e5 : (2 : Nat) ^ 5 = 32 := rfl
    omega
  have htc := tc_kept P I O h0
  -- where a variable of a good node can lie
  have lvl : ∀ c, ok_ (tb_V T) c → (lv (tb_V T c) = l → tb_V T c = va l) ∧ (lv (tb_V T c) = l + 1 → tb_V T c = va (l + 1)) := fun c hc => by
    rcases hc with e | e
    · rw [e, S0.1.2.1, P.1.2.2.1]; exact ⟨fun z => by omega, fun z => by omega⟩
    · have hv := (S0.2.1 c e).1
      have q := (P.2.2 _ hv).2
      exact ⟨fun z => by rw [← q, z], fun z => by rw [← q, z]⟩
  have new : ∀ c, ok_ (tb_V T) c → l + 2 ≤ lv (tb_V T c) → sl2_ va lv l (tb_V T c) = lv (tb_V T c) := fun c _ h => lo _ (fun e => by rw [e, x2] at h; omega) (fun e => by rw [e, y2] at h; omega)
  have kids : ∀ j, al_ (tb_V T) j → ∀ c, (c = tb_L T j / 2 ∨ c = tb_H T j / 2) → ok_ (tb_V T) c ∧ lv (tb_V T j) < lv (tb_V T c) := fun j hj c hc => by
    obtain ⟨-, -, -, -, -, o1, o2⟩ := S0.2.1 j hj
    obtain ⟨q1, q2⟩ := O j hj (Nat.zero_le _)
    rcases hc with e | e
    · rw [e]; exact ⟨o1, q1⟩
    · rw [e]; exact ⟨o2, q2⟩
  have h : Sw_ l (va l) (va (l + 1)) (sl2_ va lv l) (pe_ W1 0) (pe_ W1 0) T := by
    refine ⟨fun j hj c hc => ?_, fun j ⟨k, _, b, e⟩ => ?_, fun j hj hjy _ c hc => ?_, fun j hj c hc hcx _ => ?_, fun j hj hr => absurd hr (lc_z (by rw [← I.2.2.2.2.1]; exact h0) hj)⟩
    · obtain ⟨oc, hlt⟩ := kids j hj c hc
      obtain ⟨u1, u2⟩ := lvl c oc
      obtain ⟨t1, t2⟩ := lvl j (Or.inr hj)
      by_cases e1 : tb_V T j = va l
      · rw [e1, x2] at hlt
        by_cases e2 : tb_V T c = va (l + 1)
        · right
          obtain ⟨k, k1, k2⟩ := w3 j hj (S0.ne0 hj) e1
          exact ⟨e1, e2, k, Nat.zero_le _, k1, k2⟩
        · left
          have : lv (tb_V T c) ≠ l + 1 := fun z => e2 (u2 z)
          rw [e1, lx, new c oc (by omega)]; omega
      · left
        by_cases e2 : tb_V T j = va (l + 1)
        · rw [e2, y2] at hlt
          rw [e2, ly, new c oc (by omega)]; omega
        · rw [lo _ e1 e2]
          by_cases e3 : tb_V T c = va l
          · rw [e3, x2] at hlt
            rw [e3, lx]; omega
          · by_cases e4 : tb_V T c = va (l + 1)
            · rw [e4, y2] at hlt
              have : lv (tb_V T j) ≠ l := fun z => e1 (t1 z)
              rw [e4, ly]; omega
            · rw [lo _ e3 e4]; exact hlt
    · obtain ⟨q1, q2, q3⟩ := w2 k b
      rw [e] at q1 q3
      have nw : ∀ c, (c = tb_L T j / 2 ∨ c = tb_H T j / 2) → ¬ pe_ W1 0 c := fun c hc ⟨k', _, b', e'⟩ => by
        have := (kids j q1 c hc).2
        have z := (w2 k' b').2.2
        rw [e'] at z
        rw [q3, z] at this
        omega
      exact ⟨q1, q3, nw _ (Or.inl rfl), nw _ (Or.inr rfl)⟩
    · obtain ⟨oc, hlt⟩ := kids j hj c hc
      rw [hjy, y2] at hlt
      rw [new c oc (by omega)]; omega
    · obtain ⟨oc, hlt⟩ := kids j hj c hc
      rw [hcx, x2] at hlt
      rw [lo _ (fun e => by rw [e, x2] at hlt; omega) (fun e => by rw [e, y2] at hlt; omega)]
      exact hlt
  obtain ⟨T', C', W', φ', a1, a2, a3, a4, a5, a6⟩ := xw_swapL (la := la) (li := li) (hh := hh) (M := M) (G := G) (S := S) P' X w1 w4 (wo_n W1) 0 T φ (by omega) I h K (fun j ⟨k, _, b, e⟩ => by
    obtain ⟨q1, q2, q3⟩ := w2 k b
    rw [e] at q1 q3
    exact ⟨q1, Or.inl q3⟩) (by omega)
  refine ⟨T', C', W', φ', a1, a2, a3, a4, a5, fun post hp => ?_⟩
  have vl : vp_in (nI l) 7 := vp_in_nI (by omega) (by omega)
  have vl1 : vp_in (nI (l + 1)) 7 := vp_in_nI (by omega) (by omega)
  have vx : vp_in (nI (va l)) 7 := vp_in_nI (by omega) (by omega)
  have vy : vp_in (nI (va (l + 1))) 7 := vp_in_nI (by omega) (by omega)
  unfold wpX_swapLevels st_
  dsimp only
  rw [nI_1 l, nI_clamp (n := l) (by omega), nI_clamp (n := l + 1) (by omega)]
  refine ⟨vl, nm_r (e' := nI (va l)) rfl ⟨vl1, nm_r (e' := nI (va (l + 1))) rfl ?_⟩⟩
  refine w5 _ ?_
  dsimp only [st_]
  rw [nI_clamp (n := va l) (by omega), nI_clamp (n := va (l + 1)) (by omega)]
  exact ⟨vl, nm_r en_uI ⟨vl1, nm_r en_uI ⟨vy, nm_r en_uI ⟨vx, nm_r en_uI ⟨_, a6 post hp⟩⟩⟩⟩⟩
end
end
section
/-! handles, name, deliver -/
def Hn_ (la li : Nat) (E hh : Nat → Nat) : Prop :=
  (5 ≤ la ∧ la ≤ 9 ∧ 1 ≤ li ∧ li ≤ 100) ∧ (E 0 = 0 ∧ E 1 = 1 ∧ hh 0 = 1 ∧ hh 1 = 1) ∧ (∀ h, 2 ≤ h → h ≤ la → E h < 2048 → 2 ≤ E h) ∧ (∀ h, la < h → h < 10 → ¬ E h < 2048) ∧ (∀ h, h < 10 → hh h ≤ li) ∧ (∀ h k, 2 ≤ h → h ≤ la → 2 ≤ k → k ≤ la → E h < 2048 → E h = E k → h = k)
theorem hr_put {E : Nat → Nat} {h e i : Nat} (h2 : 2 ≤ h) (h10 : h < 10) (hf : ¬ E h < 2048) (he : e < 2048) : hr_ (fu_u E h e) i = hr_ E i + (if e / 2 = i then 1 else 0) := by
  have s := sm_ch (f := fun j => if 2 ≤ j ∧ E j < 2048 ∧ E j / 2 = i then 1 else 0) (g := fun j => if 2 ≤ j ∧ fu_u E h e j < 2048 ∧ fu_u E h e j / 2 = i then 1 else 0) (k := h) (m := 10) h10 (fun j _ hn => by (try dsimp only); rw [fu_n hn])
  (try dsimp only at s)
  rw [fu_s, if_neg (fun c => hf c.2.1)] at s
  unfold hr_
  by_cases c : e / 2 = i
  · rw [if_pos ⟨h2, he, c⟩] at s
    rw [if_pos c]; omega
  · rw [if_neg (fun z => c z.2.2)] at s
    rw [if_neg c]; omega
theorem hr_del {E : Nat → Nat} {h i : Nat} (h2 : 2 ≤ h) (h10 : h < 10) (hf : E h < 2048) : hr_ (fu_u E h 2048) i + (if E h / 2 = i then 1 else 0) = hr_ E i := by
  have s := sm_ch (f := fun j => if 2 ≤ j ∧ E j < 2048 ∧ E j / 2 = i then 1 else 0) (g := fun j => if 2 ≤ j ∧ fu_u E h 2048 j < 2048 ∧ fu_u E h 2048 j / 2 = i then 1 else 0) (k := h) (m := 10) h10 (fun j _ hn => by (try dsimp only); rw [fu_n hn])
  (try dsimp only at s)
  rw [fu_s, if_neg (c := 2 ≤ h ∧ 2048 < 2048 ∧ 2048 / 2 = i) (fun c => by have := c.2.1; omega)] at s
  unfold hr_
  by_cases c : E h / 2 = i
  · rw [if_pos ⟨h2, hf, c⟩] at s
    rw [if_pos c]; omega
  · rw [if_neg (fun z => c z.2.2)] at s
    rw [if_neg c]; omega
theorem ti_hold {n h e : Nat} {E : Nat → Nat} {T : TN_} {φ : Nat → BF_} (I : Ti_ n E 0 T φ) (h2 : 2 ≤ h) (h10 : h < 10) (hf : ¬ E h < 2048) (oe : ok_ (tb_V T) (e / 2)) : (tb_R T (e / 2) = 0 → 0 < tb_lo T) ∧ Ti_ n (fu_u E h e) 0 (ta_ e T) φ := by
  obtain ⟨S, hch, hfl, hR, hlo, hto, hE⟩ := I
  have he := ef_lt oe
  have q : tb_V T (e / 2) < 6 ∨ tb_R T (e / 2) ≠ 0 := by
    rcases oe with z | z
    · right; rw [z]; have := hR.r0; omega
    · exact Or.inl z.2
  refine ⟨fun z => ?_, S, hch, hfl, fun i hi => ?_, ?_, hto, fun k k2 k10 hk => ?_⟩
  · rw [hlo]; exact lc_pos ⟨ok_lt oe, q.elim id (fun c => absurd z c)⟩ z
  · show fu_u (tb_R T) (e / 2) (tb_R T (e / 2) + 1) i = _ + hr_ (fu_u E h e) i + nr_ (tb_V T) (tb_L T) (tb_H T) i
    rw [hr_put h2 h10 hf he]
    have := hR i hi
    by_cases c : i = e / 2
    · rw [if_pos (c := e / 2 = i) c.symm, c, fu_s, ← c]; omega
    · rw [if_neg (c := e / 2 = i) (fun z => c z.symm), fu_n c]; omega
  · show (if tb_R T (e / 2) = 0 then tb_lo T - 1 else tb_lo T) = lc_ (tb_V T) (fu_u (tb_R T) (e / 2) (tb_R T (e / 2) + 1))
    rw [lc_add (ok_lt oe) q, hlo]
  · by_cases c : k = h
    · rw [c, fu_s]; exact oe
    · rw [fu_n c] at hk ⊢; exact hE k k2 k10 hk
theorem ti_drop {n h : Nat} {E : Nat → Nat} {T : TN_} {φ : Nat → BF_} (I : Ti_ n E 0 T φ) (h2 : 2 ≤ h) (h10 : h < 10) (hf : E h < 2048) : 0 < tb_R T (E h / 2) ∧ Ti_ n (fu_u E h 2048) 0 (td_ (E h) T) φ := by
  obtain ⟨S, hch, hfl, hR, hlo, hto, hE⟩ := I
  have oe := hE h h2 h10 hf
  have d := hr_del (i := E h / 2) h2 h10 hf
  rw [if_pos rfl] at d
  have r := hR _ oe
  have r0 : 0 < tb_R T (E h / 2) := by omega
  have q : tb_V T (E h / 2) < 6 ∨ tb_R T (E h / 2) ≠ 1 := by
    rcases oe with z | z
    · right; rw [if_pos z] at r; omega
    · exact Or.inl z.2
  refine ⟨r0, S, hch, hfl, fun i hi => ?_, ?_, hto, fun k k2 k10 hk => ?_⟩
  · show fu_u (tb_R T) (E h / 2) (tb_R T (E h / 2) - 1) i = _ + hr_ (fu_u E h 2048) i + nr_ (tb_V T) (tb_L T) (tb_H T) i
    have d' := hr_del (i := i) h2 h10 hf
    have := hR i hi
    by_cases c : i = E h / 2
    · rw [if_pos c.symm] at d'
      rw [c, fu_s, ← c]; omega
    · rw [if_neg (fun z => c z.symm)] at d'
      rw [fu_n c]; omega
  · show (if tb_R T (E h / 2) = 1 then tb_lo T + 1 else tb_lo T) = lc_ (tb_V T) (fu_u (tb_R T) (E h / 2) (tb_R T (E h / 2) - 1))
    rw [lc_drop (ok_lt oe) (by omega) q, hlo]
  · by_cases c : k = h
    · rw [c, fu_s] at hk; omega
    · rw [fu_n c] at hk ⊢; exact hE k k2 k10 hk
section
variable {n la li : Nat} {E hh va lv : Nat → Nat} {T : TN_} {C : CN_} {M : MN_} {G : GN_} {W : WN_} {S : SN_}
theorem xw_name {post : Int32 → SX → Prop} {e : Nat} (hla : la ≤ 9) (he : e < 2048) (hhb : ∀ h, h < 10 → hh h ≤ 100) (hli : li ≤ 100) (hR : tb_R T (e / 2) < 4000) (hl : tb_R T (e / 2) = 0 → 0 < tb_lo T)
    (hF : ∀ h, 2 ≤ h → h ≤ la → E h = e → ((hh h < li → post (nI h) (st_ n la li E (fu_u hh h (hh h + 1)) va lv T C M G W S)) ∧ (¬ hh h < li → post (-3) (st_ n la li E hh va lv T C M G W S))))
    (hN : (∀ h, 2 ≤ h → h ≤ la → E h ≠ e) → (∀ h, 2 ≤ h → h ≤ la → E h < 2048) → post (-2) (st_ n la li E hh va lv T C M G W S))
    (hA : (∀ h, 2 ≤ h → h ≤ la → E h ≠ e) → ∀ h, 2 ≤ h → h ≤ la → ¬ E h < 2048 → (∀ k, 2 ≤ k → k < h → E k < 2048) → post (nI h) (st_ n la li (fu_u E h e) (fu_u hh h 1) va lv (ta_ e T) C M G W S)) :
    ∀ (m fr : Nat), m + 1 ≤ la → (∀ k, m + 1 < k → k ≤ la → E k ≠ e) → ((fr = 0 ∧ ∀ k, m + 1 < k → k ≤ la → E k < 2048) ∨ (m + 1 < fr ∧ fr ≤ la ∧ ¬ E fr < 2048 ∧ ∀ k, m + 1 < k → k < fr → E k < 2048)) → wX_name_14 post (nI e) (nI n) (nI la) (nI li) (nI (tb_fh T)) (nI (tb_lo T)) (nI (tb_to T)) (nI (ma_F M)) (nI (ma_G M)) (nI (ma_H M)) (nI (ma_n M)) (nI (ga_n G)) (nI (wo_n W)) (en_E E) (en_I hh) (en_I va) (en_I lv) (en_V (tb_V T)) (en_I (tb_L T)) (en_I (tb_H T)) (en_I (tb_R T)) (en_I (tb_X T)) (en_I (tb_D T)) (en_I (tb_Q T)) (en_I (ca_F C)) (en_I (ca_G C)) (en_I (ca_H C)) (en_I (ca_R C)) (en_I (ma_f M)) (en_I (ma_g M)) (en_I (ma_h M)) (en_I (ma_v M)) (en_I (ma_p M)) (en_I (ma_l M)) (en_I (ma_b M)) (en_I (ga_r G)) (en_I (ga_s G)) (en_I (ga_i G)) (en_I (ga_w G)) (en_I (wo_w W)) (en_I (si_z S)) (en_I (si_c S)) (m + 1) (nI fr) (nI (m + 1))
  | 0, fr, hm, h1, h2 => by
    refine br_t (by decide) ?_
    refine pk_eq fr 0 (fun z => ?_) (fun z => ?_) rfl rfl (by omega) (by omega)
    · exact hN (fun h a b => h1 h (by omega) b) (fun h a b => h2.elim (fun q => q.2 h (by omega) b) (fun q => by omega))
    · obtain ⟨f1, f2, f3, f4⟩ := h2.elim (fun q => absurd q.1 z) id
      have vf : vp_in (nI fr) 10 := vp_in_nI (by omega) (by omega)
      rw [nI_clamp (n := fr) (by omega)]
      refine ⟨vf, nm_r (en_uE he) ⟨vf, nm_r (en_uI (x := 1)) ?_⟩⟩
      refine xw_addRef (E := fu_u E fr e) (hh := fu_u hh fr 1) he hR hl ?_
      exact hA (fun h a b => h1 h (by omega) b) fr (by omega) f2 f3 (fun k a b => f4 k (by omega) b)
  | m + 1, fr, hm, h1, h2 => by
    have vk : vp_in (nI (m + 1 + 1)) 10 := vp_in_nI (by omega) (by omega)
    refine pk_lt (m + 1 + 1) 2 (fun z => by omega) (fun _ => ?_)
    rw [nI_clamp (n := m + 1 + 1) (by omega)]
    refine ⟨vk, ?_⟩
    have go : ∀ fr', E (m + 1 + 1) ≠ e → ((fr' = 0 ∧ ∀ k, m + 1 < k → k ≤ la → E k < 2048) ∨ (m + 1 < fr' ∧ fr' ≤ la ∧ ¬ E fr' < 2048 ∧ ∀ k, m + 1 < k → k < fr' → E k < 2048)) → wX_name_14 post (nI e) (nI n) (nI la) (nI li) (nI (tb_fh T)) (nI (tb_lo T)) (nI (tb_to T)) (nI (ma_F M)) (nI (ma_G M)) (nI (ma_H M)) (nI (ma_n M)) (nI (ga_n G)) (nI (wo_n W)) (en_E E) (en_I hh) (en_I va) (en_I lv) (en_V (tb_V T)) (en_I (tb_L T)) (en_I (tb_H T)) (en_I (tb_R T)) (en_I (tb_X T)) (en_I (tb_D T)) (en_I (tb_Q T)) (en_I (ca_F C)) (en_I (ca_G C)) (en_I (ca_H C)) (en_I (ca_R C)) (en_I (ma_f M)) (en_I (ma_g M)) (en_I (ma_h M)) (en_I (ma_v M)) (en_I (ma_p M)) (en_I (ma_l M)) (en_I (ma_b M)) (en_I (ga_r G)) (en_I (ga_s G)) (en_I (ga_i G)) (en_I (ga_w G)) (en_I (wo_w W)) (en_I (si_z S)) (en_I (si_c S)) (m + 1) (nI fr') (nI (m + 1)) := fun fr' hne hfr =>
      xw_name hla he hhb hli hR hl hF hN hA m fr' (by omega) (fun k a b => by
        by_cases c : k = m + 1 + 1
        · rw [c]; exact hne
        · exact h1 k (by omega) b) hfr
    have hb := hhb (m + 1 + 1) (by omega)
    by_cases hu : E (m + 1 + 1) < 2048
    · rw [en_Ek hu]
      refine pk_eq (E (m + 1 + 1)) e (fun z => ⟨vk, ?_⟩) (fun z => ⟨vk, ?_⟩)
      · refine pk_lt (hh (m + 1 + 1)) li (fun y => ⟨vk, vk, nm_r (e' := en_I (fu_u hh (m + 1 + 1) (hh (m + 1 + 1) + 1))) ?_ ((hF _ (by omega) (by omega) z).1 y)⟩) (fun y => (hF _ (by omega) (by omega) z).2 (by omega))
        rw [← en_uI, ← nI_1]; rfl
      · refine br_t (nI_pos' (by omega)) (nm_r (pk_m1 _) (go fr z ?_))
        rcases h2 with q | ⟨f1, f2, f3, f4⟩
        · left
          refine ⟨q.1, fun k a b => ?_⟩
          by_cases c : k = m + 1 + 1
          · rw [c]; exact hu
          · exact q.2 k (by omega) b
        · right
          refine ⟨by omega, f2, f3, fun k a b => ?_⟩
          by_cases c : k = m + 1 + 1
          · rw [c]; exact hu
          · exact f4 k (by omega) b
    · rw [en_En hu]
      have hne : ¬ (-1 : Int32) = nI e := fun z => by
        have a : ¬ nI e < 0 := nI_pos (by omega)
        rw [← z] at a
        exact a (by decide)
      refine br_f hne ⟨vk, br_f (by decide) (nm_r (pk_m1 _) (go (m + 1 + 1) (fun z => hu (by rw [z]; exact he)) ?_))⟩
      right
      exact ⟨by omega, by omega, hu, fun k a b => by omega⟩
/-- what naming an edge does to the handles -/
def Dl_ (la li : Nat) (E hh : Nat → Nat) (e : Nat) (r : Int32) (E' hh' : Nat → Nat) : Prop :=
  (e < 2 ∧ r = nI e ∧ E' = E ∧ hh' = hh) ∨
  (2 ≤ e ∧ ∃ h, 2 ≤ h ∧ h ≤ la ∧ E h = e ∧ ((hh h < li ∧ r = nI h ∧ E' = E ∧ hh' = fu_u hh h (hh h + 1)) ∨ (¬ hh h < li ∧ r = -3 ∧ E' = E ∧ hh' = hh))) ∨
  (2 ≤ e ∧ (∀ h, 2 ≤ h → h ≤ la → E h ≠ e) ∧ ((∃ h, 2 ≤ h ∧ h ≤ la ∧ ¬ E h < 2048 ∧ (∀ k, 2 ≤ k → k < h → E k < 2048) ∧ r = nI h ∧ E' = fu_u E h e ∧ hh' = fu_u hh h 1) ∨ ((∀ h, 2 ≤ h → h ≤ la → E h < 2048) ∧ r = -2 ∧ E' = E ∧ hh' = hh)))
theorem xm_name {e : Nat} {φ : Nat → BF_} (I : Ti_ n E 0 T φ) (N : Hn_ la li E hh) (oe : ok_ (tb_V T) (e / 2)) :
    ∃ r E' hh' T', Dl_ la li E hh e r E' hh' ∧ Ti_ n E' 0 T' φ ∧ (tb_V T' = tb_V T ∧ tb_L T' = tb_L T ∧ tb_H T' = tb_H T) ∧ ∀ post : Int32 → SX → Prop, post r (st_ n la li E' hh' va lv T' C M G W S) → wpX_name post (st_ n la li E hh va lv T C M G W S) (nI e) := by
  obtain ⟨⟨n1, n2, n3, n4⟩, ⟨n5, n6, n7, n8⟩, n9, n10, n11, n12⟩ := N
  have he := ef_lt oe
  by_cases c0 : e < 2
  · refine ⟨nI e, E, hh, T, Or.inl ⟨c0, rfl, rfl, rfl⟩, I, ⟨rfl, rfl, rfl⟩, fun post hp => ?_⟩
    unfold wpX_name st_
    dsimp only
    exact pk_lt 1 e (fun z => by omega) (fun _ => hp)
  · have bd := I.2.2.2.1.bd oe
    have hl : tb_R T (e / 2) = 0 → 0 < tb_lo T := fun z => by
      rw [I.2.2.2.2.1]
      refine lc_pos (oe.elim (fun c => ?_) id) z
      rw [c] at z
      have := I.2.2.2.1.r0
      omega
    have start : ∀ post : Int32 → SX → Prop, (∀ h, 2 ≤ h → h ≤ la → E h = e → ((hh h < li → post (nI h) (st_ n la li E (fu_u hh h (hh h + 1)) va lv T C M G W S)) ∧ (¬ hh h < li → post (-3) (st_ n la li E hh va lv T C M G W S)))) → ((∀ h, 2 ≤ h → h ≤ la → E h ≠ e) → (∀ h, 2 ≤ h → h ≤ la → E h < 2048) → post (-2) (st_ n la li E hh va lv T C M G W S)) → ((∀ h, 2 ≤ h → h ≤ la → E h ≠ e) → ∀ h, 2 ≤ h → h ≤ la → ¬ E h < 2048 → (∀ k, 2 ≤ k → k < h → E k < 2048) → post (nI h) (st_ n la li (fu_u E h e) (fu_u hh h 1) va lv (ta_ e T) C M G W S)) → wpX_name post (st_ n la li E hh va lv T C M G W S) (nI e) := fun post q1 q2 q3 => by
      unfold wpX_name st_
      dsimp only
      refine pk_lt 1 e (fun _ => ⟨la - 1 + 1, ?_⟩) (fun z => by omega)
      have w := xw_name (n := n) (va := va) (lv := lv) (C := C) (M := M) (G := G) (W := W) (S := S) (post := post) n2 he (fun h hh10 => by have := n11 h hh10; omega) n4 (by omega) hl q1 q2 q3 (la - 1) 0 (by omega) (fun k a b => by omega) (Or.inl ⟨rfl, fun k a b => by omega⟩)
      rw [show la - 1 + 1 = la from by omega] at w ⊢
      exact w
    by_cases c1 : ∃ h, 2 ≤ h ∧ h ≤ la ∧ E h = e
    · obtain ⟨h, h2, hla, hE⟩ := c1
      have uni : ∀ k, 2 ≤ k → k ≤ la → E k = e → k = h := fun k a b c => n12 k h a b h2 hla (by omega) (by rw [c, hE])
      by_cases c2 : hh h < li
      · refine ⟨nI h, E, fu_u hh h (hh h + 1), T, Or.inr (Or.inl ⟨by omega, h, h2, hla, hE, Or.inl ⟨c2, rfl, rfl, rfl⟩⟩), I, ⟨rfl, rfl, rfl⟩, fun post hp => start post (fun k a b c => ?_) (fun z => absurd hE (z h h2 hla)) (fun z => absurd hE (z h h2 hla))⟩
        have := uni k a b c
        subst this
        exact ⟨fun _ => hp, fun z => absurd c2 z⟩
      · refine ⟨-3, E, hh, T, Or.inr (Or.inl ⟨by omega, h, h2, hla, hE, Or.inr ⟨c2, rfl, rfl, rfl⟩⟩), I, ⟨rfl, rfl, rfl⟩, fun post hp => start post (fun k a b c => ?_) (fun z => absurd hE (z h h2 hla)) (fun z => absurd hE (z h h2 hla))⟩
        have := uni k a b c
        subst this
        exact ⟨fun z => absurd z c2, fun _ => hp⟩
    · have hno : ∀ h, 2 ≤ h → h ≤ la → E h ≠ e := fun h a b c => c1 ⟨h, a, b, c⟩
      by_cases c2 : ∃ h, 2 ≤ h ∧ h ≤ la ∧ ¬ E h < 2048
      · obtain ⟨h, ⟨h2, hla, hf⟩, hmin⟩ := pk_least (fun h => 2 ≤ h ∧ h ≤ la ∧ ¬ E h < 2048) c2
        have low : ∀ k, 2 ≤ k → k < h → E k < 2048 := fun k a b => Classical.byContradiction (fun c => hmin k b ⟨a, by omega, c⟩)
        obtain ⟨t1, t2⟩ := ti_hold I h2 (by omega) hf oe
        refine ⟨nI h, fu_u E h e, fu_u hh h 1, ta_ e T, Or.inr (Or.inr ⟨by omega, hno, Or.inl ⟨h, h2, hla, hf, low, rfl, rfl, rfl⟩⟩), t2, ⟨rfl, rfl, rfl⟩, fun post hp => start post (fun k a b c => absurd c (hno k a b)) (fun _ z => absurd (z h h2 hla) hf) (fun _ k a b c d => ?_)⟩
        have : k = h := by
          rcases Nat.lt_trichotomy k h with z | z | z
          · exact absurd (low k a z) c
          · exact z
          · exact absurd (d h h2 z) hf
        subst this
        exact hp
      · have hall : ∀ h, 2 ≤ h → h ≤ la → E h < 2048 := fun h a b => Classical.byContradiction (fun c => c2 ⟨h, a, b, c⟩)
        exact ⟨-2, E, hh, T, Or.inr (Or.inr ⟨by omega, hno, Or.inr ⟨hall, rfl, rfl, rfl⟩⟩), I, ⟨rfl, rfl, rfl⟩, fun post hp => start post (fun k a b c => absurd c (hno k a b)) (fun _ _ => hp) (fun _ k a b c _ => absurd (hall k a b) c)⟩
theorem xm_deliver {e : Nat} {φ : Nat → BF_} (P : Pm_ n va lv) (I : Ti_ n E 0 T φ) (O : Od_ 0 lv (tb_V T) (tb_L T) (tb_H T)) (K : Ca_ (tb_V T) φ C) (N : Hn_ la li E hh) (oe : ok_ (tb_V T) (e / 2)) :
    ∃ r E' hh' T' C' W', Dl_ la li E hh e r E' hh' ∧ Ti_ n E' 0 T' φ ∧ Od_ 0 lv (tb_V T') (tb_L T') (tb_H T') ∧ tb_lo T' = 0 ∧ Ca_ (tb_V T') φ C' ∧ ∀ post : Int32 → SX → Prop, post r (st_ n la li E' hh' va lv T' C' M G W' S) → wpX_deliver post (st_ n la li E hh va lv T C M G W S) (nI e) := by
  obtain ⟨r, E', hh', T1, d, I1, ⟨s1, s2, s3⟩, w1⟩ := xm_name (va := va) (lv := lv) (C := C) (M := M) (G := G) (W := W) (S := S) I N oe
  obtain ⟨T', C', W', a1, a2, a3, a4, a5, a6⟩ := xm_sweep (la := la) (li := li) (E := E') (hh := hh') (T := T1) (M := M) (G := G) (W := W) (S := S) (l := 0) P (by omega) I1 (by rw [s1, s2, s3]; exact O) (fun j _ h => by omega) (by rw [s1]; exact K)
  refine ⟨r, E', hh', T', C', W', d, a1, a2, a4, a5, fun post hp => ?_⟩
  unfold wpX_deliver st_
  dsimp only
  refine w1 _ ?_
  dsimp only [st_]
  exact a6 _ hp
end
end
section
/-! the reference's tables of bits -/
def mk_N (f : Nat → Bool) : Nat → Nat
  | 0 => 0
  | c + 1 => 2 ^ c * (f c).toNat + mk_N f c
theorem mk_lt (f : Nat → Bool) : ∀ c, mk_N f c < 2 ^ c
  | 0 => by simp [mk_N]
  | c + 1 => by
    have := mk_lt f c
    simp only [mk_N, Nat.pow_succ]
    cases f c <;> simp <;> omega
theorem mk_bit (f : Nat → Bool) : ∀ {c a : Nat}, a < c → (mk_N f c).testBit a = f a
  | 0, _, h => by omega
  | c + 1, a, h => by
    simp only [mk_N]
    rw [Nat.testBit_two_pow_mul_add _ (mk_lt f c)]
    by_cases e : a < c
    · rw [if_pos e]; exact mk_bit f e
    · rw [if_neg e]
      have : a = c := by omega
      subst this
      rw [Nat.sub_self]
      cases f a <;> rfl
theorem mk_ext {f g : Nat → Bool} : ∀ {c : Nat}, (∀ a, a < c → f a = g a) → mk_N f c = mk_N g c
  | 0, _ => rfl
  | c + 1, h => by
    simp only [mk_N]
    rw [h c (by omega), mk_ext (fun a ha => h a (by omega))]
theorem mk_inj {f g : Nat → Bool} {c : Nat} (h : mk_N f c = mk_N g c) : ∀ a, a < c → f a = g a := fun a ha => by
  rw [← mk_bit f ha, ← mk_bit g ha, h]
theorem mk_l {f : Nat → Bool} {n : Nat} (hn : n ≤ 6) : mk_N f (2 ^ n) < 2 ^ 64 := by
  have a := mk_lt f (2 ^ n)
  have b : 2 ^ n ≤ 2 ^ 6 := Nat.pow_le_pow_right (by omega) hn
  have c : 2 ^ 2 ^ n ≤ 2 ^ 64 := Nat.pow_le_pow_right (by omega) (by simpa using b)
  omega
theorem lN_inj {a b : Nat} (ha : a < 2 ^ 64) (hb : b < 2 ^ 64) (h : lN a = lN b) : a = b := by
  have x := wb_tn ha
  have y := wb_tn hb
  rw [h] at x
  omega
theorem mk_leq {f g : Nat → Bool} {n : Nat} (hn : n ≤ 6) : lN (mk_N f (2 ^ n)) = lN (mk_N g (2 ^ n)) ↔ ∀ a, a < 2 ^ n → f a = g a :=
  ⟨fun h => mk_inj (lN_inj (mk_l hn) (mk_l hn) h), fun h => by rw [mk_ext h]⟩
theorem mk_or {f : Nat → Bool} {c : Nat} (hc : c < 64) : lN (mk_N f c) ||| (lN (f c).toNat <<< ((nI c).toInt64 &&& 63)) = lN (mk_N f (c + 1)) := by
  have a := mk_lt f c
  have b : (2 : Nat) ^ (c + 1) ≤ 2 ^ 64 := Nat.pow_le_pow_right (by omega) (by omega)
  have d := mk_lt f (c + 1)
  have e : mk_N f c + (f c).toNat * 2 ^ c = mk_N f (c + 1) := by simp only [mk_N]; rw [Nat.mul_comm]; omega
  rw [wb_shl _ hc, g_or' (k := c) rfl a (by omega), e]
theorem mk_val {f : Nat → Bool} {n a : Nat} (hn : n ≤ 6) (ha : a < 2 ^ n) : ((((lN (mk_N f (2 ^ n))).toUInt64 >>> ((nI a).toInt64.toUInt64 &&& Int64.toUInt64 63)).toInt64) &&& 1) = lN (f a).toNat := by
  have b : 2 ^ n ≤ 2 ^ 6 := Nat.pow_le_pow_right (by omega) hn
  have b' : (2 : Nat) ^ 6 = 64 := rfl
  rw [wb_bit (mk_l hn) (by omega)]
  congr 1
  have t := mk_bit f ha
  rw [Nat.testBit_eq_decide_div_mod_eq] at t
  cases h : f a
  · rw [h] at t
    have := of_decide_eq_false t
    simp; omega
  · rw [h] at t
    have := of_decide_eq_true t
    simp; omega
def en_F (n : Nat) (B : Nat → Nat → Bool) : Nat → Int64 := fun h => lN (mk_N (B h) (2 ^ n))
theorem en_uF {n h : Nat} {B : Nat → Nat → Bool} {f : Nat → Bool} : vp_updL (en_F n B) h (lN (mk_N f (2 ^ n))) = en_F n (fu_u B h f) := by
  funext j; unfold vp_updL en_F fu_u; split <;> rfl
/-- the reference's order has six places -/
def en_O (f : Nat → Nat) : Nat → Int32 := fun i => if i < 6 then nI (f i) else 0
theorem en_Ok {f : Nat → Nat} {k : Nat} (h : k < 6) : en_O f k = nI (f k) := if_pos h
theorem en_uO {f : Nat → Nat} {k x : Nat} (h : k < 6) : upd (en_O f) k (nI x) = en_O (fu_u f k x) := by
  funext j; unfold upd en_O fu_u
  by_cases e : j = k
  · rw [if_pos e, if_pos (by omega), if_pos e]
  · rw [if_neg e, if_neg e]
def sy_ (n la li : Nat) (B : Nat → Nat → Bool) (hh us va : Nat → Nat) (ot : Nat → Int32) (sn : Nat → Int64) (sw ls lt : Nat → Int32) : SY := ((nI n), (nI la), (nI li), (nI (2 ^ n)), (en_F n B), (en_I hh), (en_I us), (en_O va), ot, sn, sw, ls, lt)
theorem lp_mk {W : Nat → Int64 → Int32 → Prop} {f : Nat → Bool} {c : Nat} (hx : ∀ N, W (N + 1) (lN (mk_N f c)) (nI c)) (hs : ∀ N i, i < c → W N (lN (mk_N f (i + 1))) (nI (i + 1)) → W (N + 1) (lN (mk_N f i)) (nI i)) : W (c + 1) 0 0 := by
  have k : ∀ m i, i + m = c → W (m + 1) (lN (mk_N f i)) (nI i) := by
    intro m
    induction m with
    | zero => intro i hi; have e : i = c := by omega
              subst e; exact hx 0
    | succ m ih => intro i hi; exact hs _ i (by omega) (ih (i + 1) (by omega))
  exact k c 0 (by omega)
theorem p2_le {n : Nat} (hn : n ≤ 6) : 2 ^ n ≤ 64 := by
  have b : 2 ^ n ≤ 2 ^ 6 := Nat.pow_le_pow_right (by omega) hn
  simpa using b
section
variable {n la li : Nat} {B : Nat → Nat → Bool} {hh us va : Nat → Nat} {ot : Nat → Int32} {sn : Nat → Int64} {sw ls lt : Nat → Int32}
theorem yw_value {post : Int32 → Prop} {h a : Nat} (hn : n ≤ 6) (hh10 : h < 10) (ha : a < 2 ^ n) (hp : post (nI (B h a).toNat)) : wpY_value post (sy_ n la li B hh us va ot sn sw ls lt) (nI h) (nI a) := by
  unfold wpY_value sy_
  dsimp only
  rw [nI_clamp (n := h) (by omega)]
  refine ⟨vp_in_nI hh10 (by omega), ?_⟩
  rw [show ((((en_F n B h).toUInt64 >>> ((nI a).toInt64.toUInt64 &&& Int64.toUInt64 63)).toInt64) &&& 1) = lN (B h a).toNat from mk_val hn ha, lN_i]
  exact hp
def us_ok (us : Nat → Nat) : Prop := ∀ h, h < 10 → us h = 0 ∨ us h = 1
theorem yw_del92 {post : Int32 → SY → Prop} {f : Nat → Bool} (hla : la ≤ 9) (hu : us_ok us)
    (hA : ∀ h, 2 ≤ h → h ≤ la → us h = 0 → (∀ k, 2 ≤ k → k < h → us k = 1) → post (nI h) (sy_ n la li (fu_u B h f) (fu_u hh h 1) (fu_u us h 1) va ot sn sw ls lt))
    (hN : (∀ h, 2 ≤ h → h ≤ la → us h = 1) → post (-2) (sy_ n la li B hh us va ot sn sw ls lt)) : ∀ (m h : Nat), h + m = la + 1 → 2 ≤ h → (∀ k, 2 ≤ k → k < h → us k = 1) → wY_deliver_92 post (lN (mk_N f (2 ^ n))) (nI n) (nI la) (nI li) (nI (2 ^ n)) (en_F n B) (en_I hh) (en_I us) (en_O va) ot sn sw ls lt (m + 1) (nI h)
  | 0, h, hm, h2, hb => by
    refine pk_lt la h (fun _ => hN (fun k a b => hb k a (by omega))) (fun z => by omega)
  | m + 1, h, hm, h2, hb => by
    have vh : vp_in (nI h) 10 := vp_in_nI (by omega) (by omega)
    have u := hu h (by omega)
    refine pk_lt la h (fun z => by omega) (fun _ => ?_)
    rw [nI_clamp (n := h) (by omega)]
    refine ⟨vh, pk_eq (us h) 0 (fun z => ⟨vh, nm_r (en_uI (x := 1)) ⟨vh, nm_r en_uF ⟨vh, nm_r (en_uI (x := 1)) (hA h h2 (by omega) z hb)⟩⟩⟩) (fun z => nm_r (nI_1 _) (yw_del92 hla hu hA hN m (h + 1) (by omega) (by omega) (fun k a b => ?_)))⟩
    by_cases e : k = h
    · subst e; omega
    · exact hb k a (by omega)
theorem yw_del28 {post : Int32 → SY → Prop} {f : Nat → Bool} (hn : n ≤ 6) (hla : la ≤ 9) (hu : us_ok us) (hhb : ∀ h, h < 10 → hh h ≤ 100) (hli : li ≤ 100)
    (hF : ∀ h, 2 ≤ h → h ≤ la → us h = 1 → (∀ a, a < 2 ^ n → B h a = f a) → ((hh h = li → post (-3) (sy_ n la li B hh us va ot sn sw ls lt)) ∧ (hh h ≠ li → post (nI h) (sy_ n la li B (fu_u hh h (hh h + 1)) us va ot sn sw ls lt))))
    (hE : (∀ h, 2 ≤ h → h ≤ la → us h = 1 → ¬ ∀ a, a < 2 ^ n → B h a = f a) → wY_deliver_92 post (lN (mk_N f (2 ^ n))) (nI n) (nI la) (nI li) (nI (2 ^ n)) (en_F n B) (en_I hh) (en_I us) (en_O va) ot sn sw ls lt (la - 1 + 1) (nI 2)) : ∀ (m h : Nat), h + m = la + 1 → 2 ≤ h → (∀ k, 2 ≤ k → k < h → us k = 1 → ¬ ∀ a, a < 2 ^ n → B k a = f a) → wY_deliver_28 post (lN (mk_N f (2 ^ n))) (nI n) (nI la) (nI li) (nI (2 ^ n)) (en_F n B) (en_I hh) (en_I us) (en_O va) ot sn sw ls lt (m + 1) (nI h)
  | 0, h, hm, h2, hb => by
    refine pk_lt la h (fun _ => ⟨_, hE (fun k a b => hb k a (by omega))⟩) (fun z => by omega)
  | m + 1, h, hm, h2, hb => by
    have vh : vp_in (nI h) 10 := vp_in_nI (by omega) (by omega)
    have u := hu h (by omega)
    have b100 := hhb h (by omega)
    refine pk_lt la h (fun z => by omega) (fun _ => ?_)
    rw [nI_clamp (n := h) (by omega)]
    have go : (us h = 1 → ¬ ∀ a, a < 2 ^ n → B h a = f a) → wY_deliver_28 post (lN (mk_N f (2 ^ n))) (nI n) (nI la) (nI li) (nI (2 ^ n)) (en_F n B) (en_I hh) (en_I us) (en_O va) ot sn sw ls lt (m + 1) (nI (h + 1)) := fun hne =>
      yw_del28 hn hla hu hhb hli hF hE m (h + 1) (by omega) (by omega) (fun k a b => by
        by_cases e : k = h
        · subst e; exact hne
        · exact hb k a (by omega))
    refine ⟨vh, pk_eq (us h) 0 (fun z => nm_r (nI_1 _) (go (fun c => by omega))) (fun z => ⟨vh, ?_⟩)⟩
    refine ek_if (mk_leq (f := B h) (g := f) hn) (fun d => ⟨vh, pk_eq (hh h) li (fun y => (hF h h2 (by omega) (by omega) d).1 y) (fun y => ⟨vh, vh, nm_r (e' := en_I (fu_u hh h (hh h + 1))) ?_ ((hF h h2 (by omega) (by omega) d).2 y)⟩)⟩) (fun d => nm_r (nI_1 _) (go (fun _ => d)))
    rw [← en_uI, ← nI_1]; rfl
theorem yw_deliver {post : Int32 → SY → Prop} {f : Nat → Bool} (hn : n ≤ 6) (hla5 : 5 ≤ la) (hla : la ≤ 9) (hu : us_ok us) (hhb : ∀ h, h < 10 → hh h ≤ 100) (hli : li ≤ 100)
    (h0 : (∀ a, a < 2 ^ n → f a = B 0 a) → post 0 (sy_ n la li B hh us va ot sn sw ls lt))
    (h1 : ¬ (∀ a, a < 2 ^ n → f a = B 0 a) → (∀ a, a < 2 ^ n → f a = B 1 a) → post 1 (sy_ n la li B hh us va ot sn sw ls lt))
    (hF : ¬ (∀ a, a < 2 ^ n → f a = B 0 a) → ¬ (∀ a, a < 2 ^ n → f a = B 1 a) → ∀ h, 2 ≤ h → h ≤ la → us h = 1 → (∀ a, a < 2 ^ n → B h a = f a) → ((hh h = li → post (-3) (sy_ n la li B hh us va ot sn sw ls lt)) ∧ (hh h ≠ li → post (nI h) (sy_ n la li B (fu_u hh h (hh h + 1)) us va ot sn sw ls lt))))
    (hA : ¬ (∀ a, a < 2 ^ n → f a = B 0 a) → ¬ (∀ a, a < 2 ^ n → f a = B 1 a) → (∀ h, 2 ≤ h → h ≤ la → us h = 1 → ¬ ∀ a, a < 2 ^ n → B h a = f a) → ∀ h, 2 ≤ h → h ≤ la → us h = 0 → (∀ k, 2 ≤ k → k < h → us k = 1) → post (nI h) (sy_ n la li (fu_u B h f) (fu_u hh h 1) (fu_u us h 1) va ot sn sw ls lt))
    (hN : ¬ (∀ a, a < 2 ^ n → f a = B 0 a) → ¬ (∀ a, a < 2 ^ n → f a = B 1 a) → (∀ h, 2 ≤ h → h ≤ la → us h = 1 → ¬ ∀ a, a < 2 ^ n → B h a = f a) → (∀ h, 2 ≤ h → h ≤ la → us h = 1) → post (-2) (sy_ n la li B hh us va ot sn sw ls lt)) :
    wpY_deliver post (sy_ n la li B hh us va ot sn sw ls lt) (lN (mk_N f (2 ^ n))) := by
  unfold wpY_deliver sy_
  dsimp only
  refine ek_if (mk_leq (f := f) (g := B 0) hn) h0 (fun c0 => ek_if (mk_leq (f := f) (g := B 1) hn) (h1 c0) (fun c1 => ⟨la - 1 + 1, ?_⟩))
  exact yw_del28 hn hla hu hhb hli (hF c0 c1) (fun c2 => yw_del92 hla hu (hA c0 c1 c2) (hN c0 c1 c2) (la - 1) 2 (by omega) (by omega) (fun k a b => by omega)) (la - 1) 2 (by omega) (by omega) (fun k a b => by omega)
end
end
section
/-! the relation, and deliver on both sides -/
def as_ (a : Nat) : Nat → Bool := fun w => a.testBit w
def Xi_ (n la li : Nat) (E hh va lv : Nat → Nat) (T : TN_) (C : CN_) (G : GN_) (φ : Nat → BF_) : Prop :=
  Pm_ n va lv ∧ Ti_ n E 0 T φ ∧ Od_ 0 lv (tb_V T) (tb_L T) (tb_H T) ∧ tb_lo T = 0 ∧ Ca_ (tb_V T) φ C ∧ ((∀ j, ga_s G j = 0) ∧ ga_i G 0 = 0 ∧ ga_w G 0 = 0) ∧ Hn_ la li E hh
def Bu_ (n : Nat) (E : Nat → Nat) (φ : Nat → BF_) (B : Nat → Nat → Bool) (us : Nat → Nat) : Prop :=
  (∀ h, h < 10 → us h = if E h < 2048 then 1 else 0) ∧ ∀ h, h < 10 → E h < 2048 → ∀ a, a < 2 ^ n → B h a = ef_ φ (E h) (as_ a)
def Re_ (n la li : Nat) (E hh va lv : Nat → Nat) (T : TN_) (C : CN_) (G : GN_) (φ : Nat → BF_) (B : Nat → Nat → Bool) (us : Nat → Nat) : Prop :=
  Xi_ n la li E hh va lv T C G φ ∧ Bu_ n E φ B us
/-- the two states: the diagram's nodes carry functions phi; a handle's edge has the function that the model's table holds -/
def i_Rel (_ : Nat) (u : SX) (v : SY) : Prop :=
  ∃ (n la li : Nat) (E hh va lv : Nat → Nat) (T : TN_) (C : CN_) (M : MN_) (G : GN_) (W : WN_) (S : SN_) (φ : Nat → BF_) (B : Nat → Nat → Bool) (us : Nat → Nat) (ot : Nat → Int32) (sn : Nat → Int64) (sw ls lt : Nat → Int32), (u = (st_ n la li E hh va lv T C M G W S) ∧ v = (sy_ n la li B hh us va ot sn sw ls lt)) ∧ Re_ n la li E hh va lv T C G φ B us
theorem ir_el {P : SX → SY → Prop} {k : Nat} {u : SX} {v : SY} (I : i_Rel k u v) (h : ∀ (n la li : Nat) (E hh va lv : Nat → Nat) (T : TN_) (C : CN_) (M : MN_) (G : GN_) (W : WN_) (S : SN_) (φ : Nat → BF_) (B : Nat → Nat → Bool) (us : Nat → Nat) (ot : Nat → Int32) (sn : Nat → Int64) (sw ls lt : Nat → Int32), Re_ n la li E hh va lv T C G φ B us → P (st_ n la li E hh va lv T C M G W S) (sy_ n la li B hh us va ot sn sw ls lt)) : P u v := by
  obtain ⟨n, la, li, E, hh, va, lv, T, C, M, G, W, S, φ, B, us, ot, sn, sw, ls, lt, ⟨e1, e2⟩, r⟩ := I
  rw [e1, e2]
  exact h n la li E hh va lv T C M G W S φ B us ot sn sw ls lt r
theorem ir_mk {k n la li : Nat} {E hh va lv : Nat → Nat} {T : TN_} {C : CN_} {M : MN_} {G : GN_} {W : WN_} {S : SN_} {φ : Nat → BF_} {B : Nat → Nat → Bool} {us : Nat → Nat} {ot : Nat → Int32} {sn : Nat → Int64} {sw ls lt : Nat → Int32} (r : Re_ n la li E hh va lv T C G φ B us) : i_Rel k (st_ n la li E hh va lv T C M G W S) (sy_ n la li B hh us va ot sn sw ls lt) :=
  ⟨n, la, li, E, hh, va, lv, T, C, M, G, W, S, φ, B, us, ot, sn, sw, ls, lt, ⟨rfl, rfl⟩, r⟩
theorem i_up {k : Nat} {u : SX} {v : SY} (h : i_Rel k u v) : i_Rel (k + 4) u v := h
def Jn_ (k : Nat) (WX : (Int32 → SX → Prop) → Prop) (WY : (Int32 → SY → Prop) → Prop) : Prop :=
  ∃ r u' v', i_Rel k u' v' ∧ (∀ post : Int32 → SX → Prop, post r u' → WX post) ∧ (∀ post : Int32 → SY → Prop, post r v' → WY post)
theorem jn_go {k : Nat} {WX : (Int32 → SX → Prop) → Prop} {WY : (Int32 → SY → Prop) → Prop} (h : Jn_ k WX WY) : WX (fun r u' => WY (fun r' v' => r' = r ∧ i_Rel k u' v')) := by
  obtain ⟨r, u', v', h1, h2, h3⟩ := h
  exact h2 _ (h3 _ ⟨rfl, h1⟩)
theorem as_ex (n : Nat) (s : Nat → Bool) : ∃ a, a < 2 ^ n ∧ ∀ w, w < n → as_ a w = s w := bits_ex n s
theorem ef_eqa {n : Nat} {V L H va lv : Nat → Nat} {φ : Nat → BF_} (S : Sm_ n V L H φ) (P : Pm_ n va lv) (O : Od_ 0 lv V L H) {d e : Nat} (hd : ok_ V (d / 2)) (he : ok_ V (e / 2)) (h : ∀ a, a < 2 ^ n → ef_ φ d (as_ a) = ef_ φ e (as_ a)) : d = e := by
  apply S.can hd he
  intro s
  obtain ⟨a, a1, a2⟩ := as_ex n s
  rw [ef_dn S P O hd s (as_ a) (fun w hw => (a2 w hw).symm), ef_dn S P O he s (as_ a) (fun w hw => (a2 w hw).symm)]
  exact h a a1
section
variable {k n la li : Nat} {E hh va lv : Nat → Nat} {T : TN_} {C : CN_} {M : MN_} {G : GN_} {W : WN_} {S : SN_} {φ : Nat → BF_} {B : Nat → Nat → Bool} {us : Nat → Nat} {ot : Nat → Int32} {sn : Nat → Int64} {sw ls lt : Nat → Int32}
theorem jn_deliver {e : Nat} {f : Nat → Bool} (P : Pm_ n va lv) (I : Ti_ n E 0 T φ) (O : Od_ 0 lv (tb_V T) (tb_L T) (tb_H T)) (K : Ca_ (tb_V T) φ C) (g : (∀ j, ga_s G j = 0) ∧ ga_i G 0 = 0 ∧ ga_w G 0 = 0) (N : Hn_ la li E hh) (b : Bu_ n E φ B us) (oe : ok_ (tb_V T) (e / 2)) (hf : ∀ a, a < 2 ^ n → f a = ef_ φ e (as_ a)) :
    Jn_ k (fun post => wpX_deliver post (st_ n la li E hh va lv T C M G W S) (nI e)) (fun post => wpY_deliver post (sy_ n la li B hh us va ot sn sw ls lt) (lN (mk_N f (2 ^ n)))) := by
  have n6 := P.1.2.1
  have S0 := I.1
  obtain ⟨r, E', hh', T', C', W', d, I', O', l0, K', wx⟩ := xm_deliver (M := M) (G := G) (W := W) (S := S) P I O K N oe
  have NN := N
  obtain ⟨⟨n1, n2, n3, n4⟩, ⟨n5, n6', n7, n8⟩, n9, n10, n11, n12⟩ := N
  obtain ⟨b1, b2⟩ := b
  have he := ef_lt oe
  have hu : us_ok us := fun h hh10 => by
    rw [b1 h hh10]
    by_cases c : E h < 2048
    · rw [if_pos c]; exact Or.inr rfl
    · rw [if_neg c]; exact Or.inl rfl
  have u1 : ∀ h, h < 10 → (us h = 1 ↔ E h < 2048) := fun h hh10 => by
    rw [b1 h hh10]
    by_cases c : E h < 2048
    · rw [if_pos c]; exact ⟨fun _ => c, fun _ => rfl⟩
    · rw [if_neg c]; exact ⟨fun z => by omega, fun z => absurd z c⟩
  have okh : ∀ h, 2 ≤ h → h ≤ la → E h < 2048 → ok_ (tb_V T) (E h / 2) := fun h a b c => I.2.2.2.2.2.2 h a (by omega) c
  have q0 : (∀ a, a < 2 ^ n → f a = B 0 a) ↔ e = 0 := by
    constructor
    · intro h
      apply ef_eqa S0 P O oe (e := 0) (Or.inl rfl)
      intro a ha
      rw [← hf a ha, h a ha, b2 0 (by omega) (by omega) a ha, n5]
    · intro h a ha
      rw [hf a ha, b2 0 (by omega) (by omega) a ha, n5, h]
  have q1 : (∀ a, a < 2 ^ n → f a = B 1 a) ↔ e = 1 := by
    constructor
    · intro h
      apply ef_eqa S0 P O oe (e := 1) (Or.inl rfl)
      intro a ha
      rw [← hf a ha, h a ha, b2 1 (by omega) (by omega) a ha, n6']
    · intro h a ha
      rw [hf a ha, b2 1 (by omega) (by omega) a ha, n6', h]
  have qh : ∀ h, 2 ≤ h → h ≤ la → E h < 2048 → ((∀ a, a < 2 ^ n → B h a = f a) ↔ E h = e) := by
    intro h h2 hla hE
    constructor
    · intro z
      apply ef_eqa S0 P O (okh h h2 hla hE) oe
      intro a ha
      rw [← hf a ha, ← z a ha, b2 h (by omega) hE a ha]
    · intro z a ha
      rw [hf a ha, b2 h (by omega) hE a ha, z]
  have hhb : ∀ h, h < 10 → hh h ≤ 100 := fun h hh10 => by have := n11 h hh10; omega
  have fin : ∀ {E' hh' : Nat → Nat} {T' : TN_} {C' : CN_} {B' : Nat → Nat → Bool} {us' : Nat → Nat}, Ti_ n E' 0 T' φ → Od_ 0 lv (tb_V T') (tb_L T') (tb_H T') → tb_lo T' = 0 → Ca_ (tb_V T') φ C' → Hn_ la li E' hh' → Bu_ n E' φ B' us' → Re_ n la li E' hh' va lv T' C' G φ B' us' := fun a1 a2 a3 a4 a5 a6 => ⟨⟨P, a1, a2, a3, a4, g, a5⟩, a6⟩
  rcases d with ⟨c, d1, d2, d3⟩ | ⟨c, h, h2, hla, hE, d⟩ | ⟨c, hno, d⟩
  · rw [d2] at I'
    rw [d1, d2, d3] at wx
    refine ⟨nI e, _, (sy_ n la li B hh us va ot sn sw ls lt), ir_mk (fin I' O' l0 K' NN ⟨b1, b2⟩), wx, fun post hp => ?_⟩
    rcases (by omega : e = 0 ∨ e = 1) with z | z
    · subst z
      exact yw_deliver n6 n1 n2 hu hhb n4 (fun _ => hp) (fun z => absurd (q0.mpr rfl) z) (fun z => absurd (q0.mpr rfl) z) (fun z => absurd (q0.mpr rfl) z) (fun z => absurd (q0.mpr rfl) z)
    · subst z
      exact yw_deliver n6 n1 n2 hu hhb n4 (fun z => absurd (q0.mp z) (by decide)) (fun _ _ => hp) (fun _ z => absurd (q1.mpr rfl) z) (fun _ z => absurd (q1.mpr rfl) z) (fun _ z => absurd (q1.mpr rfl) z)
  · have c0 : ¬ ∀ a, a < 2 ^ n → f a = B 0 a := fun z => by have := q0.mp z; omega
    have c1 : ¬ ∀ a, a < 2 ^ n → f a = B 1 a := fun z => by have := q1.mp z; omega
    have uh : us h = 1 := (u1 h (by omega)).mpr (by omega)
    have mh := (qh h h2 hla (by omega)).mpr hE
    have uni : ∀ j, 2 ≤ j → j ≤ la → us j = 1 → (∀ a, a < 2 ^ n → B j a = f a) → j = h := fun j a b x y => by
      have ej := (u1 j (by omega)).mp x
      exact n12 j h a b h2 hla ej (by rw [(qh j a b ej).mp y, hE])
    rcases d with ⟨d0, d1, d2, d3⟩ | ⟨d0, d1, d2, d3⟩
    · subst d1 d2 d3
      refine ⟨nI h, _, (sy_ n la li B (fu_u hh h (hh h + 1)) us va ot sn sw ls lt), ir_mk (fin I' O' l0 K' ⟨⟨n1, n2, n3, n4⟩, ⟨n5, n6', by rw [fu_n (by omega)]; exact n7, by rw [fu_n (by omega)]; exact n8⟩, n9, n10, fun j hj => ?_, n12⟩ ⟨b1, b2⟩), wx, fun post hp => ?_⟩
      · by_cases e : j = h
        · rw [e, fu_s]; omega
        · rw [fu_n e]; exact n11 j hj
      · refine yw_deliver n6 n1 n2 hu hhb n4 (fun z => absurd z c0) (fun _ z => absurd z c1) (fun _ _ j a b x y => ?_) (fun _ _ z => absurd mh (z h h2 hla uh)) (fun _ _ z => absurd mh (z h h2 hla uh))
        have := uni j a b x y
        subst this
        exact ⟨fun z => by omega, fun _ => hp⟩
    · rw [d2] at I'
      rw [d1, d2, d3] at wx
      refine ⟨-3, _, (sy_ n la li B hh us va ot sn sw ls lt), ir_mk (fin I' O' l0 K' NN ⟨b1, b2⟩), wx, fun post hp => ?_⟩
      refine yw_deliver n6 n1 n2 hu hhb n4 (fun z => absurd z c0) (fun _ z => absurd z c1) (fun _ _ j a b x y => ?_) (fun _ _ z => absurd mh (z h h2 hla uh)) (fun _ _ z => absurd mh (z h h2 hla uh))
      have := uni j a b x y
      subst this
      have := n11 j (by omega)
      exact ⟨fun _ => hp, fun z => by omega⟩
  · have c0 : ¬ ∀ a, a < 2 ^ n → f a = B 0 a := fun z => by have := q0.mp z; omega
    have c1 : ¬ ∀ a, a < 2 ^ n → f a = B 1 a := fun z => by have := q1.mp z; omega
    have nm : ∀ j, 2 ≤ j → j ≤ la → us j = 1 → ¬ ∀ a, a < 2 ^ n → B j a = f a := fun j a b x y => by
      have ej := (u1 j (by omega)).mp x
      exact hno j a b ((qh j a b ej).mp y)
    rcases d with ⟨h, h2, hla, hfr, low, d1, d2, d3⟩ | ⟨hall, d1, d2, d3⟩
    · subst d1 d2 d3
      have uh : us h = 0 := by rw [b1 h (by omega), if_neg hfr]
      refine ⟨nI h, _, (sy_ n la li (fu_u B h f) (fu_u hh h 1) (fu_u us h 1) va ot sn sw ls lt), ir_mk (fin I' O' l0 K' ⟨⟨n1, n2, n3, n4⟩, ⟨by rw [fu_n (by omega)]; exact n5, by rw [fu_n (by omega)]; exact n6', by rw [fu_n (by omega)]; exact n7, by rw [fu_n (by omega)]; exact n8⟩, fun j j2 jla hj => ?_, fun j jl j10 => ?_, fun j hj => ?_, fun j i j2 jla i2 ila hj hji => ?_⟩ ⟨fun j hj => ?_, fun j hj hje a ha => ?_⟩), wx, fun post hp => ?_⟩
      · by_cases z : j = h
        · rw [z, fu_s]; exact c
        · rw [fu_n z] at hj ⊢; exact n9 j j2 jla hj
      · rw [fu_n (by omega)]; exact n10 j jl j10
      · by_cases z : j = h
        · rw [z, fu_s]; exact n3
        · rw [fu_n z]; exact n11 j hj
      · by_cases z1 : j = h
        · by_cases z2 : i = h
          · omega
          · rw [z1, fu_s, fu_n z2] at hji
            exact absurd hji.symm (hno i i2 ila)
        · by_cases z2 : i = h
          · rw [z2, fu_s, fu_n z1] at hji
            exact absurd hji (hno j j2 jla)
          · rw [fu_n z1] at hj
            rw [fu_n z1, fu_n z2] at hji
            exact n12 j i j2 jla i2 ila hj hji
      · by_cases z : j = h
        · rw [z, fu_s, fu_s, if_pos he]
        · rw [fu_n z, fu_n z]; exact b1 j hj
      · by_cases z : j = h
        · rw [z, fu_s, fu_s]; exact hf a ha
        · rw [fu_n z] at hje
          rw [fu_n z, fu_n z]; exact b2 j hj hje a ha
      · refine yw_deliver n6 n1 n2 hu hhb n4 (fun z => absurd z c0) (fun _ z => absurd z c1) (fun _ _ j a b x y => absurd y (nm j a b x)) (fun _ _ _ j a b x y => ?_) (fun _ _ _ z => by have := z h h2 hla; omega)
        have : j = h := by
          rcases Nat.lt_trichotomy j h with z | z | z
          · have := (u1 j (by omega)).mpr (low j a z); omega
          · exact z
          · have := y h h2 z; omega
        subst this
        exact hp
    · rw [d2] at I'
      rw [d1, d2, d3] at wx
      refine ⟨-2, _, (sy_ n la li B hh us va ot sn sw ls lt), ir_mk (fin I' O' l0 K' NN ⟨b1, b2⟩), wx, fun post hp => ?_⟩
      refine yw_deliver n6 n1 n2 hu hhb n4 (fun z => absurd z c0) (fun _ z => absurd z c1) (fun _ _ j a b x y => absurd y (nm j a b x)) (fun _ _ _ j a b x y => ?_) (fun _ _ _ _ => hp)
      have := (u1 j (by omega)).mpr (hall j a b)
      omega
/-- occupied and usable on both sides -/
theorem jn_occ (r : Re_ n la li E hh va lv T C G φ B us) (x : Int32) :
    (∀ (pX : Int32 → Prop) (pY : Int32 → Prop), (pX 0 → wpX_occupied pX (st_ n la li E hh va lv T C M G W S) x) ∧ (pY 0 → wpY_occupied pY (sy_ n la li B hh us va ot sn sw ls lt) x)) ∨
    (∃ h, h ≤ la ∧ x = nI h ∧ E h < 2048 ∧ ∀ (pX : Int32 → Prop) (pY : Int32 → Prop), (pX 1 → wpX_occupied pX (st_ n la li E hh va lv T C M G W S) x) ∧ (pY 1 → wpY_occupied pY (sy_ n la li B hh us va ot sn sw ls lt) x)) := by
  obtain ⟨⟨P, I, O, l0, K, g, N⟩, b1, b2⟩ := r
  obtain ⟨⟨n1, n2, n3, n4⟩, -⟩ := N
  rcases pk_ix x (n := la + 1) (by omega) with z | z | ⟨j, hj, e⟩
  · left
    intro pX pY
    refine ⟨fun hp => ?_, fun hp => ?_⟩
    · unfold wpX_occupied st_; dsimp only; exact br_t z hp
    · unfold wpY_occupied sy_; dsimp only; exact br_t z hp
  · left
    intro pX pY
    have hlt : nI la < x := by
      rw [Int32.lt_iff_toInt_lt, nI_toInt (by omega)]
      rw [Int32.le_iff_toInt_le, nI_toInt (by omega)] at z
      omega
    have h0 : ¬ x < 0 := by
      rw [Int32.lt_iff_toInt_lt]
      rw [Int32.le_iff_toInt_le, nI_toInt (by omega)] at z
      have : (0 : Int32).toInt = 0 := by decide
      omega
    refine ⟨fun hp => ?_, fun hp => ?_⟩
    · unfold wpX_occupied st_; dsimp only; exact br_f h0 (br_t hlt hp)
    · unfold wpY_occupied sy_; dsimp only; exact br_f h0 (br_t hlt hp)
  · subst e
    have vj : vp_in (nI j) 10 := vp_in_nI (by omega) (by omega)
    by_cases c : E j < 2048
    · right
      refine ⟨j, by omega, rfl, c, fun pX pY => ⟨fun hp => ?_, fun hp => ?_⟩⟩
      · unfold wpX_occupied st_; dsimp only
        rw [nI_clamp (n := j) (by omega), en_Ek c]
        exact br_f (nI_pos (by omega)) (br_f (nI_nlt (by omega) (by omega)) ⟨vj, br_f (nI_pos (by omega)) hp⟩)
      · unfold wpY_occupied sy_; dsimp only
        rw [nI_clamp (n := j) (by omega)]
        exact br_f (nI_pos (by omega)) (br_f (nI_nlt (by omega) (by omega)) ⟨vj, br_f (by show ¬ nI (us j) = 0; rw [b1 j (by omega), if_pos c]; decide) hp⟩)
    · left
      intro pX pY
      refine ⟨fun hp => ?_, fun hp => ?_⟩
      · unfold wpX_occupied st_; dsimp only
        rw [nI_clamp (n := j) (by omega), en_En c]
        exact br_f (nI_pos (by omega)) (br_f (nI_nlt (by omega) (by omega)) ⟨vj, br_t (by decide) hp⟩)
      · unfold wpY_occupied sy_; dsimp only
        rw [nI_clamp (n := j) (by omega)]
        exact br_f (nI_pos (by omega)) (br_f (nI_nlt (by omega) (by omega)) ⟨vj, br_t (by show nI (us j) = 0; rw [b1 j (by omega), if_neg c]; rfl) hp⟩)
theorem jn_use (r : Re_ n la li E hh va lv T C G φ B us) (x : Int32) :
    (∀ (pX : Int32 → Prop) (pY : Int32 → Prop), (pX 0 → wpX_usable pX (st_ n la li E hh va lv T C M G W S) x) ∧ (pY 0 → wpY_usable pY (sy_ n la li B hh us va ot sn sw ls lt) x)) ∨
    (∃ h, h ≤ la ∧ x = nI h ∧ E h < 2048 ∧ 0 < hh h ∧ ∀ (pX : Int32 → Prop) (pY : Int32 → Prop), (pX 1 → wpX_usable pX (st_ n la li E hh va lv T C M G W S) x) ∧ (pY 1 → wpY_usable pY (sy_ n la li B hh us va ot sn sw ls lt) x)) := by
  have rr := r
  obtain ⟨⟨P, I, O, l0, K, g, N⟩, b1, b2⟩ := r
  obtain ⟨⟨n1, n2, n3, n4⟩, -, -, -, n11, -⟩ := N
  rcases pk_ix x (n := la + 1) (by omega) with z | z | ⟨j, hj, e⟩
  · left
    intro pX pY
    refine ⟨fun hp => ?_, fun hp => ?_⟩
    · unfold wpX_usable st_; dsimp only
      unfold wpX_occupied; dsimp only; exact br_t z (br_t rfl hp)
    · unfold wpY_usable sy_; dsimp only; exact br_t z hp
  · left
    intro pX pY
    have hlt : nI la < x := by
      rw [Int32.lt_iff_toInt_lt, nI_toInt (by omega)]
      rw [Int32.le_iff_toInt_le, nI_toInt (by omega)] at z
      omega
    have h0 : ¬ x < 0 := by
      rw [Int32.lt_iff_toInt_lt]
      rw [Int32.le_iff_toInt_le, nI_toInt (by omega)] at z
      have : (0 : Int32).toInt = 0 := by decide
      omega
    refine ⟨fun hp => ?_, fun hp => ?_⟩
    · unfold wpX_usable st_; dsimp only
      unfold wpX_occupied; dsimp only; exact br_f h0 (br_t hlt (br_t rfl hp))
    · unfold wpY_usable sy_; dsimp only; exact br_f h0 (br_t hlt hp)
  · subst e
    have vj : vp_in (nI j) 10 := vp_in_nI (by omega) (by omega)
    have hb := n11 j (by omega)
    by_cases c : E j < 2048
    · have usY : ∀ pY : Int32 → Prop, ((hh j = 0 → pY 0) ∧ (hh j ≠ 0 → pY 1)) → wpY_usable pY (sy_ n la li B hh us va ot sn sw ls lt) (nI j) := fun pY hp => by
        unfold wpY_usable sy_; dsimp only
        rw [nI_clamp (n := j) (by omega)]
        exact br_f (nI_pos (by omega)) (br_f (nI_nlt (by omega) (by omega)) ⟨vj, br_f (by show ¬ nI (us j) = 0; rw [b1 j (by omega), if_pos c]; decide) ⟨vj, pk_le (hh j) 0 (fun y => hp.1 (by omega)) (fun y => hp.2 (by omega))⟩⟩)
      have usX : ∀ pX : Int32 → Prop, ((hh j = 0 → pX 0) ∧ (hh j ≠ 0 → pX 1)) → wpX_usable pX (st_ n la li E hh va lv T C M G W S) (nI j) := fun pX hp => by
        unfold wpX_usable st_; dsimp only
        unfold wpX_occupied; dsimp only
        rw [nI_clamp (n := j) (by omega), en_Ek c]
        exact br_f (nI_pos (by omega)) (br_f (nI_nlt (by omega) (by omega)) ⟨vj, br_f (nI_pos (by omega)) (br_f (by decide) ⟨vj, pk_le (hh j) 0 (fun y => hp.1 (by omega)) (fun y => hp.2 (by omega))⟩)⟩)
      by_cases c2 : hh j = 0
      · left
        exact fun pX pY => ⟨fun hp => usX pX ⟨fun _ => hp, fun z => absurd c2 z⟩, fun hp => usY pY ⟨fun _ => hp, fun z => absurd c2 z⟩⟩
      · right
        exact ⟨j, by omega, rfl, c, by omega, fun pX pY => ⟨fun hp => usX pX ⟨fun z => absurd z c2, fun _ => hp⟩, fun hp => usY pY ⟨fun z => absurd z c2, fun _ => hp⟩⟩⟩
    · left
      intro pX pY
      refine ⟨fun hp => ?_, fun hp => ?_⟩
      · unfold wpX_usable st_; dsimp only
        unfold wpX_occupied; dsimp only
        rw [nI_clamp (n := j) (by omega), en_En c]
        exact br_f (nI_pos (by omega)) (br_f (nI_nlt (by omega) (by omega)) ⟨vj, br_t (by decide) (br_t rfl hp)⟩)
      · unfold wpY_usable sy_; dsimp only
        rw [nI_clamp (n := j) (by omega)]
        exact br_f (nI_pos (by omega)) (br_f (nI_nlt (by omega) (by omega)) ⟨vj, br_t (by show nI (us j) = 0; rw [b1 j (by omega), if_neg c]; rfl) hp⟩)
end
end
section
/-! holds, acquire, release, variableAt -/
theorem re_hh {n la li : Nat} {E hh hh' va lv : Nat → Nat} {T : TN_} {C : CN_} {G : GN_} {φ : Nat → BF_} {B : Nat → Nat → Bool} {us : Nat → Nat} (r : Re_ n la li E hh va lv T C G φ B us) (h0 : hh' 0 = 1 ∧ hh' 1 = 1) (h1 : ∀ j, j < 10 → hh' j ≤ li) : Re_ n la li E hh' va lv T C G φ B us := by
  obtain ⟨⟨P, I, O, l0, K, g, N⟩, b⟩ := r
  obtain ⟨na, ⟨n5, n6, -, -⟩, n9, n10, -, n12⟩ := N
  exact ⟨⟨P, I, O, l0, K, g, na, ⟨n5, n6, h0.1, h0.2⟩, n9, n10, h1, n12⟩, b⟩
theorem i_vc_holds {k : Nat} {u : SX} {v : SY} (I : i_Rel k u v) (hk : k + 4 ≤ 2051) (v1 : Int32) : wpX_holds (fun r => wpY_holds (fun r' => r' = r ∧ i_Rel (k + 4) u v) v v1) u v1 := by
  refine ir_el (P := fun u v => wpX_holds (fun r => wpY_holds (fun r' => r' = r ∧ i_Rel (k + 4) u v) v v1) u v1) I ?_
  intro n la li E hh va lv T C M G W S φ B us ot sn sw ls lt r
  have R : i_Rel (k + 4) (st_ n la li E hh va lv T C M G W S) (sy_ n la li B hh us va ot sn sw ls lt) := ir_mk r
  unfold wpX_holds wpY_holds
  show wpX_occupied _ (st_ n la li E hh va lv T C M G W S) v1
  rcases jn_occ (M := M) (W := W) (S := S) (ot := ot) (sn := sn) (sw := sw) (ls := ls) (lt := lt) r v1 with h | ⟨j, j1, j2, j3, h⟩
  · refine (h _ (fun _ => True)).1 (br_t rfl ?_)
    show wpY_occupied _ (sy_ n la li B hh us va ot sn sw ls lt) v1
    exact (h (fun _ => True) _).2 (br_t rfl ⟨rfl, R⟩)
  · subst j2
    have la9 := r.1.2.2.2.2.2.2.1.2.1
    have vj : vp_in (nI j) 10 := vp_in_nI (by omega) (by omega)
    refine (h _ (fun _ => True)).1 (br_f (by decide) ⟨vj, ?_⟩)
    show wpY_occupied _ (sy_ n la li B hh us va ot sn sw ls lt) (nI j)
    exact (h (fun _ => True) _).2 (br_f (by decide) ⟨vj, rfl, R⟩)
theorem i_vc_variableAt {k : Nat} {u : SX} {v : SY} (I : i_Rel k u v) (hk : k + 4 ≤ 2051) (v1 : Int32) : wpX_variableAt (fun r => wpY_variableAt (fun r' => r' = r ∧ i_Rel (k + 4) u v) v v1) u v1 := by
  refine ir_el (P := fun u v => wpX_variableAt (fun r => wpY_variableAt (fun r' => r' = r ∧ i_Rel (k + 4) u v) v v1) u v1) I ?_
  intro n la li E hh va lv T C M G W S φ B us ot sn sw ls lt r
  have R : i_Rel (k + 4) (st_ n la li E hh va lv T C M G W S) (sy_ n la li B hh us va ot sn sw ls lt) := ir_mk r
  have n6 := r.1.1.1.2.1
  unfold wpX_variableAt wpY_variableAt
  rcases pk_ix v1 (n := n) (by omega) with z | z | ⟨j, hj, e⟩
  · exact br_t z (br_t z ⟨rfl, R⟩)
  · have h1 : ¬ v1 < nI n := Int32.not_lt.mpr z
    have h0 : ¬ v1 < 0 := fun c => h1 (Int32.lt_of_lt_of_le c (nI_pos' (by omega)))
    exact br_f h0 (br_f h1 (br_f h0 (br_f h1 ⟨rfl, R⟩)))
  · subst e
    have h0 : ¬ nI j < 0 := nI_pos (by omega)
    have h1 : nI j < nI n := nI_lt hj (by omega)
    refine br_f h0 (br_t h1 ⟨vp_in_nI (by omega) (by omega), br_f h0 (br_t h1 ⟨vp_in_nI (by omega) (by omega), ?_, R⟩)⟩)
    rw [nI_clamp (n := j) (by omega)]
    exact en_Ok (by omega)
theorem i_vc_acquire {k : Nat} {u : SX} {v : SY} (I : i_Rel k u v) (hk : k + 4 ≤ 2051) (v1 : Int32) : wpX_acquire (fun r u' => wpY_acquire (fun r' v' => r' = r ∧ i_Rel (k + 4) u' v') v v1) u v1 := by
  refine ir_el (P := fun u v => wpX_acquire (fun r u' => wpY_acquire (fun r' v' => r' = r ∧ i_Rel (k + 4) u' v') v v1) u v1) I ?_
  intro n la li E hh va lv T C M G W S φ B us ot sn sw ls lt r
  refine jn_go (WX := fun post => wpX_acquire post (st_ n la li E hh va lv T C M G W S) v1) (WY := fun post => wpY_acquire post (sy_ n la li B hh us va ot sn sw ls lt) v1) ?_
  have N := r.1.2.2.2.2.2.2
  obtain ⟨⟨n1, n2, n3, n4⟩, ⟨-, -, n7, n8⟩, -, -, n11, -⟩ := N
  rcases jn_use (M := M) (W := W) (S := S) (ot := ot) (sn := sn) (sw := sw) (ls := ls) (lt := lt) r v1 with h | ⟨j, j1, j2, j3, j4, h⟩
  · refine ⟨-1, (st_ n la li E hh va lv T C M G W S), (sy_ n la li B hh us va ot sn sw ls lt), ir_mk r, fun post hp => ?_, fun post hp => ?_⟩
    · unfold wpX_acquire
      exact (h _ (fun _ => True)).1 (br_t rfl hp)
    · unfold wpY_acquire
      exact (h (fun _ => True) _).2 (br_t rfl hp)
  · subst j2
    have vj : vp_in (nI j) 10 := vp_in_nI (by omega) (by omega)
    have bj := n11 j (by omega)
    by_cases c : j < 2
    · refine ⟨1, (st_ n la li E hh va lv T C M G W S), (sy_ n la li B hh us va ot sn sw ls lt), ir_mk r, fun post hp => ?_, fun post hp => ?_⟩
      · unfold wpX_acquire
        exact (h _ (fun _ => True)).1 (br_f (by decide) (pk_lt 1 j (fun z => by omega) (fun _ => hp)))
      · unfold wpY_acquire
        exact (h (fun _ => True) _).2 (br_f (by decide) (pk_le 2 j (fun z => by omega) (fun _ => hp)))
    · by_cases c2 : hh j < li
      · have e : upd (en_I hh) j (en_I hh j + 1) = en_I (fu_u hh j (hh j + 1)) := by rw [← en_uI, ← nI_1]; rfl
        have e2 : en_I (fu_u hh j (hh j + 1)) j = nI (hh j + 1) := by show nI _ = _; rw [fu_s]
        refine ⟨nI (hh j + 1), (st_ n la li E (fu_u hh j (hh j + 1)) va lv T C M G W S), (sy_ n la li B (fu_u hh j (hh j + 1)) us va ot sn sw ls lt), ir_mk (re_hh r ⟨by rw [fu_n (by omega)]; exact n7, by rw [fu_n (by omega)]; exact n8⟩ (fun i hi => ?_)), fun post hp => ?_, fun post hp => ?_⟩
        · by_cases z : i = j
          · rw [z, fu_s]; omega
          · rw [fu_n z]; exact n11 i hi
        · unfold wpX_acquire
          refine (h _ (fun _ => True)).1 (br_f (by decide) (pk_lt 1 j (fun _ => ⟨vj, ?_⟩) (fun z => by omega)))
          rw [nI_clamp (n := j) (by omega)]
          refine pk_lt (hh j) li (fun _ => ⟨vj, vj, nm_r e ⟨vj, ?_⟩⟩) (fun z => by omega)
          rw [e2]; exact hp
        · unfold wpY_acquire
          refine (h (fun _ => True) _).2 (br_f (by decide) (pk_le 2 j (fun _ => ⟨vj, ?_⟩) (fun z => by omega)))
          rw [nI_clamp (n := j) (by omega)]
          refine pk_eq (hh j) li (fun z => by omega) (fun _ => ⟨vj, vj, nm_r e ⟨vj, ?_⟩⟩)
          rw [e2]; exact hp
      · refine ⟨-3, (st_ n la li E hh va lv T C M G W S), (sy_ n la li B hh us va ot sn sw ls lt), ir_mk r, fun post hp => ?_, fun post hp => ?_⟩
        · unfold wpX_acquire
          refine (h _ (fun _ => True)).1 (br_f (by decide) (pk_lt 1 j (fun _ => ⟨vj, ?_⟩) (fun z => by omega)))
          rw [nI_clamp (n := j) (by omega)]
          exact pk_lt (hh j) li (fun z => absurd z c2) (fun _ => hp)
        · unfold wpY_acquire
          refine (h (fun _ => True) _).2 (br_f (by decide) (pk_le 2 j (fun _ => ⟨vj, ?_⟩) (fun z => by omega)))
          rw [nI_clamp (n := j) (by omega)]
          exact pk_eq (hh j) li (fun _ => hp) (fun z => by omega)
theorem i_vc_release {k : Nat} {u : SX} {v : SY} (I : i_Rel k u v) (hk : k + 4 ≤ 2051) (v1 : Int32) : wpX_release (fun r u' => wpY_release (fun r' v' => r' = r ∧ i_Rel (k + 4) u' v') v v1) u v1 := by
  refine ir_el (P := fun u v => wpX_release (fun r u' => wpY_release (fun r' v' => r' = r ∧ i_Rel (k + 4) u' v') v v1) u v1) I ?_
  intro n la li E hh va lv T C M G W S φ B us ot sn sw ls lt r
  refine jn_go (WX := fun post => wpX_release post (st_ n la li E hh va lv T C M G W S) v1) (WY := fun post => wpY_release post (sy_ n la li B hh us va ot sn sw ls lt) v1) ?_
  have N := r.1.2.2.2.2.2.2
  obtain ⟨⟨n1, n2, n3, n4⟩, ⟨-, -, n7, n8⟩, -, -, n11, -⟩ := N
  rcases jn_use (M := M) (W := W) (S := S) (ot := ot) (sn := sn) (sw := sw) (ls := ls) (lt := lt) r v1 with h | ⟨j, j1, j2, j3, j4, h⟩
  · refine ⟨-1, (st_ n la li E hh va lv T C M G W S), (sy_ n la li B hh us va ot sn sw ls lt), ir_mk r, fun post hp => ?_, fun post hp => ?_⟩
    · unfold wpX_release
      exact (h _ (fun _ => True)).1 (br_t rfl hp)
    · unfold wpY_release
      exact (h (fun _ => True) _).2 (br_t rfl hp)
  · subst j2
    have vj : vp_in (nI j) 10 := vp_in_nI (by omega) (by omega)
    have bj := n11 j (by omega)
    by_cases c : j < 2
    · refine ⟨1, (st_ n la li E hh va lv T C M G W S), (sy_ n la li B hh us va ot sn sw ls lt), ir_mk r, fun post hp => ?_, fun post hp => ?_⟩
      · unfold wpX_release
        exact (h _ (fun _ => True)).1 (br_f (by decide) (pk_lt 1 j (fun z => by omega) (fun _ => hp)))
      · unfold wpY_release
        exact (h (fun _ => True) _).2 (br_f (by decide) (pk_le 2 j (fun z => by omega) (fun _ => hp)))
    · have e : upd (en_I hh) j (en_I hh j - 1) = en_I (fu_u hh j (hh j - 1)) := by
        rw [← en_uI]
        exact congrArg _ (pk_sub (b := 1) (by omega))
      have e2 : en_I (fu_u hh j (hh j - 1)) j = nI (hh j - 1) := by show nI _ = _; rw [fu_s]
      refine ⟨nI (hh j - 1), (st_ n la li E (fu_u hh j (hh j - 1)) va lv T C M G W S), (sy_ n la li B (fu_u hh j (hh j - 1)) us va ot sn sw ls lt), ir_mk (re_hh r ⟨by rw [fu_n (by omega)]; exact n7, by rw [fu_n (by omega)]; exact n8⟩ (fun i hi => ?_)), fun post hp => ?_, fun post hp => ?_⟩
      · by_cases z : i = j
        · rw [z, fu_s]; omega
        · rw [fu_n z]; exact n11 i hi
      · unfold wpX_release
        refine (h _ (fun _ => True)).1 (br_f (by decide) (pk_lt 1 j (fun _ => ⟨vj, vj, ?_⟩) (fun z => by omega)))
        rw [nI_clamp (n := j) (by omega)]
        refine nm_r e ⟨vj, ?_⟩
        rw [e2]; exact hp
      · unfold wpY_release
        refine (h (fun _ => True) _).2 (br_f (by decide) (pk_le 2 j (fun _ => ⟨vj, vj, ?_⟩) (fun z => by omega)))
        rw [nI_clamp (n := j) (by omega)]
        refine nm_r e ⟨vj, ?_⟩
        rw [e2]; exact hp
end
section
/-! not, variable, ite, apply -/
theorem okh_ {n la li h : Nat} {E hh : Nat → Nat} {T : TN_} {φ : Nat → BF_} (I : Ti_ n E 0 T φ) (N : Hn_ la li E hh) (hla : h ≤ la) (hE : E h < 2048) : ok_ (tb_V T) (E h / 2) := by
  obtain ⟨⟨-, n2, -, -⟩, ⟨n5, n6, -, -⟩, -⟩ := N
  by_cases c : 2 ≤ h
  · exact I.2.2.2.2.2.2 h c (by omega) hE
  · rcases (by omega : h = 0 ∨ h = 1) with e | e
    · rw [e, n5]; exact Or.inl rfl
    · rw [e, n6]; exact Or.inl rfl
theorem Bu_.up {n : Nat} {E : Nat → Nat} {φ φ' : Nat → BF_} {B : Nat → Nat → Bool} {us : Nat → Nat} (b : Bu_ n E φ B us) (h : ∀ j, j < 10 → E j < 2048 → ef_ φ' (E j) = ef_ φ (E j)) : Bu_ n E φ' B us :=
  ⟨b.1, fun j hj hE a ha => by rw [h j hj hE]; exact b.2 j hj hE a ha⟩
/-- an extension of the table keeps the handles' functions -/
theorem bu_xt {n la li : Nat} {E hh : Nat → Nat} {T T' : TN_} {φ φ' : Nat → BF_} {B : Nat → Nat → Bool} {us : Nat → Nat} (I : Ti_ n E 0 T φ) (N : Hn_ la li E hh) (X : Xt_ T φ T' φ') (b : Bu_ n E φ B us) : Bu_ n E φ' B us :=
  b.up (fun j hj hE => X.ef (okh_ I N (Classical.byContradiction (fun c => N.2.2.2.1 j (by omega) hj hE)) hE))
theorem nt_l (b : Bool) : (1 - nI b.toNat).toInt64 = lN (!b).toNat := by cases b <;> decide
theorem vr_l : ∀ a : Fin 64, ∀ v : Fin 6, ((nI a.val >>> (nI v.val &&& 31)) &&& 1).toInt64 = lN (a.val.testBit v.val).toNat := by decide +kernel
theorem op_l : ∀ o : Fin 16, ∀ j : Fin 4, ((nI o.val >>> (nI j.val &&& 31)) &&& 1).toInt64 = lN (o.val.testBit j.val).toNat := by decide +kernel
theorem i_vc_not {k : Nat} {u : SX} {v : SY} (I : i_Rel k u v) (hk : k + 4 ≤ 2051) (v1 : Int32) : wpX_not (fun r u' => wpY_not (fun r' v' => r' = r ∧ i_Rel (k + 4) u' v') v v1) u v1 := by
  refine ir_el (P := fun u v => wpX_not (fun r u' => wpY_not (fun r' v' => r' = r ∧ i_Rel (k + 4) u' v') v v1) u v1) I ?_
  intro n la li E hh va lv T C M G W S φ B us ot sn sw ls lt r
  refine jn_go (WX := fun post => wpX_not post (st_ n la li E hh va lv T C M G W S) v1) (WY := fun post => wpY_not post (sy_ n la li B hh us va ot sn sw ls lt) v1) ?_
  have rr := r
  obtain ⟨⟨P, I0, O, l0, K, g, N⟩, b⟩ := r
  have n6 := P.1.2.1
  have htc := tc_kept P I0 O l0
  have p64 := p2_le n6
  have S0 := I0.1
  have la9 := N.1.2.1
  rcases jn_use (M := M) (W := W) (S := S) (ot := ot) (sn := sn) (sw := sw) (ls := ls) (lt := lt) rr v1 with h | ⟨j, j1, j2, j3, j4, h⟩
  · refine ⟨-1, (st_ n la li E hh va lv T C M G W S), (sy_ n la li B hh us va ot sn sw ls lt), ir_mk rr, fun post hp => ?_, fun post hp => ?_⟩
    · unfold wpX_not
      exact (h _ (fun _ => True)).1 (br_t rfl hp)
    · unfold wpY_not
      exact (h (fun _ => True) _).2 (br_t rfl hp)
  · subst j2
    have vj : vp_in (nI j) 10 := vp_in_nI (by omega) (by omega)
    have oj := okh_ I0 N j1 j3
    obtain ⟨r, u', v', R, wx, wy⟩ := jn_deliver (k := k + 4) (M := M) (W := W) (S := S) (ot := ot) (sn := sn) (sw := sw) (ls := ls) (lt := lt) (e := E j ^^^ 1) (f := fun a => !B j a) P I0 O K g N b (by rw [xr_d (by omega)]; exact oj) (fun a ha => by rw [ef_x (by omega), b.2 j (by omega) j3 a ha]; simp)
    refine ⟨r, u', v', R, fun post hp => ?_, fun post hp => ?_⟩
    · unfold wpX_not
      refine (h _ (fun _ => True)).1 (br_f (by decide) ⟨vj, ?_⟩)
      rw [nI_clamp (n := j) (by omega), en_Ek j3, show nI (E j) ^^^ 1 = nI (E j ^^^ 1) from nx_xor _ 1]
      exact wx _ hp
    · unfold wpY_not
      refine (h (fun _ => True) _).2 (br_f (by decide) ⟨2 ^ n + 1, ?_⟩)
      refine lp_mk (W := fun N x2 x4 => wY_not_15 post (nI j) (nI n) (nI la) (nI li) (nI (2 ^ n)) (en_F n B) (en_I hh) (en_I us) (en_O va) ot sn sw ls lt N x2 x4) (f := fun a => !B j a) (c := 2 ^ n) (fun N => ?_) (fun N i hi hw => ?_)
      · exact pk_le (2 ^ n) (2 ^ n) (fun _ => wy _ hp) (fun z => by omega)
      · refine pk_le (2 ^ n) i (fun z => by omega) (fun _ => ?_)
        refine yw_value n6 (by omega) hi ?_
        exact nm_r (nt_l _) (nm_r (mk_or (f := fun a => !B j a) (by omega)) (nm_r (nI_1 _) hw))
theorem i_vc_variable {k : Nat} {u : SX} {v : SY} (I : i_Rel k u v) (hk : k + 4 ≤ 2051) (v1 : Int32) : wpX_variable (fun r u' => wpY_variable (fun r' v' => r' = r ∧ i_Rel (k + 4) u' v') v v1) u v1 := by
  refine ir_el (P := fun u v => wpX_variable (fun r u' => wpY_variable (fun r' v' => r' = r ∧ i_Rel (k + 4) u' v') v v1) u v1) I ?_
  intro n la li E hh va lv T C M G W S φ B us ot sn sw ls lt r
  refine jn_go (WX := fun post => wpX_variable post (st_ n la li E hh va lv T C M G W S) v1) (WY := fun post => wpY_variable post (sy_ n la li B hh us va ot sn sw ls lt) v1) ?_
  have rr := r
  obtain ⟨⟨P, I0, O, l0, K, g, N⟩, b⟩ := r
  have n6 := P.1.2.1
  have htc := tc_kept P I0 O l0
  have p64 := p2_le n6
  have S0 := I0.1
  have la9 := N.1.2.1
  rcases pk_ix v1 (n := n) (by omega) with z | z | ⟨j, hj, e⟩
  · refine ⟨-1, (st_ n la li E hh va lv T C M G W S), (sy_ n la li B hh us va ot sn sw ls lt), ir_mk rr, fun post hp => ?_, fun post hp => ?_⟩
    · unfold wpX_variable; exact br_t z hp
    · unfold wpY_variable; exact br_t z hp
  · have h1 : ¬ v1 < nI n := Int32.not_lt.mpr z
    have h0 : ¬ v1 < 0 := fun c => h1 (Int32.lt_of_lt_of_le c (nI_pos' (by omega)))
    refine ⟨-1, (st_ n la li E hh va lv T C M G W S), (sy_ n la li B hh us va ot sn sw ls lt), ir_mk rr, fun post hp => ?_, fun post hp => ?_⟩
    · unfold wpX_variable; exact br_f h0 (br_f h1 hp)
    · unfold wpY_variable; exact br_f h0 (br_f h1 hp)
  · subst e
    have h0 : ¬ nI j < 0 := nI_pos (by omega)
    have h1 : nI j < nI n := nI_lt hj (by omega)
    have lj : lv j < 6 := by have := (P.2.2 j hj).1; omega
    have e6 : lv (tb_V T 0) = 6 := by rw [S0.1.2.1, P.1.2.2.1]
    obtain ⟨e, T1, φ1, I1, O1, oe, se, X1, tc1, wm⟩ := xm_mk (la := la) (li := li) (hh := hh) (C := C) (M := M) (G := G) (W := W) (S := S) (v := j) (a := 0) (b := 1) P I0 O hj (Or.inl rfl) (Or.inl rfl) (by show lv j < lv (tb_V T 0); omega) (by show lv j < lv (tb_V T 0); omega) (by omega)
    obtain ⟨r, u', v', R, wx, wy⟩ := jn_deliver (k := k + 4) (M := M) (W := W) (S := S) (ot := ot) (sn := sn) (sw := sw) (ls := ls) (lt := lt) (e := e) (f := fun a => a.testBit j) P I1 O1 (X1.ca K) g N (bu_xt I0 N X1 b) oe (fun a ha => by
      rw [se, (ef_0 S0 _).1, (ef_0 S0 _).2]
      show a.testBit j = if a.testBit j = true then true else false
      cases a.testBit j <;> rfl)
    refine ⟨r, u', v', R, fun post hp => ?_, fun post hp => ?_⟩
    · unfold wpX_variable
      refine br_f h0 (br_t h1 ?_)
      refine wm _ ?_
      exact wx _ hp
    · unfold wpY_variable
      refine br_f h0 (br_t h1 ⟨2 ^ n + 1, ?_⟩)
      refine lp_mk (W := fun N x2 x4 => wY_variable_19 post (nI j) (nI n) (nI la) (nI li) (nI (2 ^ n)) (en_F n B) (en_I hh) (en_I us) (en_O va) ot sn sw ls lt N x2 x4) (f := fun a => a.testBit j) (c := 2 ^ n) (fun N => ?_) (fun N i hi hw => ?_)
      · exact pk_le (2 ^ n) (2 ^ n) (fun _ => wy _ hp) (fun z => by omega)
      · refine pk_le (2 ^ n) i (fun z => by omega) (fun _ => ?_)
        refine nm_r (e' := lN (mk_N (fun a => a.testBit j) (i + 1))) ?_ (nm_r (nI_1 _) hw)
        rw [← mk_or (f := fun a => a.testBit j) (by omega)]
        rw [vr_l ⟨i, by omega⟩ ⟨j, by omega⟩]
theorem i_vc_ite {k : Nat} {u : SX} {v : SY} (I : i_Rel k u v) (hk : k + 4 ≤ 2051) (v1 : Int32) (v2 : Int32) (v3 : Int32) : wpX_ite (fun r u' => wpY_ite (fun r' v' => r' = r ∧ i_Rel (k + 4) u' v') v v1 v2 v3) u v1 v2 v3 := by
  refine ir_el (P := fun u v => wpX_ite (fun r u' => wpY_ite (fun r' v' => r' = r ∧ i_Rel (k + 4) u' v') v v1 v2 v3) u v1 v2 v3) I ?_
  intro n la li E hh va lv T C M G W S φ B us ot sn sw ls lt r
  refine jn_go (WX := fun post => wpX_ite post (st_ n la li E hh va lv T C M G W S) v1 v2 v3) (WY := fun post => wpY_ite post (sy_ n la li B hh us va ot sn sw ls lt) v1 v2 v3) ?_
  have rr := r
  obtain ⟨⟨P, I0, O, l0, K, g, N⟩, b⟩ := r
  have n6 := P.1.2.1
  have htc := tc_kept P I0 O l0
  have p64 := p2_le n6
  have S0 := I0.1
  have la9 := N.1.2.1
  rcases jn_use (M := M) (W := W) (S := S) (ot := ot) (sn := sn) (sw := sw) (ls := ls) (lt := lt) rr v1 with h | ⟨j, j1, j2, j3, j4, h⟩
  · refine ⟨-1, (st_ n la li E hh va lv T C M G W S), (sy_ n la li B hh us va ot sn sw ls lt), ir_mk rr, fun post hp => ?_, fun post hp => ?_⟩
    · unfold wpX_ite
      exact (h _ (fun _ => True)).1 (br_t rfl hp)
    · unfold wpY_ite
      exact (h (fun _ => True) _).2 (br_t rfl hp)
  subst j2
  rcases jn_use (M := M) (W := W) (S := S) (ot := ot) (sn := sn) (sw := sw) (ls := ls) (lt := lt) rr v2 with h' | ⟨i, i1, i2, i3, i4, h'⟩
  · refine ⟨-1, (st_ n la li E hh va lv T C M G W S), (sy_ n la li B hh us va ot sn sw ls lt), ir_mk rr, fun post hp => ?_, fun post hp => ?_⟩
    · unfold wpX_ite
      exact (h _ (fun _ => True)).1 (br_f (by decide) ((h' _ (fun _ => True)).1 (br_t rfl hp)))
    · unfold wpY_ite
      exact (h (fun _ => True) _).2 (br_f (by decide) ((h' (fun _ => True) _).2 (br_t rfl hp)))
  subst i2
  rcases jn_use (M := M) (W := W) (S := S) (ot := ot) (sn := sn) (sw := sw) (ls := ls) (lt := lt) rr v3 with h'' | ⟨m, m1, m2, m3, m4, h''⟩
  · refine ⟨-1, (st_ n la li E hh va lv T C M G W S), (sy_ n la li B hh us va ot sn sw ls lt), ir_mk rr, fun post hp => ?_, fun post hp => ?_⟩
    · unfold wpX_ite
      exact (h _ (fun _ => True)).1 (br_f (by decide) ((h' _ (fun _ => True)).1 (br_f (by decide) ((h'' _ (fun _ => True)).1 (br_t rfl hp)))))
    · unfold wpY_ite
      exact (h (fun _ => True) _).2 (br_f (by decide) ((h' (fun _ => True) _).2 (br_f (by decide) ((h'' (fun _ => True) _).2 (br_t rfl hp)))))
  subst m2
  have vj : vp_in (nI j) 10 := vp_in_nI (by omega) (by omega)
  have vi : vp_in (nI i) 10 := vp_in_nI (by omega) (by omega)
  have vm : vp_in (nI m) 10 := vp_in_nI (by omega) (by omega)
  obtain ⟨e, T1, C1, M1, φ1, I1, O1, K1, X1, oe, se, tc1, wc⟩ := xm_combine (la := la) (li := li) (hh := hh) (M := M) (G := G) (W := W) (S := S) P I0 O K (okh_ I0 N j1 j3) (okh_ I0 N i1 i3) (okh_ I0 N m1 m3) (by omega)
  obtain ⟨r, u', v', R, wx, wy⟩ := jn_deliver (k := k + 4) (M := M1) (W := W) (S := S) (ot := ot) (sn := sn) (sw := sw) (ls := ls) (lt := lt) (e := e) (f := fun a => if B j a = true then B i a else B m a) P I1 O1 K1 g N (bu_xt I0 N X1 b) oe (fun a ha => by
    rw [se]
    unfold i3_
    rw [b.2 j (by omega) j3 a ha, b.2 i (by omega) i3 a ha, b.2 m (by omega) m3 a ha])
  refine ⟨r, u', v', R, fun post hp => ?_, fun post hp => ?_⟩
  · unfold wpX_ite
    refine (h _ (fun _ => True)).1 (br_f (by decide) ((h' _ (fun _ => True)).1 (br_f (by decide) ((h'' _ (fun _ => True)).1 (br_f (by decide) ⟨vj, vi, vm, ?_⟩)))))
    rw [nI_clamp (n := j) (by omega), nI_clamp (n := i) (by omega), nI_clamp (n := m) (by omega), en_Ek j3, en_Ek i3, en_Ek m3]
    refine wc _ ?_
    exact wx _ hp
  · unfold wpY_ite
    refine (h (fun _ => True) _).2 (br_f (by decide) ((h' (fun _ => True) _).2 (br_f (by decide) ((h'' (fun _ => True) _).2 (br_f (by decide) ⟨2 ^ n + 1, ?_⟩)))))
    refine lp_mk (W := fun N x2 x4 => wY_ite_32 post (nI j) (nI i) (nI m) (nI n) (nI la) (nI li) (nI (2 ^ n)) (en_F n B) (en_I hh) (en_I us) (en_O va) ot sn sw ls lt N x2 x4) (f := fun a => if B j a = true then B i a else B m a) (c := 2 ^ n) (fun N => ?_) (fun N x hx hw => ?_)
    · exact pk_le (2 ^ n) (2 ^ n) (fun _ => wy _ hp) (fun z => by omega)
    · refine pk_le (2 ^ n) x (fun z => by omega) (fun _ => ?_)
      refine yw_value n6 (by omega) hx ?_
      have mo := mk_or (f := fun a => if B j a = true then B i a else B m a) (c := x) (by omega)
      cases c : B j x
      · refine br_f (by decide) ?_
        refine yw_value n6 (by omega) hx ?_
        rw [show (if B j x = true then B i x else B m x) = B m x from by rw [c]; rfl] at mo
        refine nm_r (e' := lN (mk_N (fun a => if B j a = true then B i a else B m a) (x + 1))) ?_ (nm_r (nI_1 _) hw)
        rw [← mo, nI_l (by cases B m x <;> decide)]
      · refine br_t (by decide) ?_
        refine yw_value n6 (by omega) hx ?_
        rw [show (if B j x = true then B i x else B m x) = B i x from by rw [c]; rfl] at mo
        refine nm_r (e' := lN (mk_N (fun a => if B j a = true then B i a else B m a) (x + 1))) ?_ (nm_r (nI_1 _) hw)
        rw [← mo, nI_l (by cases B i x <;> decide)]
def un_ (c e : Nat) : Nat := if c = 0 then 0 else if c = 3 then 1 else if c = 2 then e else e ^^^ 1
theorem xw_unary {post : Int32 → Prop} {u : SX} {c e : Nat} (hc : c < 4) (h : post (nI (un_ c e))) : wpX_unary post u (nI c) (nI e) := by
  rcases u with ⟨u1, u2, u3, u4, u5, u6, u7, u8, u9, u10, u11, u12, u13, u14, u15, u16, u17, u18, u19, u20, u21, u22, u23, u24, u25, u26, u27, u28, u29, u30, u31, u32, u33, u34, u35, u36, u37, u38, u39, u40, u41⟩
  unfold un_ at h
  refine pk_eq c 0 (fun z => ?_) (fun z => pk_eq c 3 (fun y => ?_) (fun y => pk_eq c 2 (fun x => ?_) (fun x => ?_)))
  · rw [if_pos z] at h; exact h
  · rw [if_neg z, if_pos y] at h; exact h
  · rw [if_neg z, if_neg y, if_pos x] at h; exact h
  · rw [if_neg z, if_neg y, if_neg x, ← nx_xor] at h; exact h
theorem un_sem {n c e : Nat} {V L H : Nat → Nat} {φ : Nat → BF_} (S : Sm_ n V L H φ) (hc : c < 4) (he : ok_ V (e / 2)) : ok_ V (un_ c e / 2) ∧ ∀ s, ef_ φ (un_ c e) s = c.testBit (ef_ φ e s).toNat := by
  unfold un_
  rcases (by omega : c = 0 ∨ c = 1 ∨ c = 2 ∨ c = 3) with z | z | z | z
  · subst z
    rw [if_pos rfl]
    refine ⟨Or.inl rfl, fun s => ?_⟩
    rw [(ef_0 S s).1]
    cases ef_ φ e s <;> rfl
  · subst z
    rw [if_neg (by decide), if_neg (by decide), if_neg (by decide), xr_d (by omega)]
    refine ⟨he, fun s => ?_⟩
    rw [ef_x (by omega)]
    cases ef_ φ e s <;> rfl
  · subst z
    rw [if_neg (by decide), if_neg (by decide), if_pos rfl]
    refine ⟨he, fun s => ?_⟩
    cases ef_ φ e s <;> rfl
  · subst z
    rw [if_neg (by decide), if_pos rfl]
    refine ⟨Or.inl rfl, fun s => ?_⟩
    rw [(ef_0 S s).2]
    cases ef_ φ e s <;> rfl
theorem op_t : ∀ o : Fin 16, ∀ x y : Bool, (if x = true then (o.val / 4).testBit y.toNat else (o.val % 4).testBit y.toNat) = o.val.testBit (2 * x.toNat + y.toNat) := by decide +kernel
theorem i_vc_apply {k : Nat} {u : SX} {v : SY} (I : i_Rel k u v) (hk : k + 4 ≤ 2051) (v1 : Int32) (v2 : Int32) (v3 : Int32) : wpX_apply (fun r u' => wpY_apply (fun r' v' => r' = r ∧ i_Rel (k + 4) u' v') v v1 v2 v3) u v1 v2 v3 := by
  refine ir_el (P := fun u v => wpX_apply (fun r u' => wpY_apply (fun r' v' => r' = r ∧ i_Rel (k + 4) u' v') v v1 v2 v3) u v1 v2 v3) I ?_
  intro n la li E hh va lv T C M G W S φ B us ot sn sw ls lt r
  refine jn_go (WX := fun post => wpX_apply post (st_ n la li E hh va lv T C M G W S) v1 v2 v3) (WY := fun post => wpY_apply post (sy_ n la li B hh us va ot sn sw ls lt) v1 v2 v3) ?_
  have rr := r
  obtain ⟨⟨P, I0, O, l0, K, g, N⟩, b⟩ := r
  have n6 := P.1.2.1
  have htc := tc_kept P I0 O l0
  have p64 := p2_le n6
  have S0 := I0.1
  have la9 := N.1.2.1
  by_cases c0 : v1 < 0
  · refine ⟨-1, (st_ n la li E hh va lv T C M G W S), (sy_ n la li B hh us va ot sn sw ls lt), ir_mk rr, fun post hp => ?_, fun post hp => ?_⟩
    · unfold wpX_apply; exact br_t c0 hp
    · unfold wpY_apply; exact br_t c0 hp
  by_cases c1 : 15 < v1
  · refine ⟨-1, (st_ n la li E hh va lv T C M G W S), (sy_ n la li B hh us va ot sn sw ls lt), ir_mk rr, fun post hp => ?_, fun post hp => ?_⟩
    · unfold wpX_apply; exact br_f c0 (br_t c1 hp)
    · unfold wpY_apply; exact br_f c0 (br_t c1 hp)
  obtain ⟨o, ho, eo⟩ := nI_of2 (M := 15) (n := 15) (by decide) c0 (Int32.not_lt.mp c1)
  subst eo
  rcases jn_use (M := M) (W := W) (S := S) (ot := ot) (sn := sn) (sw := sw) (ls := ls) (lt := lt) rr v2 with h | ⟨j, j1, j2, j3, j4, h⟩
  · refine ⟨-1, (st_ n la li E hh va lv T C M G W S), (sy_ n la li B hh us va ot sn sw ls lt), ir_mk rr, fun post hp => ?_, fun post hp => ?_⟩
    · unfold wpX_apply
      exact br_f c0 (br_f c1 ((h _ (fun _ => True)).1 (br_t rfl hp)))
    · unfold wpY_apply
      exact br_f c0 (br_f c1 ((h (fun _ => True) _).2 (br_t rfl hp)))
  subst j2
  rcases jn_use (M := M) (W := W) (S := S) (ot := ot) (sn := sn) (sw := sw) (ls := ls) (lt := lt) rr v3 with h' | ⟨i, i1, i2, i3, i4, h'⟩
  · refine ⟨-1, (st_ n la li E hh va lv T C M G W S), (sy_ n la li B hh us va ot sn sw ls lt), ir_mk rr, fun post hp => ?_, fun post hp => ?_⟩
    · unfold wpX_apply
      exact br_f c0 (br_f c1 ((h _ (fun _ => True)).1 (br_f (by decide) ((h' _ (fun _ => True)).1 (br_t rfl hp)))))
    · unfold wpY_apply
      exact br_f c0 (br_f c1 ((h (fun _ => True) _).2 (br_f (by decide) ((h' (fun _ => True) _).2 (br_t rfl hp)))))
  subst i2
  have vj : vp_in (nI j) 10 := vp_in_nI (by omega) (by omega)
  have vi : vp_in (nI i) 10 := vp_in_nI (by omega) (by omega)
  have oi := okh_ I0 N i1 i3
  obtain ⟨p1, q1⟩ := un_sem (c := o / 4) S0 (by omega) oi
  obtain ⟨p2, q2⟩ := un_sem (c := o % 4) S0 (by omega) oi
  obtain ⟨e, T1, C1, M1, φ1, I1, O1, K1, X1, oe, se, tc1, wc⟩ := xm_combine (la := la) (li := li) (hh := hh) (M := M) (G := G) (W := W) (S := S) P I0 O K (okh_ I0 N j1 j3) p1 p2 (by omega)
  obtain ⟨r, u', v', R, wx, wy⟩ := jn_deliver (k := k + 4) (M := M1) (W := W) (S := S) (ot := ot) (sn := sn) (sw := sw) (ls := ls) (lt := lt) (e := e) (f := fun a => o.testBit (2 * (B j a).toNat + (B i a).toNat)) P I1 O1 K1 g N (bu_xt I0 N X1 b) oe (fun a ha => by
    rw [se]
    unfold i3_
    rw [q1, q2, b.2 j (by omega) j3 a ha, b.2 i (by omega) i3 a ha]
    exact (op_t ⟨o, by omega⟩ _ _).symm)
  refine ⟨r, u', v', R, fun post hp => ?_, fun post hp => ?_⟩
  · unfold wpX_apply
    refine br_f c0 (br_f c1 ((h _ (fun _ => True)).1 (br_f (by decide) ((h' _ (fun _ => True)).1 (br_f (by decide) ⟨vi, ?_⟩)))))
    rw [nI_clamp (n := i) (by omega), en_Ek i3, pk_shrN (by omega) _ 2 (by decide), pk_andN (by omega) 2 (by decide), pk_andN (by omega) 2 (by decide)]
    refine xw_unary (c := o / 2 ^ 2 % 2 ^ 2) (by omega) ⟨vi, ?_⟩
    refine xw_unary (c := o % 2 ^ 2) (by omega) ⟨vj, ?_⟩
    rw [nI_clamp (n := j) (by omega), en_Ek j3, show o / 2 ^ 2 % 2 ^ 2 = o / 4 from by omega, show o % 2 ^ 2 = o % 4 from rfl]
    refine wc _ ?_
    exact wx _ hp
  · unfold wpY_apply
    refine br_f c0 (br_f c1 ((h (fun _ => True) _).2 (br_f (by decide) ((h' (fun _ => True) _).2 (br_f (by decide) ⟨2 ^ n + 1, ?_⟩)))))
    refine lp_mk (W := fun N x2 x4 => wY_apply_34 post (nI o) (nI j) (nI i) (nI n) (nI la) (nI li) (nI (2 ^ n)) (en_F n B) (en_I hh) (en_I us) (en_O va) ot sn sw ls lt N x2 x4) (f := fun a => o.testBit (2 * (B j a).toNat + (B i a).toNat)) (c := 2 ^ n) (fun N => ?_) (fun N x hx hw => ?_)
    · exact pk_le (2 ^ n) (2 ^ n) (fun _ => wy _ hp) (fun z => by omega)
    · refine pk_le (2 ^ n) x (fun z => by omega) (fun _ => ?_)
      refine yw_value n6 (by omega) hx ?_
      refine yw_value n6 (by omega) hx ?_
      refine nm_r (e' := nI (2 * (B j x).toNat + (B i x).toNat)) (by cases B j x <;> cases B i x <;> rfl) ?_
      have hb : 2 * (B j x).toNat + (B i x).toNat < 4 := by cases B j x <;> cases B i x <;> decide
      refine nm_r (op_l ⟨o, by omega⟩ ⟨2 * (B j x).toNat + (B i x).toNat, hb⟩) (nm_r (mk_or (f := fun a => o.testBit (2 * (B j a).toNat + (B i a).toNat)) (by omega)) (nm_r (nI_1 _) hw))
end
section
/-! restrict, compose, quantify -/
def sb_n (a v b : Nat) : Nat := ((a / 2 ^ (v + 1)) * 2 + b) * 2 ^ v + a % 2 ^ v
theorem sb_w : ∀ a : Fin 64, ∀ v : Fin 6, ∀ b : Fin 2, ((nI a.val &&& (((1 : Int32) <<< (nI v.val &&& 31)) ^^^ (-1))) ||| (nI b.val <<< (nI v.val &&& 31))) = nI (sb_n a.val v.val b.val) := by decide +kernel
theorem sb_lt : ∀ n : Fin 7, ∀ a : Fin 64, ∀ v : Fin 6, ∀ b : Fin 2, a.val < 2 ^ n.val → v.val < n.val → sb_n a.val v.val b.val < 2 ^ n.val := by decide +kernel
theorem sb_t : ∀ a : Fin 64, ∀ v : Fin 6, ∀ b : Fin 2, ∀ w : Fin 6, (sb_n a.val v.val b.val).testBit w.val = if w.val = v.val then decide (b.val = 1) else a.val.testBit w.val := by decide +kernel
theorem sb_as {n a v b w : Nat} (n6 : n ≤ 6) (ha : a < 64) (hv : v < 6) (hb : b < 2) (hw : w < n) : as_ (sb_n a v b) w = fu_u (as_ a) v (decide (b = 1)) w := by
  have := sb_t ⟨a, ha⟩ ⟨v, hv⟩ ⟨b, hb⟩ ⟨w, by omega⟩
  unfold as_ fu_u
  exact this
theorem i_vc_restrict {k : Nat} {u : SX} {v : SY} (I : i_Rel k u v) (hk : k + 4 ≤ 2051) (v1 : Int32) (v2 : Int32) (v3 : Int32) : wpX_restrict (fun r u' => wpY_restrict (fun r' v' => r' = r ∧ i_Rel (k + 4) u' v') v v1 v2 v3) u v1 v2 v3 := by
  refine ir_el (P := fun u v => wpX_restrict (fun r u' => wpY_restrict (fun r' v' => r' = r ∧ i_Rel (k + 4) u' v') v v1 v2 v3) u v1 v2 v3) I ?_
  intro n la li E hh va lv T C M G W S φ B us ot sn sw ls lt r
  refine jn_go (WX := fun post => wpX_restrict post (st_ n la li E hh va lv T C M G W S) v1 v2 v3) (WY := fun post => wpY_restrict post (sy_ n la li B hh us va ot sn sw ls lt) v1 v2 v3) ?_
  have rr := r
  obtain ⟨⟨P, I0, O, l0, K, g, N⟩, b⟩ := r
  have n6 := P.1.2.1
  have htc := tc_kept P I0 O l0
  have p64 := p2_le n6
  have S0 := I0.1
  have la9 := N.1.2.1
  rcases jn_use (M := M) (W := W) (S := S) (ot := ot) (sn := sn) (sw := sw) (ls := ls) (lt := lt) rr v1 with h | ⟨j, j1, j2, j3, j4, h⟩
  · refine ⟨-1, (st_ n la li E hh va lv T C M G W S), (sy_ n la li B hh us va ot sn sw ls lt), ir_mk rr, fun post hp => ?_, fun post hp => ?_⟩
    · unfold wpX_restrict
      exact (h _ (fun _ => True)).1 (br_t rfl hp)
    · unfold wpY_restrict
      exact (h (fun _ => True) _).2 (br_t rfl hp)
  subst j2
  by_cases c0 : v2 < 0
  · refine ⟨-1, (st_ n la li E hh va lv T C M G W S), (sy_ n la li B hh us va ot sn sw ls lt), ir_mk rr, fun post hp => ?_, fun post hp => ?_⟩
    · unfold wpX_restrict
      exact (h _ (fun _ => True)).1 (br_f (by decide) (br_t c0 hp))
    · unfold wpY_restrict
      exact (h (fun _ => True) _).2 (br_f (by decide) (br_t c0 hp))
  by_cases c1 : nI n ≤ v2
  · refine ⟨-1, (st_ n la li E hh va lv T C M G W S), (sy_ n la li B hh us va ot sn sw ls lt), ir_mk rr, fun post hp => ?_, fun post hp => ?_⟩
    · unfold wpX_restrict
      exact (h _ (fun _ => True)).1 (br_f (by decide) (br_f c0 (br_t c1 hp)))
    · unfold wpY_restrict
      exact (h (fun _ => True) _).2 (br_f (by decide) (br_f c0 (br_t c1 hp)))
  by_cases c2 : v3 < 0
  · refine ⟨-1, (st_ n la li E hh va lv T C M G W S), (sy_ n la li B hh us va ot sn sw ls lt), ir_mk rr, fun post hp => ?_, fun post hp => ?_⟩
    · unfold wpX_restrict
      exact (h _ (fun _ => True)).1 (br_f (by decide) (br_f c0 (br_f c1 (br_t c2 hp))))
    · unfold wpY_restrict
      exact (h (fun _ => True) _).2 (br_f (by decide) (br_f c0 (br_f c1 (br_t c2 hp))))
  by_cases c3 : v3 ≤ 1
  rotate_left
  · refine ⟨-1, (st_ n la li E hh va lv T C M G W S), (sy_ n la li B hh us va ot sn sw ls lt), ir_mk rr, fun post hp => ?_, fun post hp => ?_⟩
    · unfold wpX_restrict
      exact (h _ (fun _ => True)).1 (br_f (by decide) (br_f c0 (br_f c1 (br_f c2 (br_f c3 hp)))))
    · unfold wpY_restrict
      exact (h (fun _ => True) _).2 (br_f (by decide) (br_f c0 (br_f c1 (br_f c2 (br_f c3 hp)))))
  obtain ⟨v, hv, ev⟩ : ∃ v, v < n ∧ v2 = nI v := by
    rcases pk_ix v2 (n := n) (by omega) with z | z | z
    · exact absurd z c0
    · exact absurd z c1
    · exact z
  obtain ⟨c, hc, ec⟩ := nI_of2 (M := 1) (n := 1) (by decide) c2 c3
  subst ev ec
  have vj : vp_in (nI j) 10 := vp_in_nI (by omega) (by omega)
  have oj := okh_ I0 N j1 j3
  have lvn := (P.2.2 v hv).1
  have pw : 2 ^ lv v ≤ 2 ^ 5 := Nat.pow_le_pow_right (by omega) (by omega)
  have e5 : (2 : Nat) ^ 5 = 32 := rfl
  obtain ⟨e, T1, G1, φ1, I1, O1, K1, X1, oe, se, tc1, g1, g2, g3, wf⟩ := xm_fix (la := la) (li := li) (hh := hh) (M := M) (W := W) (S := S) (b := c) P I0 O K g.1 g.2.1 oj hv (by omega) (by omega)
  obtain ⟨r, u', v', R, wx, wy⟩ := jn_deliver (k := k + 4) (M := M) (W := W) (S := S) (ot := ot) (sn := sn) (sw := sw) (ls := ls) (lt := lt) (e := e) (f := fun a => B j (sb_n a v c)) P I1 O1 K1 ⟨g1, g2, by rw [g3]; exact g.2.2⟩ N (bu_xt I0 N X1 b) oe (fun a ha => by
    have hl := sb_lt ⟨n, by omega⟩ ⟨a, by omega⟩ ⟨v, by omega⟩ ⟨c, by omega⟩ ha hv
    rw [se, b.2 j (by omega) j3 _ hl]
    exact ef_dn S0 P O oj _ _ (fun w hw => sb_as n6 (by omega) (by omega) (by omega) hw))
  refine ⟨r, u', v', R, fun post hp => ?_, fun post hp => ?_⟩
  · unfold wpX_restrict
    refine (h _ (fun _ => True)).1 (br_f (by decide) (br_f c0 (br_f c1 (br_f c2 (br_t c3 ⟨vj, ?_⟩)))))
    rw [nI_clamp (n := j) (by omega), en_Ek j3]
    refine wf _ ?_
    exact wx _ hp
  · unfold wpY_restrict
    refine (h (fun _ => True) _).2 (br_f (by decide) (br_f c0 (br_f c1 (br_f c2 (br_t c3 ⟨2 ^ n + 1, ?_⟩)))))
    refine lp_mk (W := fun N x2 x4 => wY_restrict_37 post (nI j) (nI v) (nI c) (nI n) (nI la) (nI li) (nI (2 ^ n)) (en_F n B) (en_I hh) (en_I us) (en_O va) ot sn sw ls lt N x2 x4) (f := fun a => B j (sb_n a v c)) (c := 2 ^ n) (fun N => ?_) (fun N x hx hw => ?_)
    · exact pk_le (2 ^ n) (2 ^ n) (fun _ => wy _ hp) (fun z => by omega)
    · refine pk_le (2 ^ n) x (fun z => by omega) (fun _ => nm_r (sb_w ⟨x, by omega⟩ ⟨v, by omega⟩ ⟨c, by omega⟩) ?_)
      refine yw_value n6 (by omega) (sb_lt ⟨n, by omega⟩ ⟨x, by omega⟩ ⟨v, by omega⟩ ⟨c, by omega⟩ hx hv) ?_
      refine nm_r (e' := lN (mk_N (fun a => B j (sb_n a v c)) (x + 1))) ?_ (nm_r (nI_1 _) hw)
      rw [← mk_or (f := fun a => B j (sb_n a v c)) (by omega), nI_l (by cases B j (sb_n x v c) <;> decide)]
theorem i_vc_compose {k : Nat} {u : SX} {v : SY} (I : i_Rel k u v) (hk : k + 4 ≤ 2051) (v1 : Int32) (v2 : Int32) (v3 : Int32) : wpX_compose (fun r u' => wpY_compose (fun r' v' => r' = r ∧ i_Rel (k + 4) u' v') v v1 v2 v3) u v1 v2 v3 := by
  refine ir_el (P := fun u v => wpX_compose (fun r u' => wpY_compose (fun r' v' => r' = r ∧ i_Rel (k + 4) u' v') v v1 v2 v3) u v1 v2 v3) I ?_
  intro n la li E hh va lv T C M G W S φ B us ot sn sw ls lt r
  refine jn_go (WX := fun post => wpX_compose post (st_ n la li E hh va lv T C M G W S) v1 v2 v3) (WY := fun post => wpY_compose post (sy_ n la li B hh us va ot sn sw ls lt) v1 v2 v3) ?_
  have rr := r
  obtain ⟨⟨P, I0, O, l0, K, g, N⟩, b⟩ := r
  have n6 := P.1.2.1
  have htc := tc_kept P I0 O l0
  have p64 := p2_le n6
  have S0 := I0.1
  have la9 := N.1.2.1
  rcases jn_use (M := M) (W := W) (S := S) (ot := ot) (sn := sn) (sw := sw) (ls := ls) (lt := lt) rr v1 with h | ⟨j, j1, j2, j3, j4, h⟩
  · refine ⟨-1, (st_ n la li E hh va lv T C M G W S), (sy_ n la li B hh us va ot sn sw ls lt), ir_mk rr, fun post hp => ?_, fun post hp => ?_⟩
    · unfold wpX_compose
      exact (h _ (fun _ => True)).1 (br_t rfl hp)
    · unfold wpY_compose
      exact (h (fun _ => True) _).2 (br_t rfl hp)
  subst j2
  by_cases c0 : v2 < 0
  · refine ⟨-1, (st_ n la li E hh va lv T C M G W S), (sy_ n la li B hh us va ot sn sw ls lt), ir_mk rr, fun post hp => ?_, fun post hp => ?_⟩
    · unfold wpX_compose
      exact (h _ (fun _ => True)).1 (br_f (by decide) (br_t c0 hp))
    · unfold wpY_compose
      exact (h (fun _ => True) _).2 (br_f (by decide) (br_t c0 hp))
  by_cases c1 : nI n ≤ v2
  · refine ⟨-1, (st_ n la li E hh va lv T C M G W S), (sy_ n la li B hh us va ot sn sw ls lt), ir_mk rr, fun post hp => ?_, fun post hp => ?_⟩
    · unfold wpX_compose
      exact (h _ (fun _ => True)).1 (br_f (by decide) (br_f c0 (br_t c1 hp)))
    · unfold wpY_compose
      exact (h (fun _ => True) _).2 (br_f (by decide) (br_f c0 (br_t c1 hp)))
  rcases jn_use (M := M) (W := W) (S := S) (ot := ot) (sn := sn) (sw := sw) (ls := ls) (lt := lt) rr v3 with h' | ⟨i, i1, i2, i3, i4, h'⟩
  · refine ⟨-1, (st_ n la li E hh va lv T C M G W S), (sy_ n la li B hh us va ot sn sw ls lt), ir_mk rr, fun post hp => ?_, fun post hp => ?_⟩
    · unfold wpX_compose
      exact (h _ (fun _ => True)).1 (br_f (by decide) (br_f c0 (br_f c1 ((h' _ (fun _ => True)).1 (br_t rfl hp)))))
    · unfold wpY_compose
      exact (h (fun _ => True) _).2 (br_f (by decide) (br_f c0 (br_f c1 ((h' (fun _ => True) _).2 (br_t rfl hp)))))
  subst i2
  obtain ⟨v, hv, ev⟩ : ∃ v, v < n ∧ v2 = nI v := by
    rcases pk_ix v2 (n := n) (by omega) with z | z | z
    · exact absurd z c0
    · exact absurd z c1
    · exact z
  subst ev
  have vj : vp_in (nI j) 10 := vp_in_nI (by omega) (by omega)
  have vi : vp_in (nI i) 10 := vp_in_nI (by omega) (by omega)
  have oj := okh_ I0 N j1 j3
  have oi := okh_ I0 N i1 i3
  have lvn := (P.2.2 v hv).1
  have pw : 2 ^ lv v ≤ 2 ^ 5 := Nat.pow_le_pow_right (by omega) (by omega)
  have e5 : (2 : Nat) ^ 5 = 32 := rfl
  obtain ⟨e0, T1, G1, φ1, I1, O1, K1, X1, oe0, se0, tc1, g1, g2, g3, wf0⟩ := xm_fix (la := la) (li := li) (hh := hh) (M := M) (W := W) (S := S) (b := 0) P I0 O K g.1 g.2.1 oj hv (by omega) (by omega)
  obtain ⟨e1, T2, G2, φ2, I2, O2, K2, X2, oe1, se1, tc2, g4, g5, g6, wf1⟩ := xm_fix (la := la) (li := li) (hh := hh) (M := M) (W := W) (S := S) (G := G1) (b := 1) P I1 O1 K1 g1 g2 (X1.ok oj) hv (by omega) (by omega)
  have X12 := X1.trans X2
  obtain ⟨e, T3, C3, M3, φ3, I3, O3, K3, X3, oe, se, tc3, wc⟩ := xm_combine (la := la) (li := li) (hh := hh) (M := M) (G := G2) (W := W) (S := S) P I2 O2 K2 (X12.ok oi) oe1 (X2.ok oe0) (by omega)
  obtain ⟨r, u', v', R, wx, wy⟩ := jn_deliver (k := k + 4) (M := M3) (W := W) (S := S) (ot := ot) (sn := sn) (sw := sw) (ls := ls) (lt := lt) (e := e) (f := fun a => B j (sb_n a v (B i a).toNat)) P I3 O3 K3 ⟨g4, g5, by rw [g6, g3]; exact g.2.2⟩ N (bu_xt I0 N (X12.trans X3) b) oe (fun a ha => by
    have hb2 : (B i a).toNat < 2 := by cases B i a <;> decide
    have hl := sb_lt ⟨n, by omega⟩ ⟨a, by omega⟩ ⟨v, by omega⟩ ⟨(B i a).toNat, hb2⟩ ha hv
    rw [se]
    unfold i3_
    rw [se1, X2.ef oe0, se0, X1.ef oj, X12.ef oi, ← b.2 i (by omega) i3 a ha, b.2 j (by omega) j3 _ hl, ef_dn S0 P O oj _ (fu_u (as_ a) v (decide ((B i a).toNat = 1))) (fun w hw => sb_as n6 (by omega) (by omega) hb2 hw)]
    cases B i a <;> rfl)
  refine ⟨r, u', v', R, fun post hp => ?_, fun post hp => ?_⟩
  · unfold wpX_compose
    refine (h _ (fun _ => True)).1 (br_f (by decide) (br_f c0 (br_f c1 ((h' _ (fun _ => True)).1 (br_f (by decide) ⟨vj, ?_⟩)))))
    rw [nI_clamp (n := j) (by omega), nI_clamp (n := i) (by omega), en_Ek j3]
    refine wf0 _ ?_
    dsimp only [st_]
    rw [en_Ek j3]
    refine ⟨vj, ?_⟩
    refine wf1 _ ?_
    dsimp only [st_]
    rw [en_Ek i3]
    refine ⟨vi, ?_⟩
    refine wc _ ?_
    exact wx _ hp
  · unfold wpY_compose
    refine (h (fun _ => True) _).2 (br_f (by decide) (br_f c0 (br_f c1 ((h' (fun _ => True) _).2 (br_f (by decide) ⟨2 ^ n + 1, ?_⟩)))))
    refine lp_mk (W := fun N x2 x4 => wY_compose_36 post (nI j) (nI v) (nI i) (nI n) (nI la) (nI li) (nI (2 ^ n)) (en_F n B) (en_I hh) (en_I us) (en_O va) ot sn sw ls lt N x2 x4) (f := fun a => B j (sb_n a v (B i a).toNat)) (c := 2 ^ n) (fun N => ?_) (fun N x hx hw => ?_)
    · exact pk_le (2 ^ n) (2 ^ n) (fun _ => wy _ hp) (fun z => by omega)
    · have hb2 : (B i x).toNat < 2 := by cases B i x <;> decide
      refine pk_le (2 ^ n) x (fun z => by omega) (fun _ => ?_)
      refine yw_value n6 (by omega) hx ?_
      refine nm_r (sb_w ⟨x, by omega⟩ ⟨v, by omega⟩ ⟨(B i x).toNat, hb2⟩) ?_
      refine yw_value n6 (by omega) (sb_lt ⟨n, by omega⟩ ⟨x, by omega⟩ ⟨v, by omega⟩ ⟨(B i x).toNat, hb2⟩ hx hv) ?_
      refine nm_r (e' := lN (mk_N (fun a => B j (sb_n a v (B i a).toNat)) (x + 1))) ?_ (nm_r (nI_1 _) hw)
      rw [← mk_or (f := fun a => B j (sb_n a v (B i a).toNat)) (by omega), nI_l (by cases B j (sb_n x v (B i x).toNat) <;> decide)]
/-! quantify -/
def rb_ : Nat → Nat := sm_n (fun l => 2 * (2 ^ l - 1) + 63)
theorem rb_6 {n : Nat} (h : n ≤ 6) : rb_ n ≤ 492 := by
  rcases (by omega : n = 0 ∨ n = 1 ∨ n = 2 ∨ n = 3 ∨ n = 4 ∨ n = 5 ∨ n = 6) with e | e | e | e | e | e | e <;> subst e <;> decide
/-- the variables of the mask at level m or below -/
def qs_ (mask : Nat) (lv : Nat → Nat) (m w : Nat) : Bool := mask.testBit w && decide (m ≤ lv w)
def Qx_ (n : Nat) (F : BF_) (q : Nat → Bool) (c : Bool) (s : Nat → Bool) : Prop := ∃ t : Nat → Bool, (∀ w, w < n → q w = false → t w = s w) ∧ F t = c
theorem qx_step {n v : Nat} {F : BF_} {q q' : Nat → Bool} {c : Bool} {s : Nat → Bool} (hq : ∀ w, w < n → w ≠ v → q' w = q w) (hv : q' v = true) (hqv : q v = false) : (∃ x : Bool, Qx_ n F q c (fu_u s v x)) ↔ Qx_ n F q' c s := by
  constructor
  · intro ⟨x, t, h1, h2⟩
    refine ⟨t, fun w hw hqw => ?_, h2⟩
    have hne : w ≠ v := fun e => by rw [e, hv] at hqw; cases hqw
    rw [h1 w hw (by rw [← hq w hw hne]; exact hqw), fu_n hne]
  · intro ⟨t, h1, h2⟩
    refine ⟨t v, t, fun w hw hqw => ?_, h2⟩
    by_cases e : w = v
    · rw [e, fu_s]
    · rw [fu_n e]; exact h1 w hw (by rw [hq w hw e]; exact hqw)
theorem ts_w : ∀ m : Fin 64, ∀ w : Fin 6, ((nI m.val >>> (nI w.val &&& 31)) &&& 1) = nI (m.val.testBit w.val).toNat := by decide +kernel
section
variable {n la li : Nat} {E hh va lv : Nat → Nat} {T : TN_} {C : CN_} {M : MN_} {G : GN_} {W : WN_} {S : SN_}
theorem xm_qone {v e kd : Nat} {φ : Nat → BF_} (P : Pm_ n va lv) (I : Ti_ n E 0 T φ) (O : Od_ 0 lv (tb_V T) (tb_L T) (tb_H T)) (K : Ca_ (tb_V T) φ C) (hs : ∀ j, ga_s G j = 0) (hi0 : ga_i G 0 = 0) (oe : ok_ (tb_V T) (e / 2)) (hv : v < n) (hkd : kd < 2) (hroom : tc_ 0 (tb_V T) + (2 * (2 ^ lv v - 1) + 63) ≤ 1023) :
    ∃ e' T' C' M' G' φ', Ti_ n E 0 T' φ' ∧ Od_ 0 lv (tb_V T') (tb_L T') (tb_H T') ∧ Ca_ (tb_V T') φ' C' ∧ Xt_ T φ T' φ' ∧ ok_ (tb_V T') (e' / 2) ∧ (∀ s, ef_ φ' e' s = decide (kd = 0) ↔ ∃ x : Bool, ef_ φ e (fu_u s v x) = decide (kd = 0)) ∧ tc_ 0 (tb_V T') ≤ tc_ 0 (tb_V T) + (2 * (2 ^ lv v - 1) + 63) ∧ (∀ j, ga_s G' j = 0) ∧ ga_i G' 0 = 0 ∧ ga_w G' = ga_w G ∧
      ∀ post : Int32 → SX → Prop, post (nI e') (st_ n la li E hh va lv T' C' M' G' W S) → wpX_quantifyOne post (st_ n la li E hh va lv T C M G W S) (nI kd) (nI e) (nI v) := by
  have p1 : 0 < 2 ^ lv v := Nat.two_pow_pos _
  obtain ⟨e0, T1, G1, φ1, I1, O1, K1, X1, oe0, se0, tc1, g1, g2, g3, wf0⟩ := xm_fix (la := la) (li := li) (hh := hh) (M := M) (W := W) (S := S) (b := 0) P I O K hs hi0 oe hv (by omega) (by omega)
  obtain ⟨e1, T2, G2, φ2, I2, O2, K2, X2, oe1, se1, tc2, g4, g5, g6, wf1⟩ := xm_fix (la := la) (li := li) (hh := hh) (M := M) (W := W) (S := S) (G := G1) (b := 1) P I1 O1 K1 g1 g2 (X1.ok oe) hv (by omega) (by omega)
  have X12 := X1.trans X2
  have s0 : ∀ s, ef_ φ2 e0 s = ef_ φ e (fu_u s v false) := fun s => by rw [X2.ef oe0, se0]; rfl
  have s1 : ∀ s, ef_ φ2 e1 s = ef_ φ e (fu_u s v true) := fun s => by rw [se1, X1.ef oe]; rfl
  have hx : ∀ (p : Bool → Prop), (∃ x, p x) ↔ p false ∨ p true := fun p => ⟨fun ⟨x, hx⟩ => match x, hx with | false, hx => Or.inl hx | true, hx => Or.inr hx, fun h => h.elim (fun z => ⟨_, z⟩) (fun z => ⟨_, z⟩)⟩
  rcases (by omega : kd = 0 ∨ kd = 1) with z | z
  · subst z
    obtain ⟨e', T3, C3, M3, φ3, I3, O3, K3, X3, oe', se, tc3, wc⟩ := xm_combine (la := la) (li := li) (hh := hh) (M := M) (G := G2) (W := W) (S := S) (f := e1) (g := 1) (h := e0) P I2 O2 K2 oe1 (Or.inl rfl) (X2.ok oe0) (by omega)
    refine ⟨e', T3, C3, M3, G2, φ3, I3, O3, K3, X12.trans X3, oe', fun s => ?_, by omega, g4, g5, by rw [g6, g3], fun post hp => ?_⟩
    · rw [se, hx (fun x => ef_ φ e (fu_u s v x) = decide (0 = 0))]
      unfold i3_
      rw [s0, s1, (ef_0 I2.1 s).2]
      cases ef_ φ e (fu_u s v true) <;> cases ef_ φ e (fu_u s v false) <;> simp
    · unfold wpX_quantifyOne st_
      dsimp only
      refine wf0 _ ?_
      dsimp only [st_]
      refine wf1 _ ?_
      dsimp only [st_]
      refine br_t rfl ?_
      exact wc _ hp
  · subst z
    obtain ⟨e', T3, C3, M3, φ3, I3, O3, K3, X3, oe', se, tc3, wc⟩ := xm_combine (la := la) (li := li) (hh := hh) (M := M) (G := G2) (W := W) (S := S) (f := e1) (g := e0) (h := 0) P I2 O2 K2 oe1 (X2.ok oe0) (Or.inl rfl) (by omega)
    refine ⟨e', T3, C3, M3, G2, φ3, I3, O3, K3, X12.trans X3, oe', fun s => ?_, by omega, g4, g5, by rw [g6, g3], fun post hp => ?_⟩
    · rw [se, hx (fun x => ef_ φ e (fu_u s v x) = decide (1 = 0))]
      unfold i3_
      rw [s0, s1, (ef_0 I2.1 s).1]
      cases ef_ φ e (fu_u s v true) <;> cases ef_ φ e (fu_u s v false) <;> simp
    · unfold wpX_quantifyOne st_
      dsimp only
      refine wf0 _ ?_
      dsimp only [st_]
      refine wf1 _ ?_
      dsimp only [st_]
      refine br_f (by decide) ?_
      exact wc _ hp
theorem xw_quan {kd mask : Nat} {F : BF_} (P : Pm_ n va lv) (hkd : kd < 2) (hm64 : mask < 64) : ∀ (m : Nat) (e : Nat) (T : TN_) (C : CN_) (M : MN_) (G : GN_) (φ : Nat → BF_), m ≤ n → Ti_ n E 0 T φ → Od_ 0 lv (tb_V T) (tb_L T) (tb_H T) → Ca_ (tb_V T) φ C → (∀ j, ga_s G j = 0) → ga_i G 0 = 0 → ok_ (tb_V T) (e / 2) → (∀ s, ef_ φ e s = decide (kd = 0) ↔ Qx_ n F (qs_ mask lv m) (decide (kd = 0)) s) → tc_ 0 (tb_V T) + rb_ m ≤ 1023 →
    ∃ e' T' C' M' G' φ', Ti_ n E 0 T' φ' ∧ Od_ 0 lv (tb_V T') (tb_L T') (tb_H T') ∧ Ca_ (tb_V T') φ' C' ∧ Xt_ T φ T' φ' ∧ ok_ (tb_V T') (e' / 2) ∧ (∀ s, ef_ φ' e' s = decide (kd = 0) ↔ Qx_ n F (qs_ mask lv 0) (decide (kd = 0)) s) ∧ (∀ j, ga_s G' j = 0) ∧ ga_i G' 0 = 0 ∧ ga_w G' = ga_w G ∧
      ∀ post : Int32 → SX → Prop, wpX_deliver post (st_ n la li E hh va lv T' C' M' G' W S) (nI e') → (∀ r u, post r u → post r u) → wX_quantify_49 post (nI kd) (nI mask) (m + 1) (nI e) (nI m - 1) (nI n) (nI la) (nI li) (nI (tb_fh T)) (nI (tb_lo T)) (nI (tb_to T)) (nI (ma_F M)) (nI (ma_G M)) (nI (ma_H M)) (nI (ma_n M)) (nI (ga_n G)) (nI (wo_n W)) (en_E E) (en_I hh) (en_I va) (en_I lv) (en_V (tb_V T)) (en_I (tb_L T)) (en_I (tb_H T)) (en_I (tb_R T)) (en_I (tb_X T)) (en_I (tb_D T)) (en_I (tb_Q T)) (en_I (ca_F C)) (en_I (ca_G C)) (en_I (ca_H C)) (en_I (ca_R C)) (en_I (ma_f M)) (en_I (ma_g M)) (en_I (ma_h M)) (en_I (ma_v M)) (en_I (ma_p M)) (en_I (ma_l M)) (en_I (ma_b M)) (en_I (ga_r G)) (en_I (ga_s G)) (en_I (ga_i G)) (en_I (ga_w G)) (en_I (wo_w W)) (en_I (si_z S)) (en_I (si_c S))
  | 0, e, T, C, M, G, φ, hm, I, O, K, hs, hi0, oe, se, hroom => by
    refine ⟨e, T, C, M, G, φ, I, O, K, Xt_.refl _ _, oe, se, hs, hi0, rfl, fun post hp _ => ?_⟩
    exact br_t (by decide) hp
  | m + 1, e, T, C, M, G, φ, hm, I, O, K, hs, hi0, oe, se, hroom => by
    have n6 := P.1.2.1
    obtain ⟨v1, v2⟩ := P.2.1 m (by omega)
    have erb : rb_ (m + 1) = rb_ m + (2 * (2 ^ m - 1) + 63) := rfl
    have dec : nI m + (-1) = nI m - 1 := by rw [Int32.sub_eq_add_neg]
    have vm : vp_in (nI m) 7 := vp_in_nI (by omega) (by omega)
    have tw := ts_w ⟨mask, hm64⟩ ⟨va m, by omega⟩
    have off : ∀ w, w < n → w ≠ va m → qs_ mask lv m w = qs_ mask lv (m + 1) w := fun w hw hne => by
      unfold qs_
      have : lv w ≠ m := fun e => hne (P.inj hw v1 (by rw [e, v2]))
      by_cases c : m + 1 ≤ lv w
      · rw [decide_eq_true c, decide_eq_true (show m ≤ lv w by omega)]
      · rw [decide_eq_false c, decide_eq_false (show ¬ m ≤ lv w by omega)]
    have qv1 : qs_ mask lv (m + 1) (va m) = false := by
      unfold qs_; rw [decide_eq_false (by omega)]; simp
    cases hb : mask.testBit (va m)
    · have same : ∀ s, Qx_ n F (qs_ mask lv m) (decide (kd = 0)) s ↔ Qx_ n F (qs_ mask lv (m + 1)) (decide (kd = 0)) s := fun s => by
        have q : ∀ w, w < n → qs_ mask lv m w = qs_ mask lv (m + 1) w := fun w hw => by
          by_cases e : w = va m
          · rw [e, qv1]; unfold qs_; rw [hb]; rfl
          · exact off w hw e
        constructor
        · intro ⟨t, h1, h2⟩; exact ⟨t, fun w hw hq => h1 w hw (by rw [q w hw]; exact hq), h2⟩
        · intro ⟨t, h1, h2⟩; exact ⟨t, fun w hw hq => h1 w hw (by rw [← q w hw]; exact hq), h2⟩
      obtain ⟨e', T', C', M', G', φ', a1, a2, a3, a4, a5, a6, a7, a8, a9, a10⟩ := xw_quan P hkd hm64 m e T C M G φ (by omega) I O K hs hi0 oe (fun s => by rw [same s]; exact se s) (by omega)
      refine ⟨e', T', C', M', G', φ', a1, a2, a3, a4, a5, a6, a7, a8, a9, fun post hp hh => ?_⟩
      rw [nI_pred m]
      refine br_f (nI_pos (by omega)) ⟨vm, nm_r (e' := nI (va m)) (by rw [nI_clamp (n := m) (by omega)]; rfl) ?_⟩
      refine br_t (tw.trans (by show nI (mask.testBit (va m)).toNat = 0; rw [hb]; rfl)) (nm_r dec (a10 post hp hh))
    · have lvv : lv (va m) = m := v2
      obtain ⟨e1, T1, C1, M1, G1, φ1, I1, O1, K1, X1, oe1, se1, tc1, g1, g2, g3, w1⟩ := xm_qone (la := la) (li := li) (hh := hh) (M := M) (W := W) (S := S) (v := va m) (e := e) P I O K hs hi0 oe v1 hkd (by rw [lvv]; omega)
      rw [lvv] at tc1
      obtain ⟨e', T', C', M', G', φ', a1, a2, a3, a4, a5, a6, a7, a8, a9, a10⟩ := xw_quan P hkd hm64 m e1 T1 C1 M1 G1 φ1 (by omega) I1 O1 K1 g1 g2 oe1 (fun s => by
        rw [se1 s, ← qx_step (v := va m) off (by unfold qs_; rw [hb, decide_eq_true (by omega)]; rfl) qv1]
        constructor
        · intro ⟨x, hx⟩; exact ⟨x, (se _).mp hx⟩
        · intro ⟨x, hx⟩; exact ⟨x, (se _).mpr hx⟩) (by omega)
      refine ⟨e', T', C', M', G', φ', a1, a2, a3, X1.trans a4, a5, a6, a7, a8, by rw [a9, g3], fun post hp hh => ?_⟩
      rw [nI_pred m]
      refine br_f (nI_pos (by omega)) ⟨vm, nm_r (e' := nI (va m)) (by rw [nI_clamp (n := m) (by omega)]; rfl) ?_⟩
      refine br_f (fun z => ?_) ?_
      · have := tw.symm.trans z
        have t2 : nI (mask.testBit (va m)).toNat = 0 := this
        rw [hb] at t2
        exact absurd t2 (by decide)
      · refine w1 _ ?_
        dsimp only [st_]
        exact nm_r dec (a10 post hp hh)
end
/-- the reference's inner loop -/
theorem xr_mask {a b mask : Nat} (ha : a < 64) (hb : b < 64) (hm : mask < 64) : ((nI a ^^^ nI b) &&& (nI mask ^^^ (-1))) = 0 ↔ ∀ w, w < 6 → mask.testBit w = false → a.testBit w = b.testBit w := by
  have bt_n : ∀ (x : Nat), x < 64 → ∀ i, i < 32 → bt (nI x) i = x.testBit i := fun x hx i hi => by
    unfold bt nI
    show (BitVec.ofNat 32 x).getLsbD i = _
    rw [BitVec.getLsbD_ofNat]
    simp [hi]
  have big : ∀ (x : Nat), x < 64 → ∀ i, 6 ≤ i → x.testBit i = false := fun x hx i hi => Nat.testBit_lt_two_pow (Nat.lt_of_lt_of_le hx (by have := Nat.pow_le_pow_right (n := 2) (by omega) hi; simpa using this))
  constructor
  · intro h w hw hmw
    have := congrArg (fun x => bt x w) h
    simp only [b_and, b_xor, b_0] at this
    rw [bt_n a ha w (by omega), bt_n b hb w (by omega), bt_n mask hm w (by omega), b_m1 w (by omega), hmw] at this
    revert this
    cases a.testBit w <;> cases b.testBit w <;> simp
  · intro h
    apply b_ext
    intro i hi
    rw [b_and, b_xor, b_xor, b_0, bt_n a ha i hi, bt_n b hb i hi, bt_n mask hm i hi, b_m1 i hi]
    by_cases c : i < 6
    · have := h i c
      revert this
      cases mask.testBit i <;> cases a.testBit i <;> cases b.testBit i <;> simp
    · rw [big a ha i (by omega), big b hb i (by omega)]; simp
end
section
/-! quantify on both sides -/
noncomputable def ag_ (mask a b : Nat) : Bool := @decide (∀ w, w < 6 → mask.testBit w = false → a.testBit w = b.testBit w) (Classical.propDecidable _)
theorem ag_t {mask a b : Nat} : ag_ mask a b = true ↔ ∀ w, w < 6 → mask.testBit w = false → a.testBit w = b.testBit w := @decide_eq_true_iff _ (Classical.propDecidable _)
noncomputable def so_ (f : Nat → Bool) (mask a : Nat) : Nat → Bool
  | 0 => false
  | b + 1 => so_ f mask a b || (ag_ mask a b && f b)
noncomputable def ao_ (f : Nat → Bool) (mask a : Nat) : Nat → Bool
  | 0 => true
  | b + 1 => ao_ f mask a b && (!ag_ mask a b || f b)
theorem so_t {f : Nat → Bool} {mask a : Nat} : ∀ {c : Nat}, so_ f mask a c = true ↔ ∃ b, b < c ∧ ag_ mask a b = true ∧ f b = true
  | 0 => ⟨fun h => by simp [so_] at h, fun ⟨b, h, _⟩ => by omega⟩
  | c + 1 => by
    simp only [so_, Bool.or_eq_true, Bool.and_eq_true]
    rw [so_t (c := c)]
    constructor
    · intro h
      rcases h with ⟨b, h1, h2, h3⟩ | ⟨h2, h3⟩
      · exact ⟨b, by omega, h2, h3⟩
      · exact ⟨c, by omega, h2, h3⟩
    · intro ⟨b, h1, h2, h3⟩
      by_cases e : b = c
      · subst e; exact Or.inr ⟨h2, h3⟩
      · exact Or.inl ⟨b, by omega, h2, h3⟩
theorem ao_f {f : Nat → Bool} {mask a : Nat} : ∀ {c : Nat}, ao_ f mask a c = false ↔ ∃ b, b < c ∧ ag_ mask a b = true ∧ f b = false
  | 0 => ⟨fun h => by simp [ao_] at h, fun ⟨b, h, _⟩ => by omega⟩
  | c + 1 => by
    have ih := ao_f (f := f) (mask := mask) (a := a) (c := c)
    constructor
    · intro h
      cases h1 : ao_ f mask a c
      · obtain ⟨b, b1, b2, b3⟩ := ih.mp h1
        exact ⟨b, by omega, b2, b3⟩
      · simp only [ao_] at h
        rw [h1] at h
        refine ⟨c, by omega, ?_, ?_⟩
        · cases h2 : ag_ mask a c
          · rw [h2] at h; simp at h
          · rfl
        · cases h2 : f c
          · rfl
          · rw [h2] at h; simp at h
    · intro ⟨b, h1, h2, h3⟩
      simp only [ao_]
      by_cases e : b = c
      · subst e; rw [h2, h3]; simp
      · rw [ih.mpr ⟨b, by omega, h2, h3⟩]; rfl
section
variable {n la li : Nat} {B : Nat → Nat → Bool} {hh us va : Nat → Nat} {ot : Nat → Int32} {sn : Nat → Int64} {sw ls lt : Nat → Int32}
theorem yw_quanI {post : Int32 → SY → Prop} {J : Int64 → Int32 → Prop} {kd j mask a : Nat} {x4 : Int64} (hn : n ≤ 6) (hj : j < 10) (hkd : kd < 2) (ha : a < 2 ^ n) (hm : mask < 2 ^ n)
    (hJ : J (x4 ||| (lN (if kd = 0 then so_ (B j) mask a (2 ^ n) else ao_ (B j) mask a (2 ^ n)).toNat <<< ((nI a).toInt64 &&& 63))) (nI (a + 1))) (hx : x4 ||| (lN 0 <<< ((nI a).toInt64 &&& 63)) = x4) : ∀ (m c : Nat), c + m = 2 ^ n → wY_quantify_55 post J (nI kd) (nI j) (nI mask) x4 (nI a) (nI n) (nI la) (nI li) (nI (2 ^ n)) (en_F n B) (en_I hh) (en_I us) (en_O va) ot sn sw ls lt (m + 1) (nI (so_ (B j) mask a c).toNat) (nI (ao_ (B j) mask a c).toNat) (nI c)
  | 0, c, hc => by
    have p64 := p2_le hn
    have e : c = 2 ^ n := by omega
    subst e
    refine pk_le (2 ^ n) (2 ^ n) (fun _ => ?_) (fun z => by omega)
    refine pk_eq kd 0 (fun z => ?_) (fun z => ?_)
    · rw [if_pos z] at hJ
      cases h : so_ (B j) mask a (2 ^ n)
      · rw [h] at hJ
        refine br_t rfl (nm_r (nI_1 _) ?_)
        rw [show (false : Bool).toNat = 0 from rfl, hx] at hJ
        exact hJ
      · rw [h] at hJ
        refine br_f (by decide) ?_
        exact nm_e (nm_r (nI_1 _) hJ)
    · rw [if_neg z] at hJ
      cases h : ao_ (B j) mask a (2 ^ n)
      · rw [h] at hJ
        refine br_t rfl (nm_r (nI_1 _) ?_)
        rw [show (false : Bool).toNat = 0 from rfl, hx] at hJ
        exact hJ
      · rw [h] at hJ
        refine br_f (by decide) ?_
        exact nm_e (nm_r (nI_1 _) hJ)
  | m + 1, c, hc => by
    have p64 := p2_le hn
    have ih := yw_quanI (post := post) hn hj hkd ha hm hJ hx m (c + 1) (by omega)
    refine pk_le (2 ^ n) c (fun z => by omega) (fun _ => ?_)
    refine ek_if (xr_mask (by omega) (by omega) (by omega)) (fun q => ?_) (fun q => ?_)
    · have hag : ag_ mask a c = true := ag_t.mpr q
      refine yw_value hn hj (by omega) ?_
      cases h : B j c
      · refine br_f (by decide) (nm_r (nI_1 _) ?_)
        have e1 : so_ (B j) mask a (c + 1) = so_ (B j) mask a c := by simp only [so_]; rw [hag, h]; simp
        have e2 : ao_ (B j) mask a (c + 1) = false := by simp only [ao_]; rw [hag, h]; simp
        rw [e1, e2] at ih
        exact ih
      · refine br_t (by decide) (nm_r (nI_1 _) ?_)
        have e1 : so_ (B j) mask a (c + 1) = true := by simp only [so_]; rw [hag, h]; simp
        have e2 : ao_ (B j) mask a (c + 1) = ao_ (B j) mask a c := by simp only [ao_]; rw [hag, h]; simp
        rw [e1, e2] at ih
        exact ih
    · have hag : ag_ mask a c = false := by
        cases hh' : ag_ mask a c
        · rfl
        · exact absurd (ag_t.mp hh') q
      refine nm_r (nI_1 _) ?_
      have e1 : so_ (B j) mask a (c + 1) = so_ (B j) mask a c := by simp only [so_]; rw [hag]; simp
      have e2 : ao_ (B j) mask a (c + 1) = ao_ (B j) mask a c := by simp only [ao_]; rw [hag]; simp
      rw [e1, e2] at ih
      exact ih
end
theorem or_z {x : Int64} {a : Nat} (ha : a < 64) : x ||| (lN 0 <<< ((nI a).toInt64 &&& 63)) = x := by
  rw [wb_shl _ ha, Nat.zero_mul]
  apply wb_inj
  rw [Int64.toBitVec_or]
  show x.toBitVec ||| (BitVec.ofNat 64 0) = x.toBitVec
  simp
theorem tb_big {n x w : Nat} (hx : x < 2 ^ n) (hw : n ≤ w) : x.testBit w = false := Nat.testBit_lt_two_pow (Nat.lt_of_lt_of_le hx (Nat.pow_le_pow_right (by omega) hw))
/-- an assignment that agrees with a but for the mask, as a number -/
theorem qx_num {n mask a : Nat} {F : BF_} {lv : Nat → Nat} {c : Bool} (n6 : n ≤ 6) (ha : a < 2 ^ n) (hm : mask < 2 ^ n) (hF : Dn_ n F) : Qx_ n F (qs_ mask lv 0) c (as_ a) ↔ ∃ b, b < 2 ^ n ∧ ag_ mask a b = true ∧ F (as_ b) = c := by
  have q0 : ∀ w, qs_ mask lv 0 w = mask.testBit w := fun w => by unfold qs_; rw [decide_eq_true (Nat.zero_le _)]; simp
  constructor
  · intro ⟨t, h1, h2⟩
    obtain ⟨b, b1, b2⟩ := as_ex n t
    refine ⟨b, b1, ag_t.mpr (fun w hw hmw => ?_), ?_⟩
    · by_cases e : w < n
      · have := b2 w e
        rw [h1 w e (by rw [q0]; exact hmw)] at this
        exact this.symm
      · rw [tb_big ha (by omega), tb_big b1 (by omega)]
    · rw [hF (as_ b) t b2]; exact h2
  · intro ⟨b, b1, b2, b3⟩
    refine ⟨as_ b, fun w hw hq => ?_, b3⟩
    rw [q0] at hq
    exact ((ag_t.mp b2) w (by omega) hq).symm
theorem i_vc_quantify {k : Nat} {u : SX} {v : SY} (I : i_Rel k u v) (hk : k + 4 ≤ 2051) (v1 : Int32) (v2 : Int32) (v3 : Int32) : wpX_quantify (fun r u' => wpY_quantify (fun r' v' => r' = r ∧ i_Rel (k + 4) u' v') v v1 v2 v3) u v1 v2 v3 := by
  refine ir_el (P := fun u v => wpX_quantify (fun r u' => wpY_quantify (fun r' v' => r' = r ∧ i_Rel (k + 4) u' v') v v1 v2 v3) u v1 v2 v3) I ?_
  intro n la li E hh va lv T C M G W S φ B us ot sn sw ls lt r
  refine jn_go (WX := fun post => wpX_quantify post (st_ n la li E hh va lv T C M G W S) v1 v2 v3) (WY := fun post => wpY_quantify post (sy_ n la li B hh us va ot sn sw ls lt) v1 v2 v3) ?_
  have rr := r
  obtain ⟨⟨P, I0, O, l0, K, g, N⟩, b⟩ := r
  have n6 := P.1.2.1
  have htc := tc_kept P I0 O l0
  have p64 := p2_le n6
  have S0 := I0.1
  have la9 := N.1.2.1
  by_cases c0 : v1 < 0
  · refine ⟨-1, (st_ n la li E hh va lv T C M G W S), (sy_ n la li B hh us va ot sn sw ls lt), ir_mk rr, fun post hp => ?_, fun post hp => ?_⟩
    · unfold wpX_quantify; exact br_t c0 hp
    · unfold wpY_quantify
      exact br_f (fun e => by rw [e] at c0; exact absurd c0 (by decide)) (br_f (fun e => by rw [e] at c0; exact absurd c0 (by decide)) hp)
  by_cases c1 : 1 < v1
  · refine ⟨-1, (st_ n la li E hh va lv T C M G W S), (sy_ n la li B hh us va ot sn sw ls lt), ir_mk rr, fun post hp => ?_, fun post hp => ?_⟩
    · unfold wpX_quantify; exact br_f c0 (br_t c1 hp)
    · unfold wpY_quantify
      exact br_f (fun e => by rw [e] at c1; exact absurd c1 (by decide)) (br_f (fun e => by rw [e] at c1; exact absurd c1 (by decide)) hp)
  obtain ⟨kd, hkd, ekd⟩ := nI_of2 (M := 1) (n := 1) (by decide) c0 (Int32.not_lt.mp c1)
  subst ekd
  have Y9 : ∀ post : Int32 → SY → Prop, wY_quantify_9 post (nI kd) v2 v3 (nI n) (nI la) (nI li) (nI (2 ^ n)) (en_F n B) (en_I hh) (en_I us) (en_O va) ot sn sw ls lt → wpY_quantify post (sy_ n la li B hh us va ot sn sw ls lt) (nI kd) v2 v3 := fun post hp => by
    unfold wpY_quantify
    rcases (by omega : kd = 0 ∨ kd = 1) with e | e
    · subst e; exact br_t rfl hp
    · subst e; exact br_f (by decide) (br_t rfl hp)
  rcases jn_use (M := M) (W := W) (S := S) (ot := ot) (sn := sn) (sw := sw) (ls := ls) (lt := lt) rr v2 with h | ⟨j, j1, j2, j3, j4, h⟩
  · refine ⟨-1, (st_ n la li E hh va lv T C M G W S), (sy_ n la li B hh us va ot sn sw ls lt), ir_mk rr, fun post hp => ?_, fun post hp => Y9 post ?_⟩
    · unfold wpX_quantify
      exact br_f c0 (br_f c1 ((h _ (fun _ => True)).1 (br_t rfl hp)))
    · unfold wY_quantify_9
      exact (h (fun _ => True) _).2 (br_t rfl hp)
  subst j2
  by_cases c2 : v3 < 0
  · refine ⟨-1, (st_ n la li E hh va lv T C M G W S), (sy_ n la li B hh us va ot sn sw ls lt), ir_mk rr, fun post hp => ?_, fun post hp => Y9 post ?_⟩
    · unfold wpX_quantify
      exact br_f c0 (br_f c1 ((h _ (fun _ => True)).1 (br_f (by decide) (br_t c2 hp))))
    · unfold wY_quantify_9
      exact (h (fun _ => True) _).2 (br_f (by decide) (br_t c2 hp))
  have e2n : (1 : Int32) <<< (nI n &&& 31) = nI (2 ^ n) := by
    rcases (by have := P.1.1; omega : n = 2 ∨ n = 3 ∨ n = 4 ∨ n = 5 ∨ n = 6) with e | e | e | e | e <;> subst e <;> decide
  by_cases c3 : v3 < nI (2 ^ n)
  rotate_left
  · refine ⟨-1, (st_ n la li E hh va lv T C M G W S), (sy_ n la li B hh us va ot sn sw ls lt), ir_mk rr, fun post hp => ?_, fun post hp => Y9 post ?_⟩
    · unfold wpX_quantify
      refine br_f c0 (br_f c1 ((h _ (fun _ => True)).1 (br_f (by decide) (br_f c2 ?_))))
      rw [e2n]
      exact br_f c3 hp
    · unfold wY_quantify_9
      exact (h (fun _ => True) _).2 (br_f (by decide) (br_f c2 (br_f c3 hp)))
  obtain ⟨mask, hmask, em⟩ : ∃ m, m < 2 ^ n ∧ v3 = nI m := by
    rcases pk_ix v3 (n := 2 ^ n) (by omega) with z | z | z
    · exact absurd z c2
    · exact absurd c3 (Int32.not_lt.mpr z)
    · exact z
  subst em
  have vj : vp_in (nI j) 10 := vp_in_nI (by omega) (by omega)
  have oj := okh_ I0 N j1 j3
  have rb := rb_6 n6
  have dn : Dn_ n (ef_ φ (E j)) := ef_dn S0 P O oj
  obtain ⟨e, T1, C1, M1, G1, φ1, I1, O1, K1, X1, oe, se, g1, g2, g3, wq⟩ := xw_quan (la := la) (li := li) (hh := hh) (W := W) (S := S) (F := ef_ φ (E j)) P (by omega : kd < 2) (by omega : mask < 64) n (E j) T C M G φ (Nat.le_refl _) I0 O K g.1 g.2.1 oj (fun s => by
    constructor
    · intro z; exact ⟨s, fun _ _ _ => rfl, z⟩
    · intro ⟨t, h1, h2⟩
      rw [← h2]
      refine dn _ _ (fun w hw => (h1 w hw ?_).symm)
      unfold qs_
      rw [decide_eq_false (by have := (P.2.2 w hw).1; omega)]
      simp) (by omega)
  obtain ⟨r, u', v', R, wx, wy⟩ := jn_deliver (k := k + 4) (M := M1) (W := W) (S := S) (ot := ot) (sn := sn) (sw := sw) (ls := ls) (lt := lt) (e := e) (f := fun a => if kd = 0 then so_ (B j) mask a (2 ^ n) else ao_ (B j) mask a (2 ^ n)) P I1 O1 K1 ⟨g1, g2, by rw [g3]; exact g.2.2⟩ N (bu_xt I0 N X1 b) oe (fun a ha => by
    have q := (se (as_ a)).trans (qx_num (lv := lv) n6 ha hmask dn)
    have bj : ∀ x, x < 2 ^ n → B j x = ef_ φ (E j) (as_ x) := fun x hx => b.2 j (by omega) j3 x hx
    rcases (by omega : kd = 0 ∨ kd = 1) with z | z
    · subst z
      rw [if_pos rfl]
      have q2 : ef_ φ1 e (as_ a) = true ↔ so_ (B j) mask a (2 ^ n) = true := by
        rw [so_t]
        refine q.trans ⟨fun ⟨x, x1, x2, x3⟩ => ⟨x, x1, x2, by rw [bj x x1]; exact x3⟩, fun ⟨x, x1, x2, x3⟩ => ⟨x, x1, x2, by rw [← bj x x1]; exact x3⟩⟩
      cases h1 : so_ (B j) mask a (2 ^ n)
      · cases h2 : ef_ φ1 e (as_ a)
        · rfl
        · rw [q2.mp h2] at h1; exact absurd h1 (by decide)
      · exact (q2.mpr h1).symm
    · subst z
      rw [if_neg (by decide)]
      have q2 : ef_ φ1 e (as_ a) = false ↔ ao_ (B j) mask a (2 ^ n) = false := by
        rw [ao_f]
        refine q.trans ⟨fun ⟨x, x1, x2, x3⟩ => ⟨x, x1, x2, by rw [bj x x1]; exact x3⟩, fun ⟨x, x1, x2, x3⟩ => ⟨x, x1, x2, by rw [← bj x x1]; exact x3⟩⟩
      cases h1 : ao_ (B j) mask a (2 ^ n)
      · exact (q2.mpr h1).symm
      · cases h2 : ef_ φ1 e (as_ a)
        · rw [q2.mp h2] at h1; exact absurd h1 (by decide)
        · rfl)
  refine ⟨r, u', v', R, fun post hp => ?_, fun post hp => Y9 post ?_⟩
  · unfold wpX_quantify
    refine br_f c0 (br_f c1 ((h _ (fun _ => True)).1 (br_f (by decide) (br_f c2 ?_))))
    rw [e2n, nI_clamp (n := j) (by omega), en_Ek j3]
    exact br_t c3 ⟨vj, nm_e (nm_e ⟨n + 1, wq post (wx _ hp) (fun _ _ z => z)⟩)⟩
  · unfold wY_quantify_9
    refine (h (fun _ => True) _).2 (br_f (by decide) (br_f c2 (br_t c3 ⟨2 ^ n + 1, ?_⟩)))
    refine lp_mk (W := fun N x2 x4 => wY_quantify_37 post (nI kd) (nI j) (nI mask) (nI n) (nI la) (nI li) (nI (2 ^ n)) (en_F n B) (en_I hh) (en_I us) (en_O va) ot sn sw ls lt N x2 x4) (f := fun a => if kd = 0 then so_ (B j) mask a (2 ^ n) else ao_ (B j) mask a (2 ^ n)) (c := 2 ^ n) (fun N => ?_) (fun N x hx hw => ?_)
    · exact pk_le (2 ^ n) (2 ^ n) (fun _ => wy _ hp) (fun z => by omega)
    · refine pk_le (2 ^ n) x (fun z => by omega) (fun _ => ⟨2 ^ n + 1, ?_⟩)
      refine yw_quanI (kd := kd) (j := j) (mask := mask) (a := x) n6 (by omega) (by omega) hx hmask ?_ (or_z (by omega)) (2 ^ n) 0 (by omega)
      have mo := mk_or (f := fun a => if kd = 0 then so_ (B j) mask a (2 ^ n) else ao_ (B j) mask a (2 ^ n)) (c := x) (by omega)
      rw [mo]
      exact hw
end
section
/-! the reference's widths -/
theorem mk_xor {f g : Nat → Bool} {c : Nat} : mk_N f c ^^^ mk_N g c = mk_N (fun a => f a ^^ g a) c := by
  apply Nat.eq_of_testBit_eq
  intro i
  rw [Nat.testBit_xor]
  by_cases h : i < c
  · rw [mk_bit f h, mk_bit g h, mk_bit _ h]
  · rw [tb_big (mk_lt f c) (by omega), tb_big (mk_lt g c) (by omega), tb_big (mk_lt _ c) (by omega)]; rfl
theorem bt_nI {x i : Nat} (hi : i < 32) : bt (nI x) i = x.testBit i := by
  unfold bt nI
  show (BitVec.ofNat 32 x).getLsbD i = _
  rw [BitVec.getLsbD_ofNat]
  simp [hi]
theorem bt_1 {i : Nat} (hi : i < 32) : bt 1 i = decide (i = 0) := by
  have := bt_nI (x := 1) hi
  rw [show nI 1 = 1 from rfl] at this
  rw [this]
  cases i with
  | zero => rfl
  | succ i => simp [Nat.testBit_succ]
/-- the assignment a with the upper l levels chosen by p, as a number -/
noncomputable def bn_ (n : Nat) (lv : Nat → Nat) (l p a : Nat) : Nat := Classical.choose (bits_ex n (fun w => if lv w < l then p.testBit (lv w) else a.testBit w))
theorem bn_s (n : Nat) (lv : Nat → Nat) (l p a : Nat) : bn_ n lv l p a < 2 ^ n ∧ ∀ w, w < n → (bn_ n lv l p a).testBit w = if lv w < l then p.testBit (lv w) else a.testBit w := Classical.choose_spec (bits_ex n (fun w => if lv w < l then p.testBit (lv w) else a.testBit w))
theorem bn_cp {n l p a : Nat} {lv : Nat → Nat} {F : BF_} (hF : Dn_ n F) : F (as_ (bn_ n lv l p a)) = cp_ lv F l p (as_ a) := by
  apply hF
  intro w hw
  unfold as_ mx_
  rw [(bn_s n lv l p a).2 w hw]
section
variable {n la li : Nat} {B : Nat → Nat → Bool} {hh us va : Nat → Nat} {ot : Nat → Int32} {sn : Nat → Int64} {sw ls lt : Nat → Int32}
theorem yw_217 {post : Int32 → SY → Prop} {J16 J25 : Int32 → Int32 → (Nat → Int64) → (Nat → Int32) → (Nat → Int32) → (Nat → Int32) → (Nat → Int32) → (Nat → Int64) → (Nat → Int32) → (Nat → Int32) → (Nat → Int32) → Prop} {x2 x3 x5 x6 : Int32} {x10 x13 : Int64} {cnt p : Nat} {dep : Bool} (hc : cnt < 256)
    (hA : dep = true → (∀ i, i < cnt → ¬ (sn i = x10 ∨ sn i = x13)) → J25 (nI (cnt + 1)) (nI (p + 1)) (en_F n B) (en_I hh) (en_I us) (en_O va) ot (vp_updL sn cnt x10) sw ls lt)
    (hB : (dep = false ∨ ∃ i, i < cnt ∧ (sn i = x10 ∨ sn i = x13)) → J25 (nI cnt) (nI (p + 1)) (en_F n B) (en_I hh) (en_I us) (en_O va) ot sn sw ls lt) : ∀ (m i : Nat) (kn : Bool), i + m = cnt → (kn = true ↔ ∃ j, j < i ∧ (sn j = x10 ∨ sn j = x13)) → wY_widthOf_217 post J16 J25 x2 x3 (nI cnt) x5 x6 (nI p) x10 (nI dep.toNat) x13 (nI n) (nI la) (nI li) (nI (2 ^ n)) (en_F n B) (en_I hh) (en_I us) (en_O va) ot sn sw ls lt (m + 1) (nI kn.toNat) (nI i)
  | 0, i, kn, hi, hkn => by
    have e : i = cnt := by omega
    subst e
    refine pk_le i i (fun _ => ?_) (fun z => by omega)
    cases hd : dep
    · exact br_t rfl (nm_r (nI_1 _) (hB (Or.inl hd)))
    · refine br_f (by decide) ?_
      cases hk : kn
      · refine br_t rfl (pk_le 256 i (fun z => by omega) (fun _ => ?_))
        rw [nI_clamp (n := i) (by omega)]
        refine ⟨vp_in_nI hc (by omega), nm_e (nm_r (nI_1 _) (nm_r (nI_1 _) (hA hd (fun j hj hm => ?_))))⟩
        rw [hkn.mpr ⟨j, hj, hm⟩] at hk
        exact absurd hk (by decide)
      · exact br_f (by decide) (nm_r (nI_1 _) (hB (Or.inr (hkn.mp hk))))
  | m + 1, i, kn, hi, hkn => by
    have vi : vp_in (nI i) 256 := vp_in_nI (by omega) (by omega)
    refine pk_le cnt i (fun z => by omega) (fun _ => ?_)
    rw [nI_clamp (n := i) (by omega)]
    have yes : (sn i = x10 ∨ sn i = x13) → wY_widthOf_217 post J16 J25 x2 x3 (nI cnt) x5 x6 (nI p) x10 (nI dep.toNat) x13 (nI n) (nI la) (nI li) (nI (2 ^ n)) (en_F n B) (en_I hh) (en_I us) (en_O va) ot sn sw ls lt (m + 1) 1 (nI (i + 1)) := fun hm =>
      yw_217 hc hA hB m (i + 1) true (by omega) ⟨fun _ => ⟨i, by omega, hm⟩, fun _ => rfl⟩
    refine ⟨vi, br_c (fun z => nm_r (nI_1 _) (yes (Or.inl z))) (fun z => ⟨vi, br_c (fun y => nm_r (nI_1 _) (yes (Or.inr y))) (fun y => nm_r (nI_1 _) ?_)⟩)⟩
    refine yw_217 hc hA hB m (i + 1) kn (by omega) ?_
    rw [hkn]
    constructor
    · intro ⟨j, h1, h2⟩; exact ⟨j, by omega, h2⟩
    · intro ⟨j, h1, h2⟩
      by_cases e : j = i
      · subst e; exact absurd h2 (fun c => c.elim z y)
      · exact ⟨j, by omega, h2⟩
theorem yw_157 {post : Int32 → SY → Prop} {J16 J25 : Int32 → Int32 → (Nat → Int64) → (Nat → Int32) → (Nat → Int32) → (Nat → Int32) → (Nat → Int32) → (Nat → Int64) → (Nat → Int32) → (Nat → Int32) → (Nat → Int32) → Prop} {x2 x3 x6 : Int32} {c : Nat → Bool} {v cnt p : Nat} (n6 : n ≤ 6) (hv : v < n) (h1 : ∀ a, a < 2 ^ n → B 1 a = true)
    (hw : ∀ dep : Bool, (dep = true ↔ ∃ a, a < 2 ^ n ∧ c a ≠ c (a ^^^ 2 ^ v)) → ∃ N, wY_widthOf_217 post J16 J25 x2 x3 (nI cnt) ((1 : Int32) <<< (nI v &&& 31)) x6 (nI p) (lN (mk_N c (2 ^ n))) (nI dep.toNat) (lN (mk_N (fun a => !c a) (2 ^ n))) (nI n) (nI la) (nI li) (nI (2 ^ n)) (en_F n B) (en_I hh) (en_I us) (en_O va) ot sn sw ls lt N 0 0) : ∀ (m i : Nat) (dep : Bool), i + m = 2 ^ n → (dep = true ↔ ∃ a, a < i ∧ c a ≠ c (a ^^^ 2 ^ v)) → wY_widthOf_157 post J16 J25 x2 x3 (nI cnt) ((1 : Int32) <<< (nI v &&& 31)) x6 (nI p) (lN (mk_N c (2 ^ n))) (nI n) (nI la) (nI li) (nI (2 ^ n)) (en_F n B) (en_I hh) (en_I us) (en_O va) ot sn sw ls lt (m + 1) (nI dep.toNat) (nI i)
  | 0, i, dep, hi, hd => by
    have p64 := p2_le n6
    have e : i = 2 ^ n := by omega
    subst e
    refine pk_le (2 ^ n) (2 ^ n) (fun _ => nm_r (e' := lN (mk_N (fun a => !c a) (2 ^ n))) ?_ (hw dep hd)) (fun z => by omega)
    show lN (mk_N (B 1) (2 ^ n)) ^^^ lN (mk_N c (2 ^ n)) = _
    rw [lN_xor, mk_xor]
    exact congrArg lN (mk_ext (fun a ha => by rw [h1 a ha]; simp))
  | m + 1, i, dep, hi, hd => by
    have p64 := p2_le n6
    have e1 : ((1 : Int32) <<< (nI v &&& 31)) = nI (2 ^ v) := by
      rcases (by omega : v = 0 ∨ v = 1 ∨ v = 2 ∨ v = 3 ∨ v = 4 ∨ v = 5) with e | e | e | e | e | e <;> subst e <;> decide
    have hx : i ^^^ 2 ^ v < 2 ^ n := Nat.xor_lt_two_pow (by omega) (Nat.pow_lt_pow_right (by omega) hv)
    refine pk_le (2 ^ n) i (fun z => by omega) (fun _ => nm_r (e' := nI (i ^^^ 2 ^ v)) (by rw [e1, nx_xor]) ?_)
    rw [mk_val n6 (by omega), mk_val n6 hx]
    refine ek_if (d := c i = c (i ^^^ 2 ^ v)) ?_ (fun q => nm_r (nI_1 _) ?_) (fun q => nm_r (nI_1 _) ?_)
    · cases c i <;> cases c (i ^^^ 2 ^ v) <;> decide
    · refine yw_157 n6 hv h1 hw m (i + 1) dep (by omega) ?_
      rw [hd]
      constructor
      · intro ⟨a, a1, a2⟩; exact ⟨a, by omega, a2⟩
      · intro ⟨a, a1, a2⟩
        by_cases e : a = i
        · subst e; exact absurd q a2
        · exact ⟨a, by omega, a2⟩
    · exact yw_157 n6 hv h1 hw m (i + 1) true (by omega) ⟨fun _ => ⟨i, by omega, q⟩, fun _ => rfl⟩
theorem yw_104 {post : Int32 → SY → Prop} {J16 J25 : Int32 → Int32 → (Nat → Int64) → (Nat → Int32) → (Nat → Int32) → (Nat → Int32) → (Nat → Int32) → (Nat → Int64) → (Nat → Int32) → (Nat → Int32) → (Nat → Int32) → Prop} {x2 x3 x4 x5 x8 x9 : Int32} {lv : Nat → Nat} {l p h : Nat} (n6 : n ≤ 6) (hh10 : h < 10)
    (hx8 : ∀ i, i < 32 → bt x8 i = (decide (i < n) && decide (lv i < l))) (hx9 : ∀ i, i < 32 → bt x9 i = (decide (i < n) && decide (lv i < l) && p.testBit (lv i)))
    (hw : ∃ N, wY_widthOf_157 post J16 J25 x2 x3 x4 x5 (nI h) (nI p) (lN (mk_N (fun a => B h (bn_ n lv l p a)) (2 ^ n))) (nI n) (nI la) (nI li) (nI (2 ^ n)) (en_F n B) (en_I hh) (en_I us) (en_O va) ot sn sw ls lt N 0 0) : ∃ N, wY_widthOf_104 post J16 J25 x2 x3 x4 x5 (nI h) (nI p) x8 x9 (nI n) (nI la) (nI li) (nI (2 ^ n)) (en_F n B) (en_I hh) (en_I us) (en_O va) ot sn sw ls lt N 0 0 := by
  have p64 := p2_le n6
  refine ⟨2 ^ n + 1, lp_mk (W := fun N x10 x12 => wY_widthOf_104 post J16 J25 x2 x3 x4 x5 (nI h) (nI p) x8 x9 (nI n) (nI la) (nI li) (nI (2 ^ n)) (en_F n B) (en_I hh) (en_I us) (en_O va) ot sn sw ls lt N x10 x12) (f := fun a => B h (bn_ n lv l p a)) (c := 2 ^ n) (fun N => ?_) (fun N i hi hk => ?_)⟩
  · exact pk_le (2 ^ n) (2 ^ n) (fun _ => hw) (fun z => by omega)
  · obtain ⟨s1, s2⟩ := bn_s n lv l p i
    have e : (nI i &&& (x8 ^^^ (-1))) ||| x9 = nI (bn_ n lv l p i) := by
      apply b_ext
      intro w hw'
      rw [b_or, b_and, b_xor, b_m1 w hw', bt_nI hw', hx8 w hw', hx9 w hw', bt_nI hw']
      by_cases c : w < n
      · rw [s2 w c, decide_eq_true c]
        by_cases d : lv w < l
        · rw [if_pos d, decide_eq_true d]; simp
        · rw [if_neg d, decide_eq_false d]; simp
      · rw [tb_big s1 (by omega), decide_eq_false c, tb_big hi (by omega)]; simp
    refine pk_le (2 ^ n) i (fun z => by omega) (fun _ => nm_r e ⟨vp_in_nI hh10 (by omega), ?_⟩)
    rw [nI_clamp (n := h) (by omega)]
    refine nm_r (e' := lN (mk_N (fun a => B h (bn_ n lv l p a)) (i + 1))) ?_ (nm_r (nI_1 _) hk)
    rw [← mk_or (f := fun a => B h (bn_ n lv l p a)) (by omega)]
    rw [show ((((en_F n B h).toUInt64 >>> ((nI (bn_ n lv l p i)).toInt64.toUInt64 &&& Int64.toUInt64 63)).toInt64) &&& 1) = lN (B h (bn_ n lv l p i)).toNat from mk_val n6 s1]
theorem bt_sh1 {v i : Nat} (hv : v < 6) (hi : i < 32) (b : Bool) : bt (nI b.toNat <<< (nI v &&& 31)) i = (decide (i = v) && b) := by
  rw [b_shl v (by omega) _ hi]
  by_cases c : v ≤ i
  · rw [bt_nI (by omega), decide_eq_true c]
    cases b
    · simp
    · have := bt_1 (i := i - v) (by omega)
      rw [show (1 : Int32) = nI 1 from rfl, bt_nI (by omega)] at this
      show (true && (1 : Nat).testBit (i - v)) = _
      rw [this]
      by_cases d : i = v
      · rw [decide_eq_true d, decide_eq_true (by omega)] <;> rfl
      · rw [decide_eq_false d, decide_eq_false (by omega)]; rfl
  · rw [decide_eq_false c, decide_eq_false (by omega)]; rfl
theorem yw_52 {post : Int32 → SY → Prop} {J16 J25 : Int32 → Int32 → (Nat → Int64) → (Nat → Int32) → (Nat → Int32) → (Nat → Int32) → (Nat → Int32) → (Nat → Int64) → (Nat → Int32) → (Nat → Int32) → (Nat → Int32) → Prop} {x2 x4 x5 : Int32} {lv : Nat → Nat} {l p h : Nat} (P : Pm_ n va lv) (hh10 : h < 10) (hl : l < n) (hp : p < 64)
    (hw : ∃ N, wY_widthOf_157 post J16 J25 x2 (nI l) x4 x5 (nI h) (nI p) (lN (mk_N (fun a => B h (bn_ n lv l p a)) (2 ^ n))) (nI n) (nI la) (nI li) (nI (2 ^ n)) (en_F n B) (en_I hh) (en_I us) (en_O va) ot sn sw ls lt N 0 0) : ∀ (m j : Nat) (x8 x9 : Int32), j + m = l → (∀ i, i < 32 → bt x8 i = (decide (i < n) && decide (lv i < j))) → (∀ i, i < 32 → bt x9 i = (decide (i < n) && decide (lv i < j) && p.testBit (lv i))) → wY_widthOf_52 post J16 J25 x2 (nI l) x4 x5 (nI h) (nI p) (nI n) (nI la) (nI li) (nI (2 ^ n)) (en_F n B) (en_I hh) (en_I us) (en_O va) ot sn sw ls lt (m + 1) x8 x9 (nI j)
  | 0, j, x8, x9, hj, h8, h9 => by
    have n6 := P.1.2.1
    have e : j = l := by omega
    subst e
    exact pk_le j j (fun _ => yw_104 n6 hh10 h8 h9 hw) (fun z => by omega)
  | m + 1, j, x8, x9, hj, h8, h9 => by
    have n6 := P.1.2.1
    have vj : vp_in (nI j) 6 := vp_in_nI (by omega) (by omega)
    obtain ⟨v1, v2⟩ := P.2.1 j (by omega)
    have lvj : ∀ i, i < n → (lv i < j + 1 ↔ lv i < j ∨ i = va j) := fun i hi => by
      constructor
      · intro z
        by_cases c : lv i = j
        · exact Or.inr (P.inj hi v1 (by rw [c, v2]))
        · exact Or.inl (by omega)
      · intro z
        rcases z with z | z
        · omega
        · rw [z, v2]; omega
    refine pk_le l j (fun z => by omega) (fun _ => ⟨vj, ?_⟩)
    rw [nI_clamp (n := j) (by omega)]
    refine nm_e ⟨vj, nm_e (nm_r (nI_1 _) ?_)⟩
    refine yw_52 P hh10 hl hp hw m (j + 1) _ _ (by omega) (fun i hi => ?_) (fun i hi => ?_)
    · rw [b_or, h8 i hi]
      have s := bt_sh1 (v := va j) (by omega) hi true
      rw [show nI (true : Bool).toNat = 1 from rfl] at s
      rw [show en_O va j = nI (va j) from en_Ok (by omega), s]
      by_cases c : i < n
      · rw [decide_eq_true c]
        by_cases d : lv i < j
        · rw [decide_eq_true d, decide_eq_true ((lvj i c).mpr (Or.inl d))]; simp
        · rw [decide_eq_false d]
          by_cases q : i = va j
          · rw [decide_eq_true q, decide_eq_true ((lvj i c).mpr (Or.inr q))]; simp
          · rw [decide_eq_false q, decide_eq_false (fun z => ((lvj i c).mp z).elim d q)]; simp
      · rw [decide_eq_false c, decide_eq_false (fun z => by omega : ¬ i = va j)]; simp
    · rw [b_or, h9 i hi]
      have t := ts_w ⟨p, hp⟩ ⟨j, by omega⟩
      rw [show ((nI p >>> (nI j &&& 31)) &&& 1) = nI (p.testBit j).toNat from t, show en_O va j = nI (va j) from en_Ok (by omega), bt_sh1 (v := va j) (by omega) hi]
      by_cases c : i < n
      · rw [decide_eq_true c]
        by_cases d : lv i < j
        · have : i ≠ va j := fun q => by rw [q, v2] at d; omega
          rw [decide_eq_true d, decide_eq_true ((lvj i c).mpr (Or.inl d)), decide_eq_false this]; simp
        · rw [decide_eq_false d]
          by_cases q : i = va j
          · rw [decide_eq_true q, decide_eq_true ((lvj i c).mpr (Or.inr q)), q, v2]; simp
          · rw [decide_eq_false q, decide_eq_false (fun z => ((lvj i c).mp z).elim d q)]; simp
      · rw [decide_eq_false c, decide_eq_false (fun z => by omega : ¬ i = va j)]; simp
end
end
section
/-! widths: the reference's classes are the nodes of the level -/
section
variable {n la li : Nat} {E hh va lv : Nat → Nat} {T : TN_} {φ : Nat → BF_} {B : Nat → Nat → Bool} {us : Nat → Nat} {ot : Nat → Int32} {sn : Nat → Int64} {sw ls lt : Nat → Int32}
/-- xs: the nodes whose classes stand in sn -/
def Ws_ (n : Nat) (V : Nat → Nat) (φ : Nat → BF_) (v : Nat) (xs : List Nat) (sn : Nat → Int64) : Prop :=
  xs.Nodup ∧ (∀ x, x ∈ xs → al_ V x ∧ V x = v) ∧ ∀ i (h : i < xs.length), ∃ b : Bool, sn i = lN (mk_N (fun a => φ (xs[i]) (as_ a) ^^ b) (2 ^ n))
theorem as_fl {n a v w : Nat} (ha : a < 2 ^ n) (hv : v < n) : as_ (a ^^^ 2 ^ v) w = fu_u (as_ a) v (!(as_ a v)) w := by
  unfold as_ fu_u
  rw [Nat.testBit_xor, Nat.testBit_two_pow]
  by_cases c : w = v
  · subst c; simp
  · rw [if_neg c, decide_eq_false (fun z => c z.symm)]; simp
/-- one pair (h, p) -/
theorem yw_pair {post : Int32 → SY → Prop} {J16 J25 : Int32 → Int32 → (Nat → Int64) → (Nat → Int32) → (Nat → Int32) → (Nat → Int32) → (Nat → Int32) → (Nat → Int64) → (Nat → Int32) → (Nat → Int32) → (Nat → Int32) → Prop} {x2 : Int32} {l p h : Nat} {xs : List Nat} (P : Pm_ n va lv) (I : Ti_ n E 0 T φ) (O : Od_ 0 lv (tb_V T) (tb_L T) (tb_H T)) (hh10 : h < 10) (hE : E h < 2048) (oE : ok_ (tb_V T) (E h / 2)) (hB : ∀ a, a < 2 ^ n → B h a = ef_ φ (E h) (as_ a)) (h1 : ∀ a, a < 2 ^ n → B 1 a = true) (hl : l < n) (hp : p < 2 ^ l) (hx : Ws_ n (tb_V T) φ (va l) xs sn) (hc : xs.length < 256)
    (hJ : ∀ xs' sn', Ws_ n (tb_V T) φ (va l) xs' sn' → xs'.length ≤ xs.length + 1 → (∀ x, x ∈ xs' ↔ x ∈ xs ∨ (al_ (tb_V T) x ∧ tb_V T x = va l ∧ ∃ b : Bool, ∀ t, φ x t = (cp_ lv (ef_ φ (E h)) l p t ^^ b))) → J25 (nI xs'.length) (nI (p + 1)) (en_F n B) (en_I hh) (en_I us) (en_O va) ot sn' sw ls lt) :
    ∃ N, wY_widthOf_52 post J16 J25 x2 (nI l) (nI xs.length) ((1 : Int32) <<< (nI (va l) &&& 31)) (nI h) (nI p) (nI n) (nI la) (nI li) (nI (2 ^ n)) (en_F n B) (en_I hh) (en_I us) (en_O va) ot sn sw ls lt N 0 0 0 := by
  have n6 := P.1.2.1
  have S0 := I.1
  obtain ⟨v1, v2⟩ := P.2.1 l hl
  have dn : Dn_ n (ef_ φ (E h)) := ef_dn S0 P O oE
  have pl : p < 64 := by
    have : 2 ^ l ≤ 2 ^ 6 := Nat.pow_le_pow_right (by omega) (by omega)
    have e6 : (2 : Nat) ^ 6 = 64 := rfl
    omega
  -- the edge at the end of the path
  obtain ⟨e, oe, re, le, se⟩ := cf_path S0 P O (K := l) (by omega) (fun w => p.testBit (lv w)) 7 (E h) oE (by omega)
  have se' : ∀ t, ef_ φ e t = cp_ lv (ef_ φ (E h)) l p t := se
  have cb : ∀ a, a < 2 ^ n → B h (bn_ n lv l p a) = ef_ φ e (as_ a) := fun a ha => by
    rw [hB _ (bn_s n lv l p a).1, bn_cp dn, se']
  have hm : e % 2 < 2 := Nat.mod_lt _ (by omega)
  have ne : ∀ t, φ (e / 2) t = (ef_ φ e t ^^ decide (e % 2 = 1)) := fun t => by unfold ef_; rw [Bool.xor_assoc, Bool.xor_self, Bool.xor_false]
  have dne : Dn_ n (ef_ φ e) := ef_dn S0 P O oe
  -- depends: the node's variable is the level's
  have dep : (∃ a, a < 2 ^ n ∧ B h (bn_ n lv l p a) ≠ B h (bn_ n lv l p (a ^^^ 2 ^ va l))) ↔ tb_V T (e / 2) = va l := by
    have hx2 : ∀ a, a < 2 ^ n → a ^^^ 2 ^ va l < 2 ^ n := fun a ha => Nat.xor_lt_two_pow ha (Nat.pow_lt_pow_right (by omega) v1)
    constructor
    · intro ⟨a, a1, a2⟩
      apply Classical.byContradiction
      intro c
      apply a2
      rw [cb a a1, cb _ (hx2 a a1)]
      have hlt := cd_lev S0 P oe v1 c (by rw [v2]; exact le)
      refine S0.edep P.1.2.2.2 O oe (Nat.zero_le _) (fun w hw hlw => ?_)
      rw [as_fl a1 v1, fu_n (fun q => by subst q; omega)]
    · intro hv
      have ea : al_ (tb_V T) (e / 2) := oe.elim (fun z => by rw [z, S0.1.2.1] at hv; omega) id
      apply Classical.byContradiction
      intro c
      apply S0.top ea
      intro s
      obtain ⟨a, a1, a2⟩ := as_ex n s
      have key : B h (bn_ n lv l p a) = B h (bn_ n lv l p (a ^^^ 2 ^ va l)) := Classical.byContradiction (fun q => c ⟨a, a1, q⟩)
      rw [cb a a1, cb _ (hx2 a a1)] at key
      rw [hv, ne, ne]
      have f1 : ∀ x : Bool, ef_ φ e (fu_u s (va l) x) = ef_ φ e (fu_u (as_ a) (va l) x) := fun x => dne _ _ (fun w hw => by
        by_cases q : w = va l
        · rw [q, fu_s, fu_s]
        · rw [fu_n q, fu_n q, a2 w hw])
      have f2 : ef_ φ e (as_ (a ^^^ 2 ^ va l)) = ef_ φ e (fu_u (as_ a) (va l) (!(as_ a (va l)))) := dne _ _ (fun w hw => as_fl a1 v1)
      have f3 : ef_ φ e (as_ a) = ef_ φ e (fu_u (as_ a) (va l) (as_ a (va l))) := by rw [fu_e rfl]
      rw [f1, f1]
      rw [f2, f3] at key
      congr 1
      cases q : as_ a (va l)
      · rw [q] at key; exact key.symm
      · rw [q] at key; exact key
  -- known: the node is in the list
  have known : (∃ i, i < xs.length ∧ (sn i = lN (mk_N (fun a => B h (bn_ n lv l p a)) (2 ^ n)) ∨ sn i = lN (mk_N (fun a => !B h (bn_ n lv l p a)) (2 ^ n)))) ↔ e / 2 ∈ xs := by
    constructor
    · intro ⟨i, i1, i2⟩
      obtain ⟨b, hb⟩ := hx.2.2 i i1
      have xi := hx.2.1 _ (List.getElem_mem i1)
      have ex : ∃ c : Bool, ∀ a, a < 2 ^ n → φ (xs[i]) (as_ a) = (ef_ φ e (as_ a) ^^ c) := by
        rcases i2 with z | z
        · rw [hb] at z
          have q := (mk_leq n6).mp z
          refine ⟨b, fun a ha => ?_⟩
          have := q a ha
          rw [cb a ha] at this
          rw [← this, Bool.xor_assoc, Bool.xor_self, Bool.xor_false]
        · rw [hb] at z
          have q := (mk_leq n6).mp z
          refine ⟨!b, fun a ha => ?_⟩
          have := q a ha
          rw [cb a ha] at this
          revert this
          cases φ (xs[i]) (as_ a) <;> cases ef_ φ e (as_ a) <;> cases b <;> simp
      obtain ⟨c, hc'⟩ := ex
      have : xs[i] = e / 2 := by
        refine S0.one (f := ef_ φ e) (b := c) (c := decide (e % 2 = 1)) (Or.inr xi.1) oe (fun t => ?_) ne
        obtain ⟨a, a1, a2⟩ := as_ex n t
        have q := hc' a a1
        rw [dne (as_ a) t a2] at q
        rw [← q]
        exact S0.dep P.1.2.2.2 O 7 _ (Or.inr xi.1) (Nat.zero_le _) (by omega) _ _ (fun w hw _ => (a2 w hw).symm)
      rw [← this]
      exact List.getElem_mem i1
    · intro hm'
      obtain ⟨i, i1, i2⟩ := List.getElem_of_mem hm'
      obtain ⟨b, hb⟩ := hx.2.2 i i1
      refine ⟨i, i1, ?_⟩
      rw [i2] at hb
      rw [hb]
      cases q : (b ^^ decide (e % 2 = 1))
      · left
        refine (mk_leq n6).mpr (fun a ha => ?_)
        rw [cb a ha, ne]
        rw [Bool.xor_assoc]
        rw [show (decide (e % 2 = 1) ^^ b) = false from by rw [Bool.xor_comm]; exact q]
        simp
      · right
        refine (mk_leq n6).mpr (fun a ha => ?_)
        rw [cb a ha, ne]
        rw [Bool.xor_assoc]
        rw [show (decide (e % 2 = 1) ^^ b) = true from by rw [Bool.xor_comm]; exact q]
        simp
  -- the node is the one that the pair gives
  have isn : ∀ x, (al_ (tb_V T) x ∧ tb_V T x = va l ∧ ∃ b : Bool, ∀ t, φ x t = (cp_ lv (ef_ φ (E h)) l p t ^^ b)) ↔ (x = e / 2 ∧ tb_V T (e / 2) = va l) := by
    intro x
    constructor
    · intro ⟨a1, a2, b, a3⟩
      have : x = e / 2 := S0.one (f := ef_ φ e) (b := b) (c := decide (e % 2 = 1)) (Or.inr a1) oe (fun t => by rw [a3 t, se']) ne
      subst this
      exact ⟨rfl, a2⟩
    · intro ⟨a1, a2⟩
      subst a1
      have ea : al_ (tb_V T) (e / 2) := oe.elim (fun z => by rw [z, S0.1.2.1] at a2; omega) id
      exact ⟨ea, a2, decide (e % 2 = 1), fun t => by rw [ne, se']⟩
  refine ⟨l + 1, yw_52 P hh10 hl pl ⟨2 ^ n + 1, ?_⟩ l 0 0 0 (by omega) (fun i _ => ?_) (fun i _ => ?_)⟩
  · refine yw_157 n6 v1 h1 (fun d hd => ⟨xs.length + 1, ?_⟩) (2 ^ n) 0 false (by omega) ⟨fun z => absurd z (by decide), fun ⟨a, z, _⟩ => by omega⟩
    refine yw_217 (dep := d) hc (fun z1 z2 => ?_) (fun z => ?_) xs.length 0 false (by omega) ⟨fun z => absurd z (by decide), fun ⟨j, z, _⟩ => by omega⟩
    · have hv := dep.mp (hd.mp z1)
      have ea : al_ (tb_V T) (e / 2) := oe.elim (fun z => by rw [z, S0.1.2.1] at hv; omega) id
      have nin : e / 2 ∉ xs := fun q => by
        obtain ⟨i, i1, i2⟩ := known.mpr q
        exact z2 i i1 i2
      have el : (xs ++ [e / 2]).length = xs.length + 1 := by simp
      have := hJ (xs ++ [e / 2]) (vp_updL sn xs.length (lN (mk_N (fun a => B h (bn_ n lv l p a)) (2 ^ n)))) ⟨?_, fun x q => ?_, fun i q => ?_⟩ (by rw [el]; exact Nat.le_refl _) (fun x => ?_)
      · rw [el] at this; exact this
      · rw [List.nodup_append]
        exact ⟨hx.1, by simp, fun a ha b hb' q => by
          rw [List.mem_singleton] at hb'
          subst hb'
          subst q
          exact nin ha⟩
      · rcases List.mem_append.mp q with y | y
        · exact hx.2.1 x y
        · rw [List.mem_singleton] at y
          subst y
          exact ⟨ea, hv⟩
      · rw [el] at q
        by_cases y : i < xs.length
        · obtain ⟨b, hb⟩ := hx.2.2 i y
          refine ⟨b, ?_⟩
          rw [pk_uLn (by omega), List.getElem_append_left y]
          exact hb
        · have : i = xs.length := by omega
          subst this
          refine ⟨decide (e % 2 = 1), ?_⟩
          rw [pk_uLs, List.getElem_append_right (Nat.le_refl _)]
          refine (mk_leq n6).mpr (fun a ha => ?_)
          simp only [Nat.sub_self, List.getElem_cons_zero]
          rw [cb a ha, ne, Bool.xor_assoc, Bool.xor_self, Bool.xor_false]
      · rw [List.mem_append, List.mem_singleton, isn x]
        exact ⟨fun q => q.imp id (fun w => ⟨w, hv⟩), fun q => q.imp id (fun w => w.1)⟩
    · refine hJ xs sn hx (by omega) (fun x => ⟨Or.inl, fun q => q.elim id (fun w => ?_)⟩)
      obtain ⟨w1, w2⟩ := (isn x).mp w
      rcases z with y | y
      · rw [hd.mpr (dep.mpr w2)] at y
        exact absurd y (by decide)
      · rw [w1]; exact known.mp y
  · rw [b_0, decide_eq_false (Nat.not_lt_zero _)]; simp
  · rw [b_0, decide_eq_false (Nat.not_lt_zero _)]; simp
/-- the choices of one handle -/
theorem yw_25 {post : Int32 → SY → Prop} {J16 : Int32 → Int32 → (Nat → Int64) → (Nat → Int32) → (Nat → Int32) → (Nat → Int32) → (Nat → Int32) → (Nat → Int64) → (Nat → Int32) → (Nat → Int32) → (Nat → Int32) → Prop} {x2 : Int32} {l h : Nat} {base : Nat} (P : Pm_ n va lv) (I : Ti_ n E 0 T φ) (O : Od_ 0 lv (tb_V T) (tb_L T) (tb_H T)) (hh10 : h < 10) (hu : us h = if E h < 2048 then 1 else 0) (oE : E h < 2048 → ok_ (tb_V T) (E h / 2)) (hB : E h < 2048 → ∀ a, a < 2 ^ n → B h a = ef_ φ (E h) (as_ a)) (h1 : ∀ a, a < 2 ^ n → B 1 a = true) (hl : l < n) (hbase : base + 2 ^ l ≤ 256) (xs0 : List Nat)
    (hJ : ∀ xs' sn', Ws_ n (tb_V T) φ (va l) xs' sn' → xs'.length ≤ base + 2 ^ l → (∀ x, x ∈ xs' ↔ x ∈ xs0 ∨ (E h < 2048 ∧ al_ (tb_V T) x ∧ tb_V T x = va l ∧ ∃ p, p < 2 ^ l ∧ ∃ b : Bool, ∀ t, φ x t = (cp_ lv (ef_ φ (E h)) l p t ^^ b))) → J16 (nI xs'.length) (nI (h + 1)) (en_F n B) (en_I hh) (en_I us) (en_O va) ot sn' sw ls lt) :
    ∀ (m p : Nat) (xs : List Nat) (sn : Nat → Int64), p + m = 2 ^ l → Ws_ n (tb_V T) φ (va l) xs sn → xs.length ≤ base + p → (∀ x, x ∈ xs ↔ x ∈ xs0 ∨ (E h < 2048 ∧ al_ (tb_V T) x ∧ tb_V T x = va l ∧ ∃ q, q < p ∧ ∃ b : Bool, ∀ t, φ x t = (cp_ lv (ef_ φ (E h)) l q t ^^ b))) → wY_widthOf_25 post J16 x2 (nI l) ((1 : Int32) <<< (nI (va l) &&& 31)) (nI h) (nI n) (nI la) (nI li) (nI (2 ^ n)) (m + 1) (nI xs.length) (nI p) (en_F n B) (en_I hh) (en_I us) (en_O va) ot sn sw ls lt
  | 0, p, xs, sn, hm, hx, hlen, hs => by
    have n6 := P.1.2.1
    have vh : vp_in (nI h) 10 := vp_in_nI hh10 (by omega)
    have e : p = 2 ^ l := by omega
    subst e
    have p32 : 2 ^ l ≤ 2 ^ 5 := Nat.pow_le_pow_right (by omega) (by omega)
    have e5 : (2 : Nat) ^ 5 = 32 := rfl
    have e2l : (1 : Int32) <<< (nI l &&& 31) = nI (2 ^ l) := by
      rcases (by omega : l = 0 ∨ l = 1 ∨ l = 2 ∨ l = 3 ∨ l = 4 ∨ l = 5) with e | e | e | e | e | e <;> subst e <;> decide
    have go := hJ xs sn hx hlen hs
    refine ⟨vh, ?_⟩
    rw [nI_clamp (n := h) (by omega), e2l]
    exact br_c (fun _ => nm_r (nI_1 _) go) (fun _ => pk_le (2 ^ l) (2 ^ l) (fun _ => nm_r (nI_1 _) go) (fun z => by omega))
  | m + 1, p, xs, sn, hm, hx, hlen, hs => by
    have n6 := P.1.2.1
    have vh : vp_in (nI h) 10 := vp_in_nI hh10 (by omega)
    have p32 : 2 ^ l ≤ 2 ^ 5 := Nat.pow_le_pow_right (by omega) (by omega)
    have e5 : (2 : Nat) ^ 5 = 32 := rfl
    have e2l : (1 : Int32) <<< (nI l &&& 31) = nI (2 ^ l) := by
      rcases (by omega : l = 0 ∨ l = 1 ∨ l = 2 ∨ l = 3 ∨ l = 4 ∨ l = 5) with e | e | e | e | e | e <;> subst e <;> decide
    refine ⟨vh, ?_⟩
    rw [nI_clamp (n := h) (by omega), e2l]
    by_cases c : E h < 2048
    · refine br_f (by show ¬ nI (us h) = 0; rw [hu, if_pos c]; decide) (pk_le (2 ^ l) p (fun z => by omega) (fun _ => ?_))
      refine yw_pair P I O hh10 c (oE c) (hB c) h1 hl (by omega) hx (by omega) (fun xs' sn' w1 w2 w3 => ?_)
      refine yw_25 P I O hh10 hu oE hB h1 hl hbase xs0 hJ m (p + 1) xs' sn' (by omega) w1 (by omega) (fun x => ?_)
      rw [w3 x, hs x]
      constructor
      · intro q
        rcases q with (q | ⟨q1, q2, q3, r, q4, q5⟩) | ⟨q1, q2, q3⟩
        · exact Or.inl q
        · exact Or.inr ⟨q1, q2, q3, r, by omega, q5⟩
        · exact Or.inr ⟨c, q1, q2, p, by omega, q3⟩
      · intro q
        rcases q with q | ⟨q1, q2, q3, r, q4, q5⟩
        · exact Or.inl (Or.inl q)
        · by_cases d : r = p
          · subst d; exact Or.inr ⟨q2, q3, q5⟩
          · exact Or.inl (Or.inr ⟨q1, q2, q3, r, by omega, q5⟩)
    · refine br_t (by show nI (us h) = 0; rw [hu, if_neg c]; rfl) (nm_r (nI_1 _) (hJ xs sn hx (by omega) (fun x => ?_)))
      rw [hs x]
      exact ⟨fun q => q.imp id (fun w => absurd w.1 c), fun q => q.imp id (fun w => absurd w.1 c)⟩
theorem yw_16 {post : Int32 → SY → Prop} {l fr to : Nat} (P : Pm_ n va lv) (I : Ti_ n E 0 T φ) (O : Od_ 0 lv (tb_V T) (tb_L T) (tb_H T)) (b : Bu_ n E φ B us) (oE : ∀ h, h < 10 → E h < 2048 → ok_ (tb_V T) (E h / 2)) (h1 : ∀ a, a < 2 ^ n → B 1 a = true) (hl : l < n) (hto : to < 10) (hft : to + 1 - fr ≤ 8)
    (hJ : ∀ (xs : List Nat) (sn' : Nat → Int64), xs.Nodup → (∀ x, x ∈ xs ↔ ∃ h, fr ≤ h ∧ h ≤ to ∧ E h < 2048 ∧ al_ (tb_V T) x ∧ tb_V T x = va l ∧ ∃ p, p < 2 ^ l ∧ ∃ b : Bool, ∀ t, φ x t = (cp_ lv (ef_ φ (E h)) l p t ^^ b)) → post (nI xs.length) (sy_ n la li B hh us va ot sn' sw ls lt)) :
    ∀ (m h : Nat) (xs : List Nat) (sn : Nat → Int64), h + m = to + 1 → fr ≤ h → Ws_ n (tb_V T) φ (va l) xs sn → xs.length ≤ (h - fr) * 2 ^ l → (∀ x, x ∈ xs ↔ ∃ k, fr ≤ k ∧ k < h ∧ E k < 2048 ∧ al_ (tb_V T) x ∧ tb_V T x = va l ∧ ∃ p, p < 2 ^ l ∧ ∃ b : Bool, ∀ t, φ x t = (cp_ lv (ef_ φ (E k)) l p t ^^ b)) → wY_widthOf_16 post (nI to) (nI l) ((1 : Int32) <<< (nI (va l) &&& 31)) (nI n) (nI la) (nI li) (nI (2 ^ n)) (m + 1) (nI xs.length) (nI h) (en_F n B) (en_I hh) (en_I us) (en_O va) ot sn sw ls lt
  | 0, h, xs, sn, hm, hfr, hx, hlen, hs => by
    refine pk_lt to h (fun _ => hJ xs sn hx.1 (fun x => ?_)) (fun z => by omega)
    rw [hs x]
    exact ⟨fun ⟨k, k1, k2, k3⟩ => ⟨k, k1, by omega, k3⟩, fun ⟨k, k1, k2, k3⟩ => ⟨k, k1, by omega, k3⟩⟩
  | m + 1, h, xs, sn, hm, hfr, hx, hlen, hs => by
    have n6 := P.1.2.1
    have p32 : 2 ^ l ≤ 2 ^ 5 := Nat.pow_le_pow_right (by omega) (by omega)
    have e5 : (2 : Nat) ^ 5 = 32 := rfl
    have hb7 : (h - fr) * 2 ^ l ≤ 7 * 2 ^ l := Nat.mul_le_mul_right _ (by omega)
    have hnx : (h + 1 - fr) * 2 ^ l = (h - fr) * 2 ^ l + 2 ^ l := by rw [show h + 1 - fr = (h - fr) + 1 from by omega, Nat.succ_mul]
    refine pk_lt to h (fun z => by omega) (fun _ => ⟨2 ^ l + 1, ?_⟩)
    refine yw_25 (base := (h - fr) * 2 ^ l) P I O (by omega) (b.1 h (by omega)) (oE h (by omega)) (fun c => b.2 h (by omega) c) h1 hl (by omega) xs (fun xs' sn' w1 w2 w3 => ?_) (2 ^ l) 0 xs sn (by omega) hx (by omega) (fun x => ⟨Or.inl, fun q => q.elim id (fun ⟨_, _, _, r, q4, _⟩ => by omega)⟩)
    refine yw_16 P I O b oE h1 hl hto hft hJ m (h + 1) xs' sn' (by omega) (by omega) w1 (by omega) (fun x => ?_)
    rw [w3 x, hs x]
    constructor
    · intro q
      rcases q with ⟨k, k1, k2, k3⟩ | q
      · exact ⟨k, k1, by omega, k3⟩
      · exact ⟨h, hfr, by omega, q⟩
    · intro ⟨k, k1, k2, k3⟩
      by_cases c : k = h
      · subst c; exact Or.inr k3
      · exact Or.inl ⟨k, k1, by omega, k3⟩
theorem yw_width {l fr to : Nat} (P : Pm_ n va lv) (I : Ti_ n E 0 T φ) (O : Od_ 0 lv (tb_V T) (tb_L T) (tb_H T)) (b : Bu_ n E φ B us) (oE : ∀ h, h < 10 → E h < 2048 → ok_ (tb_V T) (E h / 2)) (h1 : ∀ a, a < 2 ^ n → B 1 a = true) (hl : l < n) (hto : to < 10) (hft : fr ≤ to) (hft8 : to + 1 - fr ≤ 8) (ls0 : List Nat) (hnd : ls0.Nodup) (hls : ∀ x, x ∈ ls0 ↔ ∃ h, fr ≤ h ∧ h ≤ to ∧ E h < 2048 ∧ al_ (tb_V T) x ∧ tb_V T x = va l ∧ Cf_ lv (tb_V T) φ (ef_ φ (E h)) x) {post : Int32 → SY → Prop} (hp : ∀ sn', post (nI ls0.length) (sy_ n la li B hh us va ot sn' sw ls lt)) :
    wpY_widthOf post (sy_ n la li B hh us va ot sn sw ls lt) (nI fr) (nI to) (nI l) := by
  have n6 := P.1.2.1
  obtain ⟨v1, v2⟩ := P.2.1 l hl
  unfold wpY_widthOf sy_
  dsimp only
  refine ⟨vp_in_nI (by omega) (by omega), nm_r (e' := (1 : Int32) <<< (nI (va l) &&& 31)) (by rw [nI_clamp (n := l) (by omega), en_Ok (by omega)]) ⟨to + 1 - fr + 1, ?_⟩⟩
  have w := yw_16 (post := post) (la := la) (li := li) (hh := hh) (ot := ot) (sw := sw) (ls := ls) (lt := lt) P I O b oE h1 hl hto hft8 (fun xs sn' w1 w2 => ?_) (to + 1 - fr) fr [] sn (by omega) (Nat.le_refl _) ⟨List.nodup_nil, fun x q => by simp at q, fun i q => by simp at q⟩ (by simp) (fun x => ⟨fun q => by simp at q, fun ⟨k, k1, k2, _⟩ => by omega⟩)
  · exact w
  · have same : ∀ x, x ∈ xs ↔ x ∈ ls0 := by
      intro x
      rw [w2 x, hls x]
      constructor
      · intro ⟨h, a1, a2, a3, a4, a5, p, a6, bb, a7⟩
        refine ⟨h, a1, a2, a3, a4, a5, fun w => p.testBit (lv w), bb, fun t => ?_⟩
        rw [a7 t, a5, v2]
        rfl
      · intro ⟨h, a1, a2, a3, a4, a5, a6⟩
        have q := cf_cp (ef_dn I.1 P O (oE h (by omega) a3)) a6 P (by rw [a5, v2]; omega)
        rw [a5, v2] at q
        exact ⟨h, a1, a2, a3, a4, a5, q⟩
    have e1 := ls_inj (fun a b : Nat => a = b) xs ls0 w1 (fun a ha => ⟨a, (same a).mp ha, rfl⟩) (fun a a' c _ _ q q' => q.trans q'.symm)
    have e2 := ls_inj (fun a b : Nat => a = b) ls0 xs hnd (fun a ha => ⟨a, (same a).mpr ha, rfl⟩) (fun a a' c _ _ q q' => q.trans q'.symm)
    rw [show xs.length = ls0.length from by omega]
    exact hp sn'
end
end
section
/-! sizes: width, tableSize, size, swap -/
theorem sm_sw {f : Nat → Nat → Nat} {m : Nat} : ∀ {n : Nat}, sm_n (fun l => sm_n (f l) m) n = sm_n (fun x => sm_n (fun l => f l x) n) m
  | 0 => by
    symm
    apply sm_z0
    intro j _
    rfl
  | n + 1 => by
    have e := sm_sw (f := f) (m := m) (n := n)
    show sm_n (fun l => sm_n (f l) m) n + sm_n (f n) m = sm_n (fun x => sm_n (fun l => f l x) n + f n x) m
    rw [sm_plus, e]
theorem sm_at {k : Nat} : ∀ {n : Nat}, sm_n (fun l => if l = k then 1 else 0) n = if k < n then 1 else 0
  | 0 => by rw [if_neg (Nat.not_lt_zero _)]; rfl
  | n + 1 => by
    have e := sm_at (k := k) (n := n)
    show sm_n (fun l => if l = k then 1 else 0) n + (if n = k then 1 else 0) = _
    rw [e]
    by_cases c : k < n
    · rw [if_pos c, if_neg (by omega), if_pos (by omega)]
    · rw [if_neg c]
      by_cases d : n = k
      · rw [if_pos d, if_pos (by omega)]
      · rw [if_neg d, if_neg (by omega)]
/-- the levels' counts add up -/
theorem lv_sum {n m : Nat} {va lv : Nat → Nat} (P : Pm_ n va lv) (f : Nat → Nat) (h : ∀ x, x < m → f x < n) : sm_n (fun l => sm_n (fun x => if f x = va l then 1 else 0) m) n = m := by
  rw [sm_sw]
  have e : sm_n (fun x => sm_n (fun l => if f x = va l then 1 else 0) n) m = sm_n (fun _ => 1) m := by
    apply sm_ext
    intro x hx
    have hf := h x hx
    obtain ⟨q1, q2⟩ := P.2.2 _ hf
    rw [sm_ext (g := fun l => if l = lv (f x) then 1 else 0) (fun l hl => i1_c ⟨fun z => by rw [z]; exact (P.2.1 l hl).2.symm, fun z => by rw [z, q2]⟩), sm_at, if_pos q1]
  rw [e]
  clear e h
  induction m with
  | zero => rfl
  | succ m ih => show sm_n (fun _ => 1) m + 1 = _; rw [ih]
theorem tc_sum {n : Nat} {V L H va lv : Nat → Nat} {φ : Nat → BF_} (S : Sm_ n V L H φ) (P : Pm_ n va lv) : sm_n (fun l => vc_ 0 V (va l)) n = tc_ 0 V := by
  unfold vc_ tc_
  rw [sm_sw]
  apply sm_ext
  intro x hx
  by_cases c : V x < 6 ∧ x ≠ 0
  · rw [if_pos c]
    have hv := (S.2.1 x ⟨hx, c.1⟩).1
    obtain ⟨q1, q2⟩ := P.2.2 _ hv
    rw [sm_ext (g := fun l => if l = lv (V x) then 1 else 0) (fun l hl => i1_c ⟨fun z => by rw [z.1]; exact (P.2.1 l hl).2.symm, fun z => by rw [z, q2]; exact ⟨rfl, c.2⟩⟩), sm_at, if_pos q1]
  · rw [if_neg c]
    apply sm_z0
    intro l hl
    have := (P.2.1 l hl).1
    have := P.1.2.1
    exact if_neg (fun z => c ⟨by omega, z.2⟩)
section
variable {n la li : Nat} {E hh va lv : Nat → Nat} {T : TN_} {φ : Nat → BF_} {B : Nat → Nat → Bool} {us : Nat → Nat} {ot : Nat → Int32} {sn : Nat → Int64} {sw ls lt : Nat → Int32}
theorem b_one (I : Ti_ n E 0 T φ) (N : Hn_ la li E hh) (b : Bu_ n E φ B us) : ∀ a, a < 2 ^ n → B 1 a = true := fun a ha => by
  have n6 := N.2.1.2.1
  rw [b.2 1 (by omega) (by omega) a ha, n6]
  exact (ef_0 I.1 _).2
theorem okh' (I : Ti_ n E 0 T φ) (N : Hn_ la li E hh) : ∀ h, h < 10 → E h < 2048 → ok_ (tb_V T) (E h / 2) := fun h hh10 hE =>
  okh_ I N (Classical.byContradiction (fun c => N.2.2.2.1 h (by omega) hh10 hE)) hE
/-- the width of a level is the number of its nodes -/
theorem yw_wAll {l : Nat} {post : Int32 → SY → Prop} (P : Pm_ n va lv) (I : Ti_ n E 0 T φ) (O : Od_ 0 lv (tb_V T) (tb_L T) (tb_H T)) (l0 : tb_lo T = 0) (N : Hn_ la li E hh) (b : Bu_ n E φ B us) (hl : l < n) (hp : ∀ sn', post (nI (vc_ 0 (tb_V T) (va l))) (sy_ n la li B hh us va ot sn' sw ls lt)) : wpY_widthOf post (sy_ n la li B hh us va ot sn sw ls lt) (nI 2) (nI la) (nI l) := by
  have n1 := N.1.1
  have n2 := N.1.2.1
  have n6 := P.1.2.1
  have hv := (P.2.1 l hl).1
  have e : vc_ 0 (tb_V T) (va l) = (ls_r (fun x => decide (tb_V T x = va l ∧ x ≠ 0)) 1024).length := by
    rw [ls_rl]
    apply sm_ext
    intro j _
    by_cases c : tb_V T j = va l ∧ j ≠ 0
    · rw [if_pos c, decide_eq_true c]; rfl
    · rw [if_neg c, decide_eq_false c]; rfl
  rw [e] at hp
  refine yw_width P I O b (okh' I N) (b_one I N b) hl (by omega) (by omega) (by omega) _ ls_rn (fun x => ?_) hp
  rw [ls_rm]
  constructor
  · intro ⟨x1, x2⟩
    have x3 := of_decide_eq_true x2
    have hal : al_ (tb_V T) x := ⟨x1, by omega⟩
    obtain ⟨h, h1, h2, h3, h4⟩ := cf_all P I O l0 _ x (Nat.lt_succ_self _) hal
    exact ⟨h, h1, Classical.byContradiction (fun c => N.2.2.2.1 h (by omega) h2 h3), h3, hal, x3.1, h4⟩
  · intro ⟨h, h1, h2, h3, h4, h5, h6⟩
    exact ⟨h4.1, decide_eq_true ⟨h5, I.1.ne0 h4⟩⟩
theorem yw_sizeL {fr to : Nat} {wl : Nat → Nat} {post : Int32 → SY → Prop} (hn : n ≤ 6) (hw : ∀ l, l < n → ∀ (sn : Nat → Int64) (post : Int32 → SY → Prop), (∀ sn', post (nI (wl l)) (sy_ n la li B hh us va ot sn' sw ls lt)) → wpY_widthOf post (sy_ n la li B hh us va ot sn sw ls lt) (nI fr) (nI to) (nI l)) (hp : ∀ sn', post (nI (sm_n wl n)) (sy_ n la li B hh us va ot sn' sw ls lt)) : ∀ (m l : Nat) (sn : Nat → Int64), l + m = n → wY_sizeOf_5 post (nI fr) (nI to) (m + 1) (nI (sm_n wl l)) (nI l) (nI n) (nI la) (nI li) (nI (2 ^ n)) (en_F n B) (en_I hh) (en_I us) (en_O va) ot sn sw ls lt
  | 0, l, sn, hm => by
    have e : l = n := by omega
    subst e
    exact pk_le l l (fun _ => hp sn) (fun z => by omega)
  | m + 1, l, sn, hm => by
    refine pk_le n l (fun z => by omega) (fun _ => ?_)
    refine hw l (by omega) sn _ (fun sn' => ?_)
    dsimp only [sy_]
    exact nm_r (e' := nI (sm_n wl (l + 1))) (nI_add _ _) (nm_r (nI_1 _) (yw_sizeL hn hw hp m (l + 1) sn' (by omega)))
theorem yw_size {fr to : Nat} {wl : Nat → Nat} {post : Int32 → SY → Prop} (hn : n ≤ 6) (hw : ∀ l, l < n → ∀ (sn : Nat → Int64) (post : Int32 → SY → Prop), (∀ sn', post (nI (wl l)) (sy_ n la li B hh us va ot sn' sw ls lt)) → wpY_widthOf post (sy_ n la li B hh us va ot sn sw ls lt) (nI fr) (nI to) (nI l)) (hp : ∀ sn', post (nI (sm_n wl n)) (sy_ n la li B hh us va ot sn' sw ls lt)) : wpY_sizeOf post (sy_ n la li B hh us va ot sn sw ls lt) (nI fr) (nI to) := by
  unfold wpY_sizeOf sy_
  dsimp only
  exact ⟨n + 1, yw_sizeL hn hw hp n 0 sn (by omega)⟩
theorem yw_tsize {post : Int32 → SY → Prop} (P : Pm_ n va lv) (I : Ti_ n E 0 T φ) (O : Od_ 0 lv (tb_V T) (tb_L T) (tb_H T)) (l0 : tb_lo T = 0) (N : Hn_ la li E hh) (b : Bu_ n E φ B us) (hp : ∀ sn', post (nI (tb_to T)) (sy_ n la li B hh us va ot sn' sw ls lt)) : wpY_tableSize post (sy_ n la li B hh us va ot sn sw ls lt) := by
  unfold wpY_tableSize
  show wpY_sizeOf _ (sy_ n la li B hh us va ot sn sw ls lt) 2 (nI la)
  refine yw_size (fr := 2) (to := la) (wl := fun l => vc_ 0 (tb_V T) (va l)) P.1.2.1 (fun l hl sn post hq => yw_wAll P I O l0 N b hl hq) (fun sn' => ?_)
  rw [tc_sum I.1 P, ← I.2.2.2.2.2.1.1]
  exact hp sn'
end
theorem i_vc_tableSize {k : Nat} {u : SX} {v : SY} (I : i_Rel k u v) (hk : k + 4 ≤ 2051) : wpX_tableSize (fun r => wpY_tableSize (fun r' v' => r' = r ∧ i_Rel (k + 4) u v') v) u := by
  refine ir_el (P := fun u v => wpX_tableSize (fun r => wpY_tableSize (fun r' v' => r' = r ∧ i_Rel (k + 4) u v') v) u) I ?_
  intro n la li E hh va lv T C M G W S φ B us ot sn sw ls lt r
  have rr := r
  obtain ⟨⟨P, I0, O, l0, K, g, N⟩, b⟩ := r
  have n6 := P.1.2.1
  have S0 := I0.1
  have la9 := N.1.2.1
  unfold wpX_tableSize
  exact yw_tsize P I0 O l0 N b (fun sn' => ⟨rfl, ir_mk rr⟩)
theorem i_vc_width {k : Nat} {u : SX} {v : SY} (I : i_Rel k u v) (hk : k + 4 ≤ 2051) (v1 : Int32) : wpX_width (fun r => wpY_width (fun r' v' => r' = r ∧ i_Rel (k + 4) u v') v v1) u v1 := by
  refine ir_el (P := fun u v => wpX_width (fun r => wpY_width (fun r' v' => r' = r ∧ i_Rel (k + 4) u v') v v1) u v1) I ?_
  intro n la li E hh va lv T C M G W S φ B us ot sn sw ls lt r
  have rr := r
  obtain ⟨⟨P, I0, O, l0, K, g, N⟩, b⟩ := r
  have n6 := P.1.2.1
  have S0 := I0.1
  have la9 := N.1.2.1
  unfold wpX_width wpY_width
  rcases pk_ix v1 (n := n) (by omega) with z | z | ⟨j, hj, e⟩
  · exact br_t z (br_t z ⟨rfl, ir_mk rr⟩)
  · have h1 : ¬ v1 < nI n := Int32.not_lt.mpr z
    have h0 : ¬ v1 < 0 := fun c => h1 (Int32.lt_of_lt_of_le c (nI_pos' (by omega)))
    exact br_f h0 (br_f h1 (br_f h0 (br_f h1 ⟨rfl, ir_mk rr⟩)))
  · subst e
    have h0 : ¬ nI j < 0 := nI_pos (by omega)
    have h1 : nI j < nI n := nI_lt hj (by omega)
    have hv := (P.2.1 j hj).1
    refine br_f h0 (br_t h1 ⟨vp_in_nI (by omega) (by omega), ?_⟩)
    rw [nI_clamp (n := j) (by omega), show en_I va j = nI (va j) from rfl, nI_clamp (n := va j) (by omega)]
    refine ⟨vp_in_nI (by omega) (by omega), br_f h0 (br_t h1 ?_)⟩
    refine yw_wAll P I0 O l0 N b hj (fun sn' => ⟨?_, ir_mk rr⟩)
    show _ = nI (tb_Q T (va j))
    rw [I0.2.2.2.2.2.1.2 (va j) (by omega)]
theorem i_vc_swap {k : Nat} {u : SX} {v : SY} (I : i_Rel k u v) (hk : k + 4 ≤ 2051) (v1 : Int32) : wpX_swap (fun r u' => wpY_swap (fun r' v' => r' = r ∧ i_Rel (k + 4) u' v') v v1) u v1 := by
  refine ir_el (P := fun u v => wpX_swap (fun r u' => wpY_swap (fun r' v' => r' = r ∧ i_Rel (k + 4) u' v') v v1) u v1) I ?_
  intro n la li E hh va lv T C M G W S φ B us ot sn sw ls lt r
  have rr := r
  obtain ⟨⟨P, I0, O, l0, K, g, N⟩, b⟩ := r
  have n6 := P.1.2.1
  have S0 := I0.1
  have la9 := N.1.2.1
  have n2 := P.1.1
  have e2 : nI n - 2 = nI (n - 2) := pk_sub (b := 2) n2
  rcases pk_ix v1 (n := n - 1) (by omega) with z | z | ⟨j, hj, e⟩
  · unfold wpX_swap wpY_swap
    exact br_t z (br_t z ⟨rfl, ir_mk rr⟩)
  · have h1 : ¬ v1 ≤ nI (n - 2) := by
      rw [Int32.le_iff_toInt_le, nI_toInt (by omega)] at z
      rw [Int32.le_iff_toInt_le, nI_toInt (by omega)]
      omega
    have h0 : ¬ v1 < 0 := by
      rw [Int32.le_iff_toInt_le, nI_toInt (by omega)] at z
      rw [Int32.lt_iff_toInt_lt]
      have : (0 : Int32).toInt = 0 := by decide
      omega
    unfold wpX_swap wpY_swap st_ sy_
    dsimp only
    rw [e2]
    exact br_f h0 (br_f h1 (br_f h0 (br_f h1 ⟨rfl, ir_mk rr⟩)))
  · subst e
    have h0 : ¬ nI j < 0 := nI_pos (by omega)
    have h1 : nI j ≤ nI (n - 2) := nI_le (by omega) (by omega)
    obtain ⟨P', X⟩ := pm_swap P (l := j) (by omega)
    obtain ⟨T', C', W', φ', a1, a2, a3, a4, a5, a6⟩ := xm_swap (la := la) (li := li) (hh := hh) (M := M) (G := G) (W := W) (S := S) (l := j) P (by omega) I0 O l0 K
    have b' : Bu_ n E φ' B us := b.up (fun i hi hE => by
      unfold ef_; rw [a5 _ (okh' I0 N i hi hE)])
    have R' : Re_ n la li E hh (sv_ va j) (sl2_ va lv j) T' C' G φ' B us := ⟨⟨P', a1, a2, a3, a4, g, N⟩, b'⟩
    unfold wpX_swap st_
    dsimp only
    rw [e2]
    refine br_f h0 (br_t h1 ?_)
    refine a6 _ ?_
    unfold wpY_swap sy_
    dsimp only
    rw [e2]
    have vj : vp_in (nI j) 6 := vp_in_nI (by omega) (by omega)
    have vj1 : vp_in (nI (j + 1)) 6 := vp_in_nI (by omega) (by omega)
    refine br_f h0 (br_t h1 ⟨vj, ?_⟩)
    rw [nI_1, nI_clamp (n := j) (by omega), nI_clamp (n := j + 1) (by omega)]
    rw [en_Ok (f := va) (k := j + 1) (by omega)]
    refine nm_r (e' := nI (va j)) (en_Ok (by omega)) ⟨vj1, vj, nm_r (en_uO (by omega)) ⟨vj1, nm_r (en_uO (by omega)) ?_⟩⟩
    exact yw_tsize (va := sv_ va j) P' a1 a2 a3 N b' (fun sn' => ⟨rfl, ir_mk R'⟩)
theorem i_vc_size {k : Nat} {u : SX} {v : SY} (I : i_Rel k u v) (hk : k + 4 ≤ 2051) (v1 : Int32) : wpX_size (fun r u' => wpY_size (fun r' v' => r' = r ∧ i_Rel (k + 4) u' v') v v1) u v1 := by
  refine ir_el (P := fun u v => wpX_size (fun r u' => wpY_size (fun r' v' => r' = r ∧ i_Rel (k + 4) u' v') v v1) u v1) I ?_
  intro n la li E hh va lv T C M G W S φ B us ot sn sw ls lt r
  have rr := r
  obtain ⟨⟨P, I0, O, l0, K, g, N⟩, b⟩ := r
  have n6 := P.1.2.1
  have S0 := I0.1
  have la9 := N.1.2.1
  unfold wpX_size wpY_size
  rcases jn_occ (M := M) (W := W) (S := S) (ot := ot) (sn := sn) (sw := sw) (ls := ls) (lt := lt) rr v1 with h | ⟨j, j1, j2, j3, h⟩
  · refine (h _ (fun _ => True)).1 (br_t rfl ?_)
    exact (h (fun _ => True) _).2 (br_t rfl ⟨rfl, ir_mk rr⟩)
  · subst j2
    have vj : vp_in (nI j) 10 := vp_in_nI (by omega) (by omega)
    have oj := okh_ I0 N j1 j3
    obtain ⟨G1, go, ⟨gi1, gw1⟩, w1⟩ := xm_gather (la := la) (li := li) (E := E) (hh := hh) (C := C) (M := M) (W := W) (S := S) (r := E j) P S0 g.1 oj
    have R1 : Re_ n la li E hh va lv T C G1 φ B us := ⟨⟨P, I0, O, l0, K, ⟨go.2.2.2.2.1, by rw [gi1]; exact g.2.1, by rw [gw1]; exact g.2.2⟩, N⟩, b⟩
    refine (h _ (fun _ => True)).1 (br_f (by decide) ⟨vj, ?_⟩)
    rw [nI_clamp (n := j) (by omega), en_Ek j3]
    refine w1 _ ?_
    dsimp only [st_]
    refine (h (fun _ => True) _).2 (br_f (by decide) ?_)
    refine yw_size (fr := j) (to := j) (wl := fun l => sm_n (fun k => if tb_V T (ga_r G1 k) = va l then 1 else 0) (ga_n G1)) n6 (fun l hl sn post hq => ?_) (fun sn' => ⟨?_, ir_mk R1⟩)
    · have e : sm_n (fun k => if tb_V T (ga_r G1 k) = va l then 1 else 0) (ga_n G1) = ((ls_r (fun k => decide (tb_V T (ga_r G1 k) = va l)) (ga_n G1)).map (ga_r G1)).length := by
        rw [List.length_map, ls_rl]
        apply sm_ext
        intro i _
        by_cases c : tb_V T (ga_r G1 i) = va l
        · rw [if_pos c, decide_eq_true c]; rfl
        · rw [if_neg c, decide_eq_false c]; rfl
      rw [e] at hq
      refine yw_width P I0 O b (okh' I0 N) (b_one I0 N b) hl (by omega) (Nat.le_refl _) (by omega) _ (nd_map ls_rn (fun x y hx hy hxy => go.2.2.1 x y (ls_rm.mp hx).1 (ls_rm.mp hy).1 hxy)) (fun x => ?_) hq
      rw [List.mem_map]
      constructor
      · intro ⟨i, i1, i2⟩
        obtain ⟨q1, q2⟩ := ls_rm.mp i1
        have q3 := of_decide_eq_true q2
        subst i2
        have q4 := go.2.1 i q1
        exact ⟨j, Nat.le_refl _, Nat.le_refl _, j3, q4.1, q3, cf_reach S0 P O q4.2 q4.1⟩
      · intro ⟨h', a1, a2, a3, a4, a5, a6⟩
        have : h' = j := by omega
        subst this
        obtain ⟨s, bb, hs⟩ := a6
        have lx := (P.2.2 _ (S0.2.1 x a4).1).1
        obtain ⟨e', e1, e2, e3, e4⟩ := cf_path S0 P O (K := lv (tb_V T x)) (by omega) s 7 (E h') oj (by omega)
        have ex : x = e' / 2 := S0.one (f := ef_ φ e') (b := bb) (c := decide (e' % 2 = 1)) (Or.inr a4) e1 (fun t => by rw [hs t, e4 t]) (fun t => by unfold ef_; rw [Bool.xor_assoc, Bool.xor_self, Bool.xor_false])
        have hin : In_ G1 (e' / 2) := e2 (fun y => In_ G1 y) go.2.2.2.2.2.1 (fun y hy hq => by
          rcases hq with z | ⟨i, i1, i2⟩
          · exact absurd z (S0.ne0 hy)
          · have := go.2.2.2.2.2.2 i i1
            rw [i2] at this
            exact this)
        rw [← ex] at hin
        rcases hin with z | ⟨i, i1, i2⟩
        · exact absurd z (S0.ne0 a4)
        · exact ⟨i, ls_rm.mpr ⟨i1, decide_eq_true (by rw [i2]; exact a5)⟩, i2⟩
    · exact congrArg nI (lv_sum P (fun k => tb_V T (ga_r G1 k)) (fun x hx => (S0.2.1 _ (go.2.1 x hx).1).1))
end
section
/-! collect -/
def cc_ (E hh : Nat → Nat) (h j : Nat) : Prop := 2 ≤ j ∧ j < h ∧ hh j = 0 ∧ E j < 2048
def ce_ (E hh : Nat → Nat) (h : Nat) : Nat → Nat := fun j => if 2 ≤ j ∧ j < h ∧ hh j = 0 ∧ E j < 2048 then 2048 else E j
def cu_ (E hh us : Nat → Nat) (h : Nat) : Nat → Nat := fun j => if 2 ≤ j ∧ j < h ∧ hh j = 0 ∧ E j < 2048 then 0 else us j
def cb_ (E hh : Nat → Nat) (B : Nat → Nat → Bool) (h : Nat) : Nat → Nat → Bool := fun j => if 2 ≤ j ∧ j < h ∧ hh j = 0 ∧ E j < 2048 then fun _ => false else B j
theorem ce_y {E hh : Nat → Nat} {h : Nat} (h2 : 2 ≤ h) (c : hh h = 0 ∧ E h < 2048) : ce_ E hh (h + 1) = fu_u (ce_ E hh h) h 2048 := by
  funext j; unfold ce_ fu_u
  by_cases e : j = h
  · subst e; rw [if_pos ⟨h2, by omega, c⟩, if_pos rfl]
  · rw [if_neg e]
    dsimp only
    by_cases d : 2 ≤ j ∧ j < h ∧ hh j = 0 ∧ E j < 2048
    · rw [if_pos d, if_pos ⟨d.1, by omega, d.2.2⟩]
    · rw [if_neg d, if_neg (fun z => d ⟨z.1, by have := z.2.1; omega, z.2.2⟩)]
theorem cu_y {E hh us : Nat → Nat} {h : Nat} (h2 : 2 ≤ h) (c : hh h = 0 ∧ E h < 2048) : cu_ E hh us (h + 1) = fu_u (cu_ E hh us h) h 0 := by
  funext j; unfold cu_ fu_u
  by_cases e : j = h
  · subst e; rw [if_pos ⟨h2, by omega, c⟩, if_pos rfl]
  · rw [if_neg e]
    dsimp only
    by_cases d : 2 ≤ j ∧ j < h ∧ hh j = 0 ∧ E j < 2048
    · rw [if_pos d, if_pos ⟨d.1, by omega, d.2.2⟩]
    · rw [if_neg d, if_neg (fun z => d ⟨z.1, by have := z.2.1; omega, z.2.2⟩)]
theorem cb_y {E hh : Nat → Nat} {B : Nat → Nat → Bool} {h : Nat} (h2 : 2 ≤ h) (c : hh h = 0 ∧ E h < 2048) : cb_ E hh B (h + 1) = fu_u (cb_ E hh B h) h (fun _ => false) := by
  funext j; unfold cb_ fu_u
  by_cases e : j = h
  · subst e; rw [if_pos ⟨h2, by omega, c⟩, if_pos rfl]
  · rw [if_neg e]
    dsimp only
    by_cases d : 2 ≤ j ∧ j < h ∧ hh j = 0 ∧ E j < 2048
    · rw [if_pos d, if_pos ⟨d.1, by omega, d.2.2⟩]
    · rw [if_neg d, if_neg (fun z => d ⟨z.1, by have := z.2.1; omega, z.2.2⟩)]
theorem ce_n {E hh : Nat → Nat} {h : Nat} (c : ¬ (hh h = 0 ∧ E h < 2048)) : ce_ E hh (h + 1) = ce_ E hh h := by
  funext j; unfold ce_
  by_cases d : 2 ≤ j ∧ j < h ∧ hh j = 0 ∧ E j < 2048
  · rw [if_pos d, if_pos ⟨d.1, by omega, d.2.2⟩]
  · rw [if_neg d, if_neg (fun z => d ⟨z.1, by
      have := z.2.1
      have : j ≠ h := fun e => by subst e; exact c z.2.2
      omega, z.2.2⟩)]
theorem cu_n {E hh us : Nat → Nat} {h : Nat} (c : ¬ (hh h = 0 ∧ E h < 2048)) : cu_ E hh us (h + 1) = cu_ E hh us h := by
  funext j; unfold cu_
  by_cases d : 2 ≤ j ∧ j < h ∧ hh j = 0 ∧ E j < 2048
  · rw [if_pos d, if_pos ⟨d.1, by omega, d.2.2⟩]
  · rw [if_neg d, if_neg (fun z => d ⟨z.1, by
      have := z.2.1
      have : j ≠ h := fun e => by subst e; exact c z.2.2
      omega, z.2.2⟩)]
theorem cb_n {E hh : Nat → Nat} {B : Nat → Nat → Bool} {h : Nat} (c : ¬ (hh h = 0 ∧ E h < 2048)) : cb_ E hh B (h + 1) = cb_ E hh B h := by
  funext j; unfold cb_
  by_cases d : 2 ≤ j ∧ j < h ∧ hh j = 0 ∧ E j < 2048
  · rw [if_pos d, if_pos ⟨d.1, by omega, d.2.2⟩]
  · rw [if_neg d, if_neg (fun z => d ⟨z.1, by
      have := z.2.1
      have : j ≠ h := fun e => by subst e; exact c z.2.2
      omega, z.2.2⟩)]
theorem ce_h {E hh : Nat → Nat} {h : Nat} : ce_ E hh h h = E h := by unfold ce_; rw [if_neg (fun z => by have := z.2.1; omega)]
theorem ce_2 {E hh : Nat → Nat} : ce_ E hh 2 = E := by funext j; unfold ce_; rw [if_neg (fun z => by have := z.2.1; have := z.1; omega)]
theorem cu_2 {E hh us : Nat → Nat} : cu_ E hh us 2 = us := by funext j; unfold cu_; rw [if_neg (fun z => by have := z.2.1; have := z.1; omega)]
theorem cb_2 {E hh : Nat → Nat} {B : Nat → Nat → Bool} : cb_ E hh B 2 = B := by funext j; unfold cb_; rw [if_neg (fun z => by have := z.2.1; have := z.1; omega)]
theorem mk_0 : ∀ c, mk_N (fun _ => false) c = 0
  | 0 => rfl
  | c + 1 => by simp only [mk_N]; rw [mk_0 c]; simp
section
variable {n la li : Nat} {E hh va lv : Nat → Nat} {T : TN_} {C : CN_} {M : MN_} {G : GN_} {W : WN_} {S : SN_} {φ : Nat → BF_}
theorem xw_coll (P : Pm_ n va lv) (hla : la ≤ 9) (hhb : ∀ h, h < 10 → hh h ≤ 100) : ∀ (m h : Nat) (T : TN_), h + m = la + 1 → 2 ≤ h → Ti_ n (ce_ E hh h) 0 T φ → Od_ 0 lv (tb_V T) (tb_L T) (tb_H T) → Ca_ (tb_V T) φ C →
    ∃ T' C' W', Ti_ n (ce_ E hh (la + 1)) 0 T' φ ∧ Od_ 0 lv (tb_V T') (tb_L T') (tb_H T') ∧ tb_lo T' = 0 ∧ Ca_ (tb_V T') φ C' ∧ ∀ (post : Int32 → SX → Prop) (x1 : Int32), post (x1 - nI (tb_to T')) (st_ n la li (ce_ E hh (la + 1)) hh va lv T' C' M G W' S) → wX_collect_7 post x1 (m + 1) (nI h) (nI n) (nI la) (nI li) (nI (tb_fh T)) (nI (tb_lo T)) (nI (tb_to T)) (nI (ma_F M)) (nI (ma_G M)) (nI (ma_H M)) (nI (ma_n M)) (nI (ga_n G)) (nI (wo_n W)) (en_E (ce_ E hh h)) (en_I hh) (en_I va) (en_I lv) (en_V (tb_V T)) (en_I (tb_L T)) (en_I (tb_H T)) (en_I (tb_R T)) (en_I (tb_X T)) (en_I (tb_D T)) (en_I (tb_Q T)) (en_I (ca_F C)) (en_I (ca_G C)) (en_I (ca_H C)) (en_I (ca_R C)) (en_I (ma_f M)) (en_I (ma_g M)) (en_I (ma_h M)) (en_I (ma_v M)) (en_I (ma_p M)) (en_I (ma_l M)) (en_I (ma_b M)) (en_I (ga_r G)) (en_I (ga_s G)) (en_I (ga_i G)) (en_I (ga_w G)) (en_I (wo_w W)) (en_I (si_z S)) (en_I (si_c S))
  | 0, h, T, hm, h2, I, O, K => by
    have e : h = la + 1 := by omega
    subst e
    obtain ⟨T', C', W', a1, a2, a3, a4, a5, a6⟩ := xm_sweep (la := la) (li := li) (hh := hh) (M := M) (G := G) (W := W) (S := S) (l := 0) P (by omega) I O (fun j _ h => by omega) K
    refine ⟨T', C', W', a1, a2, a4, a5, fun post x1 hp => ?_⟩
    refine pk_lt la (la + 1) (fun _ => ?_) (fun z => by omega)
    exact a6 _ hp
  | m + 1, h, T, hm, h2, I, O, K => by
    have vh : vp_in (nI h) 10 := vp_in_nI (by omega) (by omega)
    have hb := hhb h (by omega)
    by_cases c : hh h = 0 ∧ E h < 2048
    · have hc : ce_ E hh h h < 2048 := by rw [ce_h]; exact c.2
      obtain ⟨d1, d2⟩ := ti_drop I h2 (by omega) hc
      rw [ce_h] at d1 d2
      rw [← ce_y h2 c] at d2
      have oe := I.2.2.2.2.2.2 h h2 (by omega) hc
      rw [ce_h] at oe
      have bd := I.2.2.2.1.bd oe
      obtain ⟨T', C', W', a1, a2, a3, a4, a5⟩ := xw_coll P hla hhb m (h + 1) (td_ (E h) T) (by omega) (by omega) d2 O K
      refine ⟨T', C', W', a1, a2, a3, a4, fun post x1 hp => ?_⟩
      refine pk_lt la h (fun z => by omega) (fun _ => ⟨vh, ?_⟩)
      rw [nI_clamp (n := h) (by omega), en_Ek hc, ce_h]
      refine br_f (nI_pos (by omega)) ⟨vh, br_t (by show nI (hh h) = 0; rw [c.1]; rfl) ⟨vh, ?_⟩⟩
      refine xw_dropRef (E := ce_ E hh h) (T := T) (e := E h) c.2 (by omega) d1 ?_
      dsimp only [st_]
      refine ⟨vh, nm_r en_uEn (nm_r (nI_1 _) ?_)⟩
      rw [← ce_y h2 c]
      exact a5 post x1 hp
    · have hn := ce_n c
      obtain ⟨T', C', W', a1, a2, a3, a4, a5⟩ := xw_coll P hla hhb m (h + 1) T (by omega) (by omega) (by rw [hn]; exact I) O K
      refine ⟨T', C', W', a1, a2, a3, a4, fun post x1 hp => ?_⟩
      have go := a5 post x1 hp
      rw [hn] at go
      refine pk_lt la h (fun z => by omega) (fun _ => ⟨vh, ?_⟩)
      rw [nI_clamp (n := h) (by omega)]
      by_cases d : E h < 2048
      · rw [en_Ek (show ce_ E hh h h < 2048 by rw [ce_h]; exact d)]
        refine br_f (nI_pos (by rw [ce_h]; omega)) ⟨vh, br_f ?_ (nm_r (nI_1 _) go)⟩
        show ¬ nI (hh h) = 0
        exact nI_ne0 (by have : hh h ≠ 0 := fun z => c ⟨z, d⟩; omega) (by omega)
      · rw [en_En (show ¬ ce_ E hh h h < 2048 by rw [ce_h]; exact d)]
        exact br_t (by decide) (nm_r (nI_1 _) go)
end
section
variable {n la li : Nat} {B : Nat → Nat → Bool} {E hh us va : Nat → Nat} {ot : Nat → Int32} {sn : Nat → Int64} {sw ls lt : Nat → Int32}
theorem yw_coll {post : Int32 → SY → Prop} {x1 : Int32} (hla : la ≤ 9) (hhb : ∀ h, h < 10 → hh h ≤ 100) (hu : ∀ h, h < 10 → us h = if E h < 2048 then 1 else 0) (hp : wpY_tableSize (fun r u => post (x1 - r) u) (sy_ n la li (cb_ E hh B (la + 1)) hh (cu_ E hh us (la + 1)) va ot sn sw ls lt)) : ∀ (m h : Nat), h + m = la + 1 → 2 ≤ h → wY_collect_7 post x1 (nI n) (nI la) (nI li) (nI (2 ^ n)) (m + 1) (nI h) (en_F n (cb_ E hh B h)) (en_I hh) (en_I (cu_ E hh us h)) (en_O va) ot sn sw ls lt
  | 0, h, hm, h2 => by
    have e : h = la + 1 := by omega
    subst e
    exact pk_lt la (la + 1) (fun _ => hp) (fun z => by omega)
  | m + 1, h, hm, h2 => by
    have vh : vp_in (nI h) 10 := vp_in_nI (by omega) (by omega)
    have hb := hhb h (by omega)
    have uh : cu_ E hh us h h = if E h < 2048 then 1 else 0 := by
      unfold cu_; rw [if_neg (fun z => by have := z.2.1; omega)]; exact hu h (by omega)
    have go := yw_coll hla hhb hu hp m (h + 1) (by omega) (by omega)
    refine pk_lt la h (fun z => by omega) (fun _ => ⟨vh, ?_⟩)
    rw [nI_clamp (n := h) (by omega)]
    by_cases d : E h < 2048
    · refine br_f (by show ¬ nI (cu_ E hh us h h) = 0; rw [uh, if_pos d]; decide) ⟨vh, ?_⟩
      refine pk_eq (hh h) 0 (fun z => ⟨vh, nm_r (en_uI (x := 0)) ⟨vh, nm_r (e' := en_F n (fu_u (cb_ E hh B h) h (fun _ => false))) ?_ (nm_r (nI_1 _) ?_)⟩⟩) (fun z => nm_r (nI_1 _) ?_)
      · rw [← en_uF, mk_0]; rfl
      · rw [← cu_y h2 ⟨z, d⟩, ← cb_y h2 ⟨z, d⟩]
        exact go
      · rw [cu_n (fun c => z c.1), cb_n (fun c => z c.1)] at go
        exact go
    · refine br_t (by show nI (cu_ E hh us h h) = 0; rw [uh, if_neg d]; rfl) (nm_r (nI_1 _) ?_)
      rw [cu_n (fun c => d c.2), cb_n (fun c => d c.2)] at go
      exact go
end
theorem i_vc_collect {k : Nat} {u : SX} {v : SY} (I : i_Rel k u v) (hk : k + 4 ≤ 2051) : wpX_collect (fun r u' => wpY_collect (fun r' v' => r' = r ∧ i_Rel (k + 4) u' v') v) u := by
  refine ir_el (P := fun u v => wpX_collect (fun r u' => wpY_collect (fun r' v' => r' = r ∧ i_Rel (k + 4) u' v') v) u) I ?_
  intro n la li E hh va lv T C M G W S φ B us ot sn sw ls lt r
  have rr := r
  obtain ⟨⟨P, I0, O, l0, K, g, N⟩, b⟩ := r
  have n6 := P.1.2.1
  have S0 := I0.1
  have la9 := N.1.2.1
  have NN := N
  obtain ⟨⟨n1, n2, n3, n4⟩, ⟨n5, n6', n7, n8⟩, n9, n10, n11, n12⟩ := N
  have hhb : ∀ h, h < 10 → hh h ≤ 100 := fun h hh10 => by have := n11 h hh10; omega
  obtain ⟨T', C', W', a1, a2, a3, a4, a5⟩ := xw_coll (li := li) (C := C) (M := M) (G := G) (W := W) (S := S) P n2 hhb (la - 1) 2 T (by omega) (by omega) (by rw [ce_2]; exact I0) O K
  have cel : ∀ {j}, ce_ E hh (la + 1) j < 2048 → E j < 2048 ∧ ce_ E hh (la + 1) j = E j ∧ ¬ (2 ≤ j ∧ j < la + 1 ∧ hh j = 0 ∧ E j < 2048) := fun {j} hj => by
    unfold ce_ at hj ⊢
    by_cases d : 2 ≤ j ∧ j < la + 1 ∧ hh j = 0 ∧ E j < 2048
    · rw [if_pos d] at hj; omega
    · rw [if_neg d] at hj ⊢; exact ⟨hj, rfl, d⟩
  have lowE : ∀ j, j < 2 → ce_ E hh (la + 1) j = E j := fun j hj => by unfold ce_; rw [if_neg (fun z => by have := z.1; omega)]
  have N' : Hn_ la li (ce_ E hh (la + 1)) hh := by
    refine ⟨⟨n1, n2, n3, n4⟩, ⟨by rw [lowE 0 (by omega)]; exact n5, by rw [lowE 1 (by omega)]; exact n6', n7, n8⟩, fun h a b c => ?_, fun h a b c => n10 h a b (cel c).1, n11, fun h i a b c d e f => ?_⟩
    · rw [(cel c).2.1]; exact n9 h a b (cel c).1
    · have e' := e
      rw [f] at e'
      refine n12 h i a b c d (cel e).1 ?_
      rw [← (cel e).2.1, ← (cel e').2.1]; exact f
  have b' : Bu_ n (ce_ E hh (la + 1)) φ (cb_ E hh B (la + 1)) (cu_ E hh us (la + 1)) := by
    refine ⟨fun h hh10 => ?_, fun h hh10 hE a ha => ?_⟩
    · unfold cu_ ce_
      by_cases d : 2 ≤ h ∧ h < la + 1 ∧ hh h = 0 ∧ E h < 2048
      · rw [if_pos d, if_pos d, if_neg (by omega)]
      · rw [if_neg d, if_neg d]; exact b.1 h hh10
    · obtain ⟨q1, q2, q3⟩ := cel hE
      rw [q2]
      unfold cb_
      rw [if_neg q3]
      exact b.2 h hh10 q1 a ha
  have R' : Re_ n la li (ce_ E hh (la + 1)) hh va lv T' C' G φ (cb_ E hh B (la + 1)) (cu_ E hh us (la + 1)) := ⟨⟨P, a1, a2, a3, a4, g, N'⟩, b'⟩
  unfold wpX_collect st_
  dsimp only
  refine ⟨la - 1 + 1, ?_⟩
  have w := a5 (fun r u' => wpY_collect (fun r' v' => r' = r ∧ i_Rel (k + 4) u' v') (sy_ n la li B hh us va ot sn sw ls lt)) (nI (tb_to T)) ?_
  · rw [ce_2] at w
    exact w
  · unfold wpY_collect
    show wpY_tableSize _ (sy_ n la li B hh us va ot sn sw ls lt)
    refine yw_tsize P I0 O l0 NN b (fun sn' => ?_)
    dsimp only [sy_]
    refine ⟨la - 1 + 1, ?_⟩
    have y := yw_coll (n := n) (la := la) (li := li) (B := B) (E := E) (hh := hh) (us := us) (va := va) (ot := ot) (sn := sn') (sw := sw) (ls := ls) (lt := lt) (post := fun r' v' => r' = nI (tb_to T) - nI (tb_to T') ∧ i_Rel (k + 4) (st_ n la li (ce_ E hh (la + 1)) hh va lv T' C' M G W' S) v') (x1 := nI (tb_to T)) n2 hhb b.1 (yw_tsize P a1 a2 a3 N' b' (fun sn'' => ⟨rfl, ir_mk R'⟩)) (la - 1) 2 (by omega) (by omega)
    rw [cu_2, cb_2] at y
    exact y
end
section
/-! sift -/
def ov_ (va : Nat → Nat) (s : Nat) : Nat → Nat := fun i => if i < s then va i else va (i + 1)
def pl_ (o : Nat → Nat) (v p i : Nat) : Nat := if i < p then o i else if i = p then v else o (i - 1)
def pv_ (n : Nat) (va : Nat → Nat) (s p : Nat) : Nat → Nat := fun i => if i < n then pl_ (ov_ va s) (va s) p i else va i
theorem pv_s {n s : Nat} {va : Nat → Nat} : pv_ n va s s = va := by
  funext i
  unfold pv_ pl_ ov_
  by_cases c : i < n
  · rw [if_pos c]
    by_cases d : i < s
    · rw [if_pos d, if_pos d]
    · rw [if_neg d]
      by_cases e : i = s
      · rw [if_pos e, e]
      · rw [if_neg e, if_neg (by omega), show i - 1 + 1 = i from by omega]
  · rw [if_neg c]
theorem pv_lt {n s p i : Nat} {va : Nat → Nat} (hi : i < n) (h : i < p) : pv_ n va s p i = ov_ va s i := by
  unfold pv_ pl_; rw [if_pos hi, if_pos h]
theorem pv_eq {n s p : Nat} {va : Nat → Nat} (hi : p < n) : pv_ n va s p p = va s := by
  unfold pv_ pl_; rw [if_pos hi, if_neg (Nat.lt_irrefl _), if_pos rfl]
theorem pv_gt {n s p i : Nat} {va : Nat → Nat} (hi : i < n) (h : p < i) : pv_ n va s p i = ov_ va s (i - 1) := by
  unfold pv_ pl_; rw [if_pos hi, if_neg (by omega), if_neg (by omega)]
theorem pv_out {n s p i : Nat} {va : Nat → Nat} (hi : ¬ i < n) : pv_ n va s p i = va i := by
  unfold pv_; rw [if_neg hi]
theorem pv_up {n s p : Nat} {va : Nat → Nat} (hp : p + 1 < n) : sv_ (pv_ n va s p) p = pv_ n va s (p + 1) := by
  funext i
  unfold sv_
  by_cases a : i = p + 1
  · rw [a, fu_s, pv_eq (by omega), pv_eq hp]
  · rw [fu_n a]
    by_cases b : i = p
    · rw [b, fu_s, pv_gt hp (by omega), pv_lt (by omega) (by omega), show p + 1 - 1 = p from by omega]
    · rw [fu_n b]
      by_cases c : i < n
      · by_cases d : i < p
        · rw [pv_lt c d, pv_lt c (by omega)]
        · rw [pv_gt c (by omega), pv_gt c (by omega)]
      · rw [pv_out c, pv_out c]
theorem pv_dn {n s p : Nat} {va : Nat → Nat} (hp : p + 1 < n) : sv_ (pv_ n va s (p + 1)) p = pv_ n va s p := by
  funext i
  unfold sv_
  by_cases a : i = p + 1
  · rw [a, fu_s, pv_lt (by omega) (by omega), pv_gt hp (by omega), show p + 1 - 1 = p from by omega]
  · rw [fu_n a]
    by_cases b : i = p
    · rw [b, fu_s, pv_eq (by omega), pv_eq (by omega)]
    · rw [fu_n b]
      by_cases c : i < n
      · by_cases d : i < p
        · rw [pv_lt c d, pv_lt c (by omega)]
        · rw [pv_gt c (by omega), pv_gt c (by omega)]
      · rw [pv_out c, pv_out c]
def Vl_ (n : Nat) (E : Nat → Nat) (B : Nat → Nat → Bool) (us va lv : Nat → Nat) (T : TN_) (C : CN_) (φ : Nat → BF_) : Prop :=
  Pm_ n va lv ∧ Ti_ n E 0 T φ ∧ Od_ 0 lv (tb_V T) (tb_L T) (tb_H T) ∧ tb_lo T = 0 ∧ Ca_ (tb_V T) φ C ∧ Bu_ n E φ B us
/-- z is the table's size in the order va -/
def Sz_ (n : Nat) (E : Nat → Nat) (B : Nat → Nat → Bool) (us va : Nat → Nat) (z : Nat) : Prop :=
  ∃ lv T C φ, Vl_ n E B us va lv T C φ ∧ tb_to T = z
theorem Vl_.sz {n : Nat} {E : Nat → Nat} {B : Nat → Nat → Bool} {us va lv : Nat → Nat} {T : TN_} {C : CN_} {φ : Nat → BF_} (h : Vl_ n E B us va lv T C φ) : Sz_ n E B us va (tb_to T) := ⟨lv, T, C, φ, h, rfl⟩
theorem Vl_.to {n : Nat} {E : Nat → Nat} {B : Nat → Nat → Bool} {us va lv : Nat → Nat} {T : TN_} {C : CN_} {φ : Nat → BF_} (h : Vl_ n E B us va lv T C φ) : tb_to T ≤ 504 := by
  rw [h.2.1.2.2.2.2.2.1.1]
  exact tc_kept h.1 h.2.1 h.2.2.1 h.2.2.2.1
theorem Sz_.le {n z : Nat} {E : Nat → Nat} {B : Nat → Nat → Bool} {us va : Nat → Nat} (h : Sz_ n E B us va z) : z ≤ 504 := by
  obtain ⟨lv, T, C, φ, h1, h2⟩ := h
  rw [← h2]; exact h1.to
section
variable {n la li : Nat} {E hh va lv : Nat → Nat} {T : TN_} {C : CN_} {M : MN_} {G : GN_} {W : WN_} {S : SN_} {φ : Nat → BF_} {B : Nat → Nat → Bool} {us : Nat → Nat} {ot : Nat → Int32} {sn : Nat → Int64} {sw ls lt : Nat → Int32}
theorem xm_sw1 {l : Nat} (N : Hn_ la li E hh) (h : Vl_ n E B us va lv T C φ) (hl : l + 1 < n) : ∃ lv' T' C' W' φ', Vl_ n E B us (sv_ va l) lv' T' C' φ' ∧ ∀ post : SX → Prop, post (st_ n la li E hh (sv_ va l) lv' T' C' M G W' S) → wpX_swapLevels post (st_ n la li E hh va lv T C M G W S) (nI l) := by
  obtain ⟨P, I, O, l0, K, b⟩ := h
  obtain ⟨P', X⟩ := pm_swap P hl
  obtain ⟨T', C', W', φ', a1, a2, a3, a4, a5, a6⟩ := xm_swap (la := la) (li := li) (hh := hh) (M := M) (G := G) (W := W) (S := S) (l := l) P hl I O l0 K
  exact ⟨sl2_ va lv l, T', C', W', φ', ⟨P', a1, a2, a3, a4, b.up (fun i hi hE => by unfold ef_; rw [a5 _ (okh' I N i hi hE)])⟩, a6⟩
theorem yw_sz {z : Nat} {post : Int32 → SY → Prop} (N : Hn_ la li E hh) (h : Sz_ n E B us va z) (hp : ∀ sn', post (nI z) (sy_ n la li B hh us va ot sn' sw ls lt)) : wpY_tableSize post (sy_ n la li B hh us va ot sn sw ls lt) := by
  obtain ⟨lv, T, C, φ, ⟨P, I, O, l0, K, b⟩, h2⟩ := h
  refine yw_tsize P I O l0 N b (fun sn' => ?_)
  rw [h2]; exact hp sn'
/-- moving the variable down, then up -/
theorem xw_relU {s a t : Nat} {va0 : Nat → Nat} (N : Hn_ la li E hh) (n6 : n ≤ 6) (ht : t < n) : ∀ (m p : Nat) (lv : Nat → Nat) (T : TN_) (C : CN_) (W : WN_) (S : SN_) (φ : Nat → BF_), p + m = t → Vl_ n E B us (pv_ n va0 s p) lv T C φ →
    ∃ lv' T' C' W' S' φ', Vl_ n E B us (pv_ n va0 s t) lv' T' C' φ' ∧ si_c S' = si_c S ∧ (∀ i, i < n → Sz_ n E B us (pv_ n va0 s i) (si_z S i) → Sz_ n E B us (pv_ n va0 s i) (si_z S' i)) ∧ (∀ i, p < i → i ≤ t → Sz_ n E B us (pv_ n va0 s i) (si_z S' i)) ∧
      ∀ post : SX → Prop, (∃ N, wX_relocate_32 post (nI t) N (nI a) (nI n) (nI la) (nI li) (nI (tb_fh T')) (nI (tb_lo T')) (nI (tb_to T')) (nI (ma_F M)) (nI (ma_G M)) (nI (ma_H M)) (nI (ma_n M)) (nI (ga_n G)) (nI (wo_n W')) (en_E E) (en_I hh) (en_I (pv_ n va0 s t)) (en_I lv') (en_V (tb_V T')) (en_I (tb_L T')) (en_I (tb_H T')) (en_I (tb_R T')) (en_I (tb_X T')) (en_I (tb_D T')) (en_I (tb_Q T')) (en_I (ca_F C')) (en_I (ca_G C')) (en_I (ca_H C')) (en_I (ca_R C')) (en_I (ma_f M)) (en_I (ma_g M)) (en_I (ma_h M)) (en_I (ma_v M)) (en_I (ma_p M)) (en_I (ma_l M)) (en_I (ma_b M)) (en_I (ga_r G)) (en_I (ga_s G)) (en_I (ga_i G)) (en_I (ga_w G)) (en_I (wo_w W')) (en_I (si_z S')) (en_I (si_c S'))) → wX_relocate_2 post (nI a) (nI t) (m + 1) (nI p) (nI n) (nI la) (nI li) (nI (tb_fh T)) (nI (tb_lo T)) (nI (tb_to T)) (nI (ma_F M)) (nI (ma_G M)) (nI (ma_H M)) (nI (ma_n M)) (nI (ga_n G)) (nI (wo_n W)) (en_E E) (en_I hh) (en_I (pv_ n va0 s p)) (en_I lv) (en_V (tb_V T)) (en_I (tb_L T)) (en_I (tb_H T)) (en_I (tb_R T)) (en_I (tb_X T)) (en_I (tb_D T)) (en_I (tb_Q T)) (en_I (ca_F C)) (en_I (ca_G C)) (en_I (ca_H C)) (en_I (ca_R C)) (en_I (ma_f M)) (en_I (ma_g M)) (en_I (ma_h M)) (en_I (ma_v M)) (en_I (ma_p M)) (en_I (ma_l M)) (en_I (ma_b M)) (en_I (ga_r G)) (en_I (ga_s G)) (en_I (ga_i G)) (en_I (ga_w G)) (en_I (wo_w W)) (en_I (si_z S)) (en_I (si_c S))
  | 0, p, lv, T, C, W, S, φ, hm, h => by
    have e : p = t := by omega
    subst e
    exact ⟨lv, T, C, W, S, φ, h, rfl, fun _ _ q => q, fun i a b => by omega, fun post hp => pk_le p p (fun _ => hp) (fun z => by omega)⟩
  | m + 1, p, lv, T, C, W, S, φ, hm, h => by
    obtain ⟨lv1, T1, C1, W1, φ1, h1, w1⟩ := xm_sw1 (M := M) (G := G) (W := W) (S := S) (l := p) N h (by omega)
    rw [pv_up (by omega)] at h1 w1
    have bt := h1.to
    obtain ⟨lv', T', C', W', S', φ', a1, a2, a3, a4, a5⟩ := xw_relU N n6 ht m (p + 1) lv1 T1 C1 W1 (fu_u (si_z S) (p + 1) (tb_to T1), si_c S) φ1 (by omega) h1
    refine ⟨lv', T', C', W', S', φ', a1, a2, fun i hi q => a3 i hi ?_, fun i q1 q2 => ?_, fun post hp => ?_⟩
    · show Sz_ n E B us (pv_ n va0 s i) (fu_u (si_z S) (p + 1) (tb_to T1) i)
      by_cases c : i = p + 1
      · rw [c, fu_s]; exact h1.sz
      · rw [fu_n c]; exact q
    · by_cases c : i = p + 1
      · refine a3 i (by omega) ?_
        show Sz_ n E B us (pv_ n va0 s i) (fu_u (si_z S) (p + 1) (tb_to T1) i)
        rw [c, fu_s]; exact h1.sz
      · exact a4 i (by omega) q2
    · refine pk_le t p (fun z => by omega) (fun _ => ?_)
      refine w1 _ ?_
      dsimp only [st_]
      rw [nI_1, nI_clamp (n := p + 1) (by omega)]
      exact ⟨vp_in_nI (by omega) (by omega), nm_r en_uI (nm_e (a5 post hp))⟩
theorem xw_relD {s t : Nat} {va0 : Nat → Nat} (N : Hn_ la li E hh) (n6 : n ≤ 6) (ht : t < n) : ∀ (m p : Nat) (lv : Nat → Nat) (T : TN_) (C : CN_) (W : WN_) (S : SN_) (φ : Nat → BF_), t + m = p → p < n → Vl_ n E B us (pv_ n va0 s p) lv T C φ →
    ∃ lv' T' C' W' S' φ', Vl_ n E B us (pv_ n va0 s t) lv' T' C' φ' ∧ si_c S' = si_c S ∧ (∀ i, i < n → Sz_ n E B us (pv_ n va0 s i) (si_z S i) → Sz_ n E B us (pv_ n va0 s i) (si_z S' i)) ∧ (∀ i, t ≤ i → i < p → Sz_ n E B us (pv_ n va0 s i) (si_z S' i)) ∧
      ∀ post : SX → Prop, post (st_ n la li E hh (pv_ n va0 s t) lv' T' C' M G W' S') → wX_relocate_32 post (nI t) (m + 1) (nI p) (nI n) (nI la) (nI li) (nI (tb_fh T)) (nI (tb_lo T)) (nI (tb_to T)) (nI (ma_F M)) (nI (ma_G M)) (nI (ma_H M)) (nI (ma_n M)) (nI (ga_n G)) (nI (wo_n W)) (en_E E) (en_I hh) (en_I (pv_ n va0 s p)) (en_I lv) (en_V (tb_V T)) (en_I (tb_L T)) (en_I (tb_H T)) (en_I (tb_R T)) (en_I (tb_X T)) (en_I (tb_D T)) (en_I (tb_Q T)) (en_I (ca_F C)) (en_I (ca_G C)) (en_I (ca_H C)) (en_I (ca_R C)) (en_I (ma_f M)) (en_I (ma_g M)) (en_I (ma_h M)) (en_I (ma_v M)) (en_I (ma_p M)) (en_I (ma_l M)) (en_I (ma_b M)) (en_I (ga_r G)) (en_I (ga_s G)) (en_I (ga_i G)) (en_I (ga_w G)) (en_I (wo_w W)) (en_I (si_z S)) (en_I (si_c S))
  | 0, p, lv, T, C, W, S, φ, hm, hpn, h => by
    have e : p = t := by omega
    subst e
    exact ⟨lv, T, C, W, S, φ, h, rfl, fun _ _ q => q, fun i a b => by omega, fun post hp => pk_le p p (fun _ => hp) (fun z => by omega)⟩
  | m + 1, p, lv, T, C, W, S, φ, hm, hpn, h => by
    obtain ⟨p, rfl⟩ : ∃ q, p = q + 1 := ⟨p - 1, by omega⟩
    obtain ⟨lv1, T1, C1, W1, φ1, h1, w1⟩ := xm_sw1 (M := M) (G := G) (W := W) (S := S) (l := p) N h (by omega)
    rw [pv_dn (by omega)] at h1 w1
    have bt := h1.to
    obtain ⟨lv', T', C', W', S', φ', a1, a2, a3, a4, a5⟩ := xw_relD N n6 ht m p lv1 T1 C1 W1 (fu_u (si_z S) p (tb_to T1), si_c S) φ1 (by omega) (by omega) h1
    refine ⟨lv', T', C', W', S', φ', a1, a2, fun i hi q => a3 i hi ?_, fun i q1 q2 => ?_, fun post hp => ?_⟩
    · show Sz_ n E B us (pv_ n va0 s i) (fu_u (si_z S) p (tb_to T1) i)
      by_cases c : i = p
      · rw [c, fu_s]; exact h1.sz
      · rw [fu_n c]; exact q
    · by_cases c : i = p
      · refine a3 i (by omega) ?_
        show Sz_ n E B us (pv_ n va0 s i) (fu_u (si_z S) p (tb_to T1) i)
        rw [c, fu_s]; exact h1.sz
      · exact a4 i q1 (by omega)
    · refine pk_le (p + 1) t (fun z => by omega) (fun _ => ?_)
      rw [nI_pred p]
      refine w1 _ ?_
      dsimp only [st_]
      rw [nI_clamp (n := p) (by omega)]
      exact ⟨vp_in_nI (by omega) (by omega), nm_r en_uI (nm_r (pk_m1 p) (a5 post hp))⟩
theorem xm_reloc {s a t : Nat} {va0 : Nat → Nat} (N : Hn_ la li E hh) (n6 : n ≤ 6) (ha : a < n) (ht : t < n) (h : Vl_ n E B us (pv_ n va0 s a) lv T C φ) :
    ∃ lv' T' C' W' S' φ', Vl_ n E B us (pv_ n va0 s t) lv' T' C' φ' ∧ si_c S' = si_c S ∧ (∀ i, i < n → Sz_ n E B us (pv_ n va0 s i) (si_z S i) → Sz_ n E B us (pv_ n va0 s i) (si_z S' i)) ∧ (∀ i, (a < i ∧ i ≤ t) ∨ (t ≤ i ∧ i < a) → Sz_ n E B us (pv_ n va0 s i) (si_z S' i)) ∧
      ∀ post : SX → Prop, post (st_ n la li E hh (pv_ n va0 s t) lv' T' C' M G W' S') → wpX_relocate post (st_ n la li E hh (pv_ n va0 s a) lv T C M G W S) (nI a) (nI t) := by
  by_cases c : a ≤ t
  · obtain ⟨lv', T', C', W', S', φ', a1, a2, a3, a4, a5⟩ := xw_relU (M := M) (G := G) (a := a) N n6 ht (t - a) a lv T C W S φ (by omega) h
    refine ⟨lv', T', C', W', S', φ', a1, a2, a3, fun i q => a4 i (by omega) (by omega), fun post hp => ?_⟩
    unfold wpX_relocate st_
    dsimp only
    exact ⟨_, a5 post ⟨1, pk_le a t (fun _ => hp) (fun z => by omega)⟩⟩
  · obtain ⟨lv', T', C', W', S', φ', a1, a2, a3, a4, a5⟩ := xw_relD (M := M) (G := G) N n6 ht (a - t) a lv T C W S φ (by omega) ha h
    refine ⟨lv', T', C', W', S', φ', a1, a2, a3, fun i q => a4 i (by omega) (by omega), fun post hp => ?_⟩
    unfold wpX_relocate st_
    dsimp only
    exact ⟨1, pk_le t a (fun _ => ⟨_, a5 post hp⟩) (fun z => by omega)⟩
/-- the scan for the least size -/
def bs_ (sz : Nat → Nat) (s : Nat) : Nat → Nat × Nat
  | 0 => (sz s, s)
  | m + 1 => if sz m < (bs_ sz s m).1 then (sz m, m) else bs_ sz s m
theorem bs_in {sz : Nat → Nat} {s n : Nat} (hs : s < n) (hb : ∀ i, i < n → sz i ≤ 504) : ∀ {m : Nat}, m ≤ n → (bs_ sz s m).1 ≤ 504 ∧ (bs_ sz s m).2 < n
  | 0, _ => ⟨hb s hs, hs⟩
  | m + 1, hm => by
    have ih := bs_in hs hb (m := m) (by omega)
    simp only [bs_]
    split
    · exact ⟨hb m (by omega), by show m < n; omega⟩
    · exact ih
theorem xm_siftOne {s : Nat} (N : Hn_ la li E hh) (h : Vl_ n E B us va lv T C φ) (hs : s < n) :
    ∃ lv' T' C' W' S' φ' sz, Vl_ n E B us (pv_ n va s (bs_ sz s n).2) lv' T' C' φ' ∧ si_c S' = si_c S ∧ (∀ i, i < n → Sz_ n E B us (pv_ n va s i) (sz i)) ∧
      ∀ post : Int32 → SX → Prop, post (nI (sz s) - nI (bs_ sz s n).1) (st_ n la li E hh (pv_ n va s (bs_ sz s n).2) lv' T' C' M G W' S') → wpX_siftOne post (st_ n la li E hh va lv T C M G W S) (nI (va s)) := by
  have n6 := h.1.1.2.1
  have n2 := h.1.1.1
  obtain ⟨v1, v2⟩ := h.1.2.1 s hs
  have h0 : Vl_ n E B us (pv_ n va s s) lv T C φ := by rw [pv_s]; exact h
  have vs : vp_in (nI s) 6 := vp_in_nI (by omega) (by omega)
  -- both ways round, every level is seen
  obtain ⟨en, en1, lv2, T2, C2, W2, S2, φ2, h2, c2, g2, w2⟩ : ∃ en, en < n ∧ ∃ lv2 T2 C2 W2 S2 φ2, Vl_ n E B us (pv_ n va s en) lv2 T2 C2 φ2 ∧ si_c S2 = si_c S ∧ (∀ i, i < n → Sz_ n E B us (pv_ n va s i) (si_z S2 i)) ∧ ∀ post : Int32 → SX → Prop, wX_siftOne_64 post (nI s) (nI en) (nI n) (nI la) (nI li) (nI (tb_fh T2)) (nI (tb_lo T2)) (nI (tb_to T2)) (nI (ma_F M)) (nI (ma_G M)) (nI (ma_H M)) (nI (ma_n M)) (nI (ga_n G)) (nI (wo_n W2)) (en_E E) (en_I hh) (en_I (pv_ n va s en)) (en_I lv2) (en_V (tb_V T2)) (en_I (tb_L T2)) (en_I (tb_H T2)) (en_I (tb_R T2)) (en_I (tb_X T2)) (en_I (tb_D T2)) (en_I (tb_Q T2)) (en_I (ca_F C2)) (en_I (ca_G C2)) (en_I (ca_H C2)) (en_I (ca_R C2)) (en_I (ma_f M)) (en_I (ma_g M)) (en_I (ma_h M)) (en_I (ma_v M)) (en_I (ma_p M)) (en_I (ma_l M)) (en_I (ma_b M)) (en_I (ga_r G)) (en_I (ga_s G)) (en_I (ga_i G)) (en_I (ga_w G)) (en_I (wo_w W2)) (en_I (si_z S2)) (en_I (si_c S2)) → wpX_siftOne post (st_ n la li E hh va lv T C M G W S) (nI (va s)) := by
    have e1 : nI n - 1 = nI (n - 1) := pk_sub (b := 1) (by omega)
    have e2 : nI (n - 1) - nI s = nI (n - 1 - s) := pk_sub (by omega)
    have base : Sz_ n E B us (pv_ n va s s) (fu_u (si_z S) s (tb_to T) s) := by rw [fu_s]; exact h0.sz
    have start : ∀ post : Int32 → SX → Prop, ((n - 1 - s ≤ s → wpX_relocate (fun u => match u with | (u1, u2, u3, u4, u5, u6, u7, u8, u9, u10, u11, u12, u13, u14, u15, u16, u17, u18, u19, u20, u21, u22, u23, u24, u25, u26, u27, u28, u29, u30, u31, u32, u33, u34, u35, u36, u37, u38, u39, u40, u41) => wpX_relocate (fun u => match u with | (u1, u2, u3, u4, u5, u6, u7, u8, u9, u10, u11, u12, u13, u14, u15, u16, u17, u18, u19, u20, u21, u22, u23, u24, u25, u26, u27, u28, u29, u30, u31, u32, u33, u34, u35, u36, u37, u38, u39, u40, u41) => wX_siftOne_64 post (nI s) 0 u1 u2 u3 u4 u5 u6 u7 u8 u9 u10 u11 u12 u13 u14 u15 u16 u17 u18 u19 u20 u21 u22 u23 u24 u25 u26 u27 u28 u29 u30 u31 u32 u33 u34 u35 u36 u37 u38 u39 u40 u41) (u1, u2, u3, u4, u5, u6, u7, u8, u9, u10, u11, u12, u13, u14, u15, u16, u17, u18, u19, u20, u21, u22, u23, u24, u25, u26, u27, u28, u29, u30, u31, u32, u33, u34, u35, u36, u37, u38, u39, u40, u41) (nI (n - 1)) 0) (st_ n la li E hh va lv T C M G W ((fu_u (si_z S) s (tb_to T), si_c S))) (nI s) (nI (n - 1))) ∧ (s < n - 1 - s → wpX_relocate (fun u => match u with | (u1, u2, u3, u4, u5, u6, u7, u8, u9, u10, u11, u12, u13, u14, u15, u16, u17, u18, u19, u20, u21, u22, u23, u24, u25, u26, u27, u28, u29, u30, u31, u32, u33, u34, u35, u36, u37, u38, u39, u40, u41) => wpX_relocate (fun u => match u with | (u1, u2, u3, u4, u5, u6, u7, u8, u9, u10, u11, u12, u13, u14, u15, u16, u17, u18, u19, u20, u21, u22, u23, u24, u25, u26, u27, u28, u29, u30, u31, u32, u33, u34, u35, u36, u37, u38, u39, u40, u41) => wX_siftOne_64 post (nI s) (nI (n - 1)) u1 u2 u3 u4 u5 u6 u7 u8 u9 u10 u11 u12 u13 u14 u15 u16 u17 u18 u19 u20 u21 u22 u23 u24 u25 u26 u27 u28 u29 u30 u31 u32 u33 u34 u35 u36 u37 u38 u39 u40 u41) (u1, u2, u3, u4, u5, u6, u7, u8, u9, u10, u11, u12, u13, u14, u15, u16, u17, u18, u19, u20, u21, u22, u23, u24, u25, u26, u27, u28, u29, u30, u31, u32, u33, u34, u35, u36, u37, u38, u39, u40, u41) 0 (nI (n - 1))) (st_ n la li E hh va lv T C M G W ((fu_u (si_z S) s (tb_to T), si_c S))) (nI s) 0)) → wpX_siftOne post (st_ n la li E hh va lv T C M G W S) (nI (va s)) := fun post hp => by
      unfold wpX_siftOne st_
      dsimp only
      rw [nI_clamp (n := va s) (by omega)]
      refine ⟨vp_in_nI (by omega) (by omega), nm_r (e' := nI s) (by show nI (lv (va s)) = _; rw [v2]) (nm_r e1 ⟨vs, nm_r (e' := en_I (fu_u (si_z S) s (tb_to T))) (by rw [nI_clamp (n := s) (by omega)]; exact en_uI) ?_⟩)⟩
      rw [e2]
      exact pk_le (n - 1 - s) s (fun z => hp.1 z) (fun z => hp.2 z)
    by_cases c : n - 1 - s ≤ s
    · obtain ⟨lv1, T1, C1, W1, S1, φ1, a1, a2, a3, a4, a5⟩ := xm_reloc (M := M) (G := G) (W := W) (S := (fu_u (si_z S) s (tb_to T), si_c S)) (a := s) (t := n - 1) N n6 hs (by omega) h0
      obtain ⟨lv2, T2, C2, W2, S2, φ2, b1, b2, b3, b4, b5⟩ := xm_reloc (M := M) (G := G) (W := W1) (S := S1) (a := n - 1) (t := 0) N n6 (by omega) (by omega) a1
      refine ⟨0, by omega, lv2, T2, C2, W2, S2, φ2, b1, b2.trans a2, fun i hi => ?_, fun post hp => start post ⟨fun _ => ?_, fun z => by omega⟩⟩
      · by_cases d : i < n - 1
        · exact b4 i (Or.inr ⟨by omega, d⟩)
        · have e : i = n - 1 := by omega
          refine b3 i hi ?_
          by_cases q : i = s
          · refine a3 i hi ?_
            rw [q]; exact base
          · exact a4 i (Or.inl ⟨by omega, by omega⟩)
      · rw [pv_s] at a5
        refine a5 _ ?_
        dsimp only [st_]
        refine b5 _ ?_
        dsimp only [st_]
        exact hp
    · obtain ⟨lv1, T1, C1, W1, S1, φ1, a1, a2, a3, a4, a5⟩ := xm_reloc (M := M) (G := G) (W := W) (S := (fu_u (si_z S) s (tb_to T), si_c S)) (a := s) (t := 0) N n6 hs (by omega) h0
      obtain ⟨lv2, T2, C2, W2, S2, φ2, b1, b2, b3, b4, b5⟩ := xm_reloc (M := M) (G := G) (W := W1) (S := S1) (a := 0) (t := n - 1) N n6 (by omega) (by omega) a1
      refine ⟨n - 1, by omega, lv2, T2, C2, W2, S2, φ2, b1, b2.trans a2, fun i hi => ?_, fun post hp => start post ⟨fun z => absurd z c, fun _ => ?_⟩⟩
      · by_cases d : 0 < i
        · exact b4 i (Or.inl ⟨d, by omega⟩)
        · have e : i = 0 := by omega
          refine b3 i hi ?_
          by_cases q : i = s
          · refine a3 i hi ?_
            rw [q]; exact base
          · exact a4 i (Or.inr ⟨by omega, by omega⟩)
      · rw [pv_s] at a5
        refine a5 _ ?_
        dsimp only [st_]
        refine b5 _ ?_
        dsimp only [st_]
        exact hp
  have hb : ∀ i, i < n → si_z S2 i ≤ 504 := fun i hi => (g2 i hi).le
  have fin := bs_in hs hb (Nat.le_refl n)
  obtain ⟨lv3, T3, C3, W3, S3, φ3, d1, d2, d3, d4, d5⟩ := xm_reloc (M := M) (G := G) (W := W2) (S := S2) (a := en) (t := (bs_ (si_z S2) s n).2) N n6 en1 fin.2 h2
  refine ⟨lv3, T3, C3, W3, S3, φ3, si_z S2, d1, d2.trans c2, g2, fun post hp => w2 post ?_⟩
  unfold wX_siftOne_64
  rw [nI_clamp (n := s) (by omega)]
  refine ⟨vs, nm_r (e' := nI (si_z S2 s)) rfl ⟨n + 1, ?_⟩⟩
  have loop : ∀ m p, p + m = n → wX_siftOne_82 post (nI en) (nI (si_z S2 s)) (nI n) (nI la) (nI li) (nI (tb_fh T2)) (nI (tb_lo T2)) (nI (tb_to T2)) (nI (ma_F M)) (nI (ma_G M)) (nI (ma_H M)) (nI (ma_n M)) (nI (ga_n G)) (nI (wo_n W2)) (en_E E) (en_I hh) (en_I (pv_ n va s en)) (en_I lv2) (en_V (tb_V T2)) (en_I (tb_L T2)) (en_I (tb_H T2)) (en_I (tb_R T2)) (en_I (tb_X T2)) (en_I (tb_D T2)) (en_I (tb_Q T2)) (en_I (ca_F C2)) (en_I (ca_G C2)) (en_I (ca_H C2)) (en_I (ca_R C2)) (en_I (ma_f M)) (en_I (ma_g M)) (en_I (ma_h M)) (en_I (ma_v M)) (en_I (ma_p M)) (en_I (ma_l M)) (en_I (ma_b M)) (en_I (ga_r G)) (en_I (ga_s G)) (en_I (ga_i G)) (en_I (ga_w G)) (en_I (wo_w W2)) (en_I (si_z S2)) (en_I (si_c S2)) (m + 1) (nI (bs_ (si_z S2) s p).1) (nI (bs_ (si_z S2) s p).2) (nI p) := by
    intro m
    induction m with
    | zero =>
      intro p hp'
      have e : p = n := by omega
      subst e
      exact pk_le p p (fun _ => d5 _ hp) (fun z => by omega)
    | succ m ih =>
      intro p hp'
      have ih' := ih (p + 1) (by omega)
      have b1 := bs_in hs hb (m := p) (by omega)
      have b2 := hb p (by omega)
      have vp : vp_in (nI p) 6 := vp_in_nI (by omega) (by omega)
      refine pk_le n p (fun z => by omega) (fun _ => ⟨vp, ?_⟩)
      rw [nI_clamp (n := p) (by omega)]
      refine pk_le (bs_ (si_z S2) s p).1 (si_z S2 p) (fun z => nm_r (nI_1 _) ?_) (fun z => ⟨vp, nm_r (e' := nI (si_z S2 p)) rfl (nm_r (nI_1 _) ?_)⟩)
      · simp only [bs_] at ih'
        rw [if_neg (by omega)] at ih'
        exact ih'
      · simp only [bs_] at ih'
        rw [if_pos (by omega)] at ih'
        exact ih'
  exact loop n 0 (by omega)
end
end
section
/-! sift on both sides -/
section
variable {n la li : Nat} {E hh va lv : Nat → Nat} {T : TN_} {C : CN_} {M : MN_} {G : GN_} {W : WN_} {S : SN_} {φ : Nat → BF_} {B : Nat → Nat → Bool} {us : Nat → Nat} {ot : Nat → Int32} {sn : Nat → Int64} {sw ls lt : Nat → Int32}
def oi_ (n : Nat) (va0 : Nat → Nat) (s p : Nat) (va : Nat → Nat) (i : Nat) : Nat → Nat := fun j => if j < i then pv_ n va0 s p j else va j
theorem oi_s {s p i : Nat} {va0 : Nat → Nat} : oi_ n va0 s p va (i + 1) = fu_u (oi_ n va0 s p va i) i (pv_ n va0 s p i) := by
  funext j
  unfold oi_ fu_u
  by_cases e : j = i
  · rw [if_pos e, e, if_pos (by omega)]
  · rw [if_neg e]
    dsimp only
    by_cases d : j < i
    · rw [if_pos d, if_pos (by omega)]
    · rw [if_neg d, if_neg (by omega)]
theorem yw_place {s p : Nat} {va0 : Nat → Nat} {post : SY → Prop} (n6 : n ≤ 6) (hp : p < n) (hot : ∀ k, k + 1 < n → ot k = nI (ov_ va0 s k)) (hva : ∀ i, ¬ i < n → va i = va0 i) (h : post (sy_ n la li B hh us (pv_ n va0 s p) ot sn sw ls lt)) : wpY_place post (sy_ n la li B hh us va ot sn sw ls lt) (nI (va0 s)) (nI p) := by
  have loop : ∀ m i, i + m = n → wY_place_2 post (nI (va0 s)) (nI p) (nI n) (nI la) (nI li) (nI (2 ^ n)) (m + 1) (nI i) (en_F n B) (en_I hh) (en_I us) (en_O (oi_ n va0 s p va i)) ot sn sw ls lt := by
    intro m
    induction m with
    | zero =>
      intro i hi
      have e : i = n := by omega
      subst e
      refine pk_le i i (fun _ => ?_) (fun z => by omega)
      have eq : oi_ i va0 s p va i = pv_ i va0 s p := by
        funext j
        unfold oi_
        by_cases c : j < i
        · rw [if_pos c]
        · rw [if_neg c, pv_out c]; exact hva j c
      rw [eq]
      exact h
    | succ m ih =>
      intro i hi
      have ih' := ih (i + 1) (by omega)
      rw [oi_s] at ih'
      have vi : vp_in (nI i) 6 := vp_in_nI (by omega) (by omega)
      refine pk_le n i (fun z => by omega) (fun _ => pk_le p i (fun z => pk_eq i p (fun y => ⟨vi, ?_⟩) (fun y => ⟨?_, vi, ?_⟩)) (fun z => ⟨vi, vi, ?_⟩))
      · rw [nI_clamp (n := i) (by omega)]
        refine nm_r (en_uO (by omega)) (nm_r (nI_1 _) ?_)
        subst y
        rw [pv_eq hp] at ih'
        exact ih'
      · rw [show nI i - 1 = nI (i - 1) from pk_sub (b := 1) (by omega)]
        exact vp_in_nI (by omega) (by omega)
      · rw [show nI i - 1 = nI (i - 1) from pk_sub (b := 1) (by omega), nI_clamp (n := i) (by omega), nI_clamp (n := i - 1) (by omega), hot (i - 1) (by omega)]
        refine nm_r (en_uO (by omega)) (nm_r (nI_1 _) ?_)
        rw [pv_gt (by omega) (by omega)] at ih'
        exact ih'
      · rw [nI_clamp (n := i) (by omega), hot i (by omega)]
        refine nm_r (en_uO (by omega)) (nm_r (nI_1 _) ?_)
        rw [pv_lt (by omega) z] at ih'
        exact ih'
  unfold wpY_place sy_
  dsimp only
  refine ⟨n + 1, ?_⟩
  have w := loop n 0 (by omega)
  have e : oi_ n va0 s p va 0 = va := by
    funext j
    unfold oi_
    rw [if_neg (by omega)]
  rw [e] at w
  exact w
theorem yw_82 {s : Nat} {va0 sz : Nat → Nat} {post : Int32 → SY → Prop} (N : Hn_ la li E hh) (n6 : n ≤ 6) (hs : s < n) (hot : ∀ k, k + 1 < n → ot k = nI (ov_ va0 s k)) (hz : ∀ i, i < n → Sz_ n E B us (pv_ n va0 s i) (sz i)) (hp : ∀ sn', post (nI (sz s) - nI (bs_ sz s n).1) (sy_ n la li B hh us (pv_ n va0 s (bs_ sz s n).2) ot sn' sw ls lt)) : ∀ (m p : Nat) (va : Nat → Nat) (sn : Nat → Int64), p + m = n → (∀ i, ¬ i < n → va i = va0 i) → wY_sift_82 post (nI (va0 s)) (nI (sz s)) (m + 1) (nI (bs_ sz s p).2) (nI (bs_ sz s p).1) (nI p) (nI n) (nI la) (nI li) (nI (2 ^ n)) (en_F n B) (en_I hh) (en_I us) (en_O va) ot sn sw ls lt
  | 0, p, va, sn, hm, hva => by
    have e : p = n := by omega
    subst e
    have fin := bs_in hs (fun i hi => (hz i hi).le) (Nat.le_refl p)
    refine pk_le p p (fun _ => ?_) (fun z => by omega)
    exact yw_place n6 fin.2 hot hva (hp sn)
  | m + 1, p, va, sn, hm, hva => by
    have b1 := bs_in hs (fun i hi => (hz i hi).le) (m := p) (by omega)
    have b2 := (hz p (by omega)).le
    refine pk_le n p (fun z => by omega) (fun _ => ?_)
    refine yw_place n6 (by omega) hot hva ?_
    dsimp only [sy_]
    refine yw_sz (va := pv_ n va0 s p) N (hz p (by omega)) (fun sn' => ?_)
    dsimp only [sy_]
    have ih := yw_82 N n6 hs hot hz hp m (p + 1) (pv_ n va0 s p) sn' (by omega) (fun i hi => pv_out hi)
    refine pk_le (bs_ sz s p).1 (sz p) (fun z => nm_r (nI_1 _) ?_) (fun z => nm_r (nI_1 _) ?_)
    · simp only [bs_] at ih
      rw [if_neg (by omega)] at ih
      exact ih
    · simp only [bs_] at ih
      rw [if_pos (by omega)] at ih
      exact ih
theorem yw_21 {s : Nat} {sz : Nat → Nat} {post : Int32 → SY → Prop} (N : Hn_ la li E hh) (P : Pm_ n va lv) (hs : s < n) (hz : ∀ i, i < n → Sz_ n E B us (pv_ n va s i) (sz i)) (hp : ∀ ot' sn', post (nI (sz s) - nI (bs_ sz s n).1) (sy_ n la li B hh us (pv_ n va s (bs_ sz s n).2) ot' sn' sw ls lt)) : ∀ (m i : Nat) (ot : Nat → Int32), i + m = n → (∀ k, k < (if s < i then i - 1 else i) → ot k = nI (ov_ va s k)) → wY_sift_21 post (nI (va s)) (nI n) (nI la) (nI li) (nI (2 ^ n)) (m + 1) (nI (if s < i then s else 0)) (nI (if s < i then i - 1 else i)) (nI i) (en_F n B) (en_I hh) (en_I us) (en_O va) ot sn sw ls lt
  | 0, i, ot, hm, hot => by
    have n6 := P.1.2.1
    have e : i = n := by omega
    subst e
    rw [if_pos hs] at hot
    rw [if_pos hs]
    refine pk_le i i (fun _ => ?_) (fun z => by omega)
    have h0 := hz s hs
    rw [pv_s] at h0
    refine yw_sz N h0 (fun sn' => ?_)
    dsimp only [sy_]
    exact ⟨_, yw_82 (va0 := va) N n6 hs (fun k hk => hot k (by omega)) hz (hp ot) i 0 va sn' (by omega) (fun _ _ => rfl)⟩
  | m + 1, i, ot, hm, hot => by
    have n6 := P.1.2.1
    have vi : vp_in (nI i) 6 := vp_in_nI (by omega) (by omega)
    obtain ⟨a1, a2⟩ := P.2.1 i (by omega)
    obtain ⟨b1, b2⟩ := P.2.1 s hs
    refine pk_le n i (fun z => by omega) (fun _ => ⟨vi, ?_⟩)
    rw [nI_clamp (n := i) (by omega), en_Ok (show i < 6 by omega)]
    refine pk_eq (va i) (va s) (fun z => nm_r (nI_1 _) ?_) (fun z => ⟨vi, ?_, ?_⟩)
    · have e : i = s := by rw [← a2, ← b2, z]
      subst e
      rw [if_neg (Nat.lt_irrefl _)] at hot
      have ih := yw_21 N P hs hz hp m (i + 1) ot (by omega) (by rw [if_pos (by omega)]; exact hot)
      rw [if_pos (by omega), if_pos (by omega), show i + 1 - 1 = i from by omega] at ih
      rw [if_neg (Nat.lt_irrefl _)]
      exact ih
    · by_cases c : s < i
      · rw [if_pos c]; exact vp_in_nI (by omega) (by omega)
      · rw [if_neg c]; exact vp_in_nI (by omega) (by omega)
    · have hne : i ≠ s := fun e => z (by rw [e])
      by_cases c : s < i
      · rw [if_pos c] at hot
        rw [if_pos c, if_pos c, nI_clamp (n := i - 1) (by omega)]
        have ih := yw_21 N P hs hz hp m (i + 1) (upd ot (i - 1) (nI (va i))) (by omega) (by
          rw [if_pos (by omega)]
          intro k hk
          by_cases d : k = i - 1
          · rw [d, pk_us]; unfold ov_; rw [if_neg (by omega), show i - 1 + 1 = i from by omega]
          · rw [pk_un d]; exact hot k (by omega))
        rw [if_pos (by omega), if_pos (by omega), show i + 1 - 1 = i from by omega] at ih
        exact nm_r (e' := upd ot (i - 1) (nI (va i))) rfl (nm_r (e' := nI i) (by rw [nI_1]; exact congrArg nI (by omega)) (nm_r (nI_1 _) ih))
      · rw [if_neg c] at hot
        rw [if_neg c, if_neg c, nI_clamp (n := i) (by omega)]
        have ih := yw_21 N P hs hz hp m (i + 1) (upd ot i (nI (va i))) (by omega) (by
          rw [if_neg (by omega)]
          intro k hk
          by_cases d : k = i
          · rw [d, pk_us]; unfold ov_; rw [if_pos (by omega)]
          · rw [pk_un d]; exact hot k (by omega))
        rw [if_neg (by omega), if_neg (by omega)] at ih
        exact nm_r (e' := upd ot i (nI (va i))) rfl (nm_r (nI_1 _) (nm_r (nI_1 _) ih))
/-- one sift, both sides -/
theorem jn_sift {v : Nat} (r : Re_ n la li E hh va lv T C G φ B us) (hv : v < n) :
    ∃ x va' lv' T' C' W' S' φ', Re_ n la li E hh va' lv' T' C' G φ' B us ∧ si_c S' = si_c S ∧ (∀ post : Int32 → SX → Prop, post x (st_ n la li E hh va' lv' T' C' M G W' S') → wpX_siftOne post (st_ n la li E hh va lv T C M G W S) (nI v)) ∧ (∀ (post : Int32 → SY → Prop) (ot : Nat → Int32) (sn : Nat → Int64) (sw ls lt : Nat → Int32), (∀ ot' sn', post x (sy_ n la li B hh us va' ot' sn' sw ls lt)) → wpY_sift post (sy_ n la li B hh us va ot sn sw ls lt) (nI v)) := by
  obtain ⟨⟨P, I0, O, l0, K, g, N⟩, b⟩ := r
  have n6 := P.1.2.1
  obtain ⟨s1, s2⟩ := P.2.2 v hv
  obtain ⟨lv', T', C', W', S', φ', sz, a1, a2, a3, a4⟩ := xm_siftOne (M := M) (G := G) (W := W) (S := S) (s := lv v) N ⟨P, I0, O, l0, K, b⟩ s1
  rw [s2] at a4
  obtain ⟨P', I', O', l0', K', b'⟩ := a1
  refine ⟨_, _, lv', T', C', W', S', φ', ⟨⟨P', I', O', l0', K', g, N⟩, b'⟩, a2, a4, fun post ot sn sw ls lt hp => ?_⟩
  unfold wpY_sift sy_
  dsimp only
  refine br_f (nI_pos (by omega)) (br_t (nI_lt hv (by omega)) ⟨n + 1, ?_⟩)
  have y := yw_21 (sn := sn) (sw := sw) (ls := ls) (lt := lt) (post := post) N P s1 a3 hp n 0 ot (by omega) (by intro k hk; rw [if_neg (Nat.not_lt_zero _)] at hk; omega)
  rw [if_neg (Nat.not_lt_zero _), if_neg (Nat.not_lt_zero _), s2] at y
  exact y
end
theorem i_vc_sift {k : Nat} {u : SX} {v : SY} (I : i_Rel k u v) (hk : k + 4 ≤ 2051) (v1 : Int32) : wpX_sift (fun r u' => wpY_sift (fun r' v' => r' = r ∧ i_Rel (k + 4) u' v') v v1) u v1 := by
  refine ir_el (P := fun u v => wpX_sift (fun r u' => wpY_sift (fun r' v' => r' = r ∧ i_Rel (k + 4) u' v') v v1) u v1) I ?_
  intro n la li E hh va lv T C M G W S φ B us ot sn sw ls lt r
  have n6 := r.1.1.1.2.1
  unfold wpX_sift
  rcases pk_ix v1 (n := n) (by omega) with z | z | ⟨j, hj, e⟩
  · unfold wpY_sift
    exact br_t z (br_t z ⟨rfl, ir_mk r⟩)
  · unfold wpY_sift
    have h1 : ¬ v1 < nI n := Int32.not_lt.mpr z
    have h0 : ¬ v1 < 0 := fun c => h1 (Int32.lt_of_lt_of_le c (nI_pos' (by omega)))
    exact br_f h0 (br_f h1 (br_f h0 (br_f h1 ⟨rfl, ir_mk r⟩)))
  · subst e
    have h0 : ¬ nI j < 0 := nI_pos (by omega)
    have h1 : nI j < nI n := nI_lt hj (by omega)
    obtain ⟨x, va', lv', T', C', W', S', φ', R', c', wx, wy⟩ := jn_sift (M := M) (W := W) (S := S) r hj
    refine br_f h0 (br_t h1 ?_)
    refine wx _ ?_
    dsimp only [st_]
    exact wy _ ot sn sw ls lt (fun ot' sn' => ⟨rfl, ir_mk R'⟩)
end
section
/-! siftAll -/
/-- sc lists 0 .. i - 1, by falling key, then by rising number -/
def Ks_ (key sc : Nat → Nat) (i : Nat) : Prop :=
  (∀ k, k < i → sc k < i) ∧ (∀ k l, k < i → l < i → sc k = sc l → k = l) ∧ (∀ w, w < i → ∃ k, k < i ∧ sc k = w) ∧ (∀ k l, k < l → l < i → key (sc l) < key (sc k) ∨ (key (sc l) = key (sc k) ∧ sc k < sc l))
theorem in_f1 {sc : Nat → Nat} {q i x k : Nat} (hq : q ≤ i) : in_ sc q i x k = fu_u sc i x (sg_ q i k) := by
  unfold in_ sg_
  by_cases a : k = q
  · rw [if_pos a, if_pos a, fu_s]
  · rw [if_neg a, if_neg a]
    by_cases b : q < k ∧ k ≤ i
    · rw [if_pos b, if_pos b, fu_n (by omega)]
    · rw [if_neg b, if_neg b, fu_n (by omega)]
theorem ks_ins {key sc : Nat → Nat} {i q : Nat} (h : Ks_ key sc i) (hq : q ≤ i) (h1 : ∀ j, q ≤ j → j < i → key (sc j) < key i) (h2 : q = 0 ∨ key i ≤ key (sc (q - 1))) : Ks_ key (in_ sc q i i) (i + 1) := by
  obtain ⟨a, b, c, d⟩ := h
  have f1 : ∀ k, k < i + 1 → fu_u sc i i k < i + 1 := fun k hk => by
    by_cases e : k = i
    · rw [e, fu_s]; omega
    · rw [fu_n e]; have := a k (by omega); omega
  have f2 : ∀ k l, k < i + 1 → l < i + 1 → fu_u sc i i k = fu_u sc i i l → k = l := fun k l hk hl e => by
    by_cases e1 : k = i
    · by_cases e2 : l = i
      · omega
      · rw [e1, fu_s, fu_n e2] at e
        have := a l (by omega)
        omega
    · by_cases e2 : l = i
      · rw [e2, fu_s, fu_n e1] at e
        have := a k (by omega)
        omega
      · rw [fu_n e1, fu_n e2] at e
        exact b k l (by omega) (by omega) e
  have low : ∀ j, j < q → key i ≤ key (sc j) := fun j hj => by
    rcases h2 with z | z
    · omega
    · by_cases e : j = q - 1
      · rw [e]; exact z
      · have := d j (q - 1) (by omega) (by omega)
        omega
  refine ⟨fun k hk => ?_, fun k l hk hl e => ?_, fun w hw => ?_, fun k l hkl hl => ?_⟩
  · rw [in_f1 hq]; exact f1 _ (sg_lt hq (by omega) hk)
  · rw [in_f1 hq, in_f1 hq] at e
    exact sg_inj hq (f2 _ _ (sg_lt hq (by omega) hk) (sg_lt hq (by omega) hl) e)
  · by_cases e : w = i
    · exact ⟨q, by omega, by rw [in_f1 hq]; unfold sg_; rw [if_pos rfl, fu_s, e]⟩
    · obtain ⟨k, k1, k2⟩ := c w (by omega)
      obtain ⟨l, l1, l2⟩ := sg_sur (q := q) (i := i) (j := k) (m := i + 1) hq (by omega) (by omega)
      exact ⟨l, l1, by rw [in_f1 hq, l2, fu_n (by omega)]; exact k2⟩
  · unfold in_
    by_cases e1 : k = q
    · rw [if_pos e1, if_neg (by omega), if_pos (by omega)]
      exact Or.inl (h1 (l - 1) (by omega) (by omega))
    · rw [if_neg e1]
      by_cases e2 : q < k ∧ k ≤ i
      · rw [if_pos e2, if_neg (by omega), if_pos (by omega)]
        exact d _ _ (by omega) (by omega)
      · rw [if_neg e2]
        by_cases e3 : l = q
        · rw [if_pos e3]
          have := low k (by omega)
          have := a k (by omega)
          omega
        · rw [if_neg e3]
          by_cases e4 : q < l ∧ l ≤ i
          · rw [if_pos e4]
            exact d _ _ (by omega) (by omega)
          · rw [if_neg e4]
            exact d _ _ (by omega) (by omega)
section
variable {n la li : Nat} {E hh va lv : Nat → Nat} {T : TN_} {C : CN_} {M : MN_} {G : GN_} {W : WN_} {S : SN_} {φ : Nat → BF_} {B : Nat → Nat → Bool} {us : Nat → Nat} {ot : Nat → Int32} {sn : Nat → Int64} {sw ls lt : Nat → Int32}
theorem xw_insS {post : Int32 → SX → Prop} {i : Nat} {zs sc : Nat → Nat} {J : Int32 → (Nat → Int32) → (Nat → Int32) → (Nat → Int32) → (Nat → Int32) → (Nat → Int32) → (Nat → Int32) → (Nat → Int32) → (Nat → Int32) → (Nat → Int32) → (Nat → Int32) → (Nat → Int32) → (Nat → Int32) → (Nat → Int32) → (Nat → Int32) → (Nat → Int32) → (Nat → Int32) → (Nat → Int32) → (Nat → Int32) → (Nat → Int32) → (Nat → Int32) → (Nat → Int32) → (Nat → Int32) → (Nat → Int32) → (Nat → Int32) → (Nat → Int32) → (Nat → Int32) → (Nat → Int32) → (Nat → Int32) → (Nat → Int32) → Prop}
    (hi : i < 6) (hr : ∀ k, k < i → sc k < 6) (hk : ∀ w, w < 6 → tb_Q T w < 2 ^ 31) (hJ : ∀ q, q ≤ i → (∀ j, q ≤ j → j < i → tb_Q T (sc j) < tb_Q T i) → (q = 0 ∨ tb_Q T i ≤ tb_Q T (sc (q - 1))) → J (nI (i + 1)) (en_E E) (en_I hh) (en_I va) (en_I lv) (en_V (tb_V T)) (en_I (tb_L T)) (en_I (tb_H T)) (en_I (tb_R T)) (en_I (tb_X T)) (en_I (tb_D T)) (en_I (tb_Q T)) (en_I (ca_F C)) (en_I (ca_G C)) (en_I (ca_H C)) (en_I (ca_R C)) (en_I (ma_f M)) (en_I (ma_g M)) (en_I (ma_h M)) (en_I (ma_v M)) (en_I (ma_p M)) (en_I (ma_l M)) (en_I (ma_b M)) (en_I (ga_r G)) (en_I (ga_s G)) (en_I (ga_i G)) (en_I (ga_w G)) (en_I (wo_w W)) (en_I (si_z ((zs, in_ sc q i i)))) (en_I (si_c ((zs, in_ sc q i i))))) :
    ∀ (p : Nat), p ≤ i → (∀ j, p ≤ j → j < i → tb_Q T (sc j) < tb_Q T i) → wX_siftAll_12 post J (nI i) (nI n) (nI la) (nI li) (nI (tb_fh T)) (nI (tb_lo T)) (nI (tb_to T)) (nI (ma_F M)) (nI (ma_G M)) (nI (ma_H M)) (nI (ma_n M)) (nI (ga_n G)) (nI (wo_n W)) (p + 1) (nI p) (en_E E) (en_I hh) (en_I va) (en_I lv) (en_V (tb_V T)) (en_I (tb_L T)) (en_I (tb_H T)) (en_I (tb_R T)) (en_I (tb_X T)) (en_I (tb_D T)) (en_I (tb_Q T)) (en_I (ca_F C)) (en_I (ca_G C)) (en_I (ca_H C)) (en_I (ca_R C)) (en_I (ma_f M)) (en_I (ma_g M)) (en_I (ma_h M)) (en_I (ma_v M)) (en_I (ma_p M)) (en_I (ma_l M)) (en_I (ma_b M)) (en_I (ga_r G)) (en_I (ga_s G)) (en_I (ga_i G)) (en_I (ga_w G)) (en_I (wo_w W)) (en_I (si_z ((zs, sf_ sc p i)))) (en_I (si_c ((zs, sf_ sc p i))))
  | 0, hp, hgt => by
    have e : fu_u (sf_ sc 0 i) 0 i = in_ sc 0 i i := by
      funext j; unfold fu_u in_ sf_; split <;> rfl
    refine br_t (by decide) ⟨vp_in_nI (by omega) (by omega), nm_r (e' := en_I (in_ sc 0 i i)) ?_ (nm_r (nI_1 _) (hJ 0 (by omega) hgt (Or.inl rfl)))⟩
    rw [← e, ← en_uI, show (nI 0).toNatClampNeg = 0 from rfl]
  | p + 1, hp, hgt => by
    have hvp : vp_in (nI (p + 1)) 6 := vp_in_nI (by omega) (by omega)
    have hvp0 : vp_in (nI p) 6 := vp_in_nI (by omega) (by omega)
    have r1 := hr p (by omega)
    have q1 := hk (sc p) r1
    have q2 := hk i hi
    have es : sf_ sc (p + 1) i p = sc p := by unfold sf_; rw [if_neg (by omega)]
    refine br_f (nI_nle (by omega) (by omega)) ?_
    rw [nI_pred p, nI_clamp (n := p) (by omega), nI_clamp (n := p + 1) (by omega), nI_clamp (n := i) (by omega)]
    have er : en_I (si_c (zs, sf_ sc (p + 1) i)) p = nI (sc p) := by show nI (sf_ sc (p + 1) i p) = _; rw [es]
    rw [er, nI_clamp (n := sc p) (by omega)]
    refine ⟨hvp0, vp_in_nI r1 (by omega), vp_in_nI hi (by omega), pk_le (tb_Q T i) (tb_Q T (sc p)) (fun z => ?_) (fun z => ?_) rfl rfl q2 q1⟩
    · have e : fu_u (sf_ sc (p + 1) i) (p + 1) i = in_ sc (p + 1) i i := by
        funext j; unfold fu_u in_ sf_; split <;> rfl
      refine ⟨hvp, nm_r (e' := en_I (in_ sc (p + 1) i i)) ?_ (nm_r (nI_1 _) (hJ (p + 1) (by omega) hgt (Or.inr z)))⟩
      rw [← e, ← en_uI]
    · have e : fu_u (sf_ sc (p + 1) i) (p + 1) (sc p) = sf_ sc p i := by
        funext j; unfold fu_u sf_
        by_cases h1 : j = p + 1
        · rw [if_pos h1, if_pos (by omega), h1]; rfl
        · rw [if_neg h1]
          by_cases h2 : p + 1 < j ∧ j ≤ i
          · rw [if_pos h2, if_pos (by omega)]
          · rw [if_neg h2, if_neg (by omega)]
      refine ⟨hvp0, hvp, nm_r (e' := en_I (sf_ sc p i)) ?_ (nm_r (e' := nI p) (pk_m1 p) ?_)⟩
      · rw [← e, ← en_uI]
      · exact xw_insS hi hr hk hJ p (by omega) (fun j h1 h2 => by
          by_cases e : j = p
          · subst e; exact z
          · exact hgt j (by omega) h2)
theorem xw_sched {zs : Nat → Nat} (n6 : n ≤ 6) (hk : ∀ w, w < 6 → tb_Q T w < 2 ^ 31) : ∀ (m i : Nat) (sc : Nat → Nat), i + m = n → Ks_ (tb_Q T) sc i → ∃ sc', Ks_ (tb_Q T) sc' n ∧ ∀ post : Int32 → SX → Prop, (∃ N, wX_siftAll_75 post N 0 0 (nI n) (nI la) (nI li) (nI (tb_fh T)) (nI (tb_lo T)) (nI (tb_to T)) (nI (ma_F M)) (nI (ma_G M)) (nI (ma_H M)) (nI (ma_n M)) (nI (ga_n G)) (nI (wo_n W)) (en_E E) (en_I hh) (en_I va) (en_I lv) (en_V (tb_V T)) (en_I (tb_L T)) (en_I (tb_H T)) (en_I (tb_R T)) (en_I (tb_X T)) (en_I (tb_D T)) (en_I (tb_Q T)) (en_I (ca_F C)) (en_I (ca_G C)) (en_I (ca_H C)) (en_I (ca_R C)) (en_I (ma_f M)) (en_I (ma_g M)) (en_I (ma_h M)) (en_I (ma_v M)) (en_I (ma_p M)) (en_I (ma_l M)) (en_I (ma_b M)) (en_I (ga_r G)) (en_I (ga_s G)) (en_I (ga_i G)) (en_I (ga_w G)) (en_I (wo_w W)) (en_I (si_z ((zs, sc')))) (en_I (si_c ((zs, sc'))))) → wX_siftAll_2 post (nI n) (nI la) (nI li) (nI (tb_fh T)) (nI (tb_lo T)) (nI (tb_to T)) (nI (ma_F M)) (nI (ma_G M)) (nI (ma_H M)) (nI (ma_n M)) (nI (ga_n G)) (nI (wo_n W)) (m + 1) (nI i) (en_E E) (en_I hh) (en_I va) (en_I lv) (en_V (tb_V T)) (en_I (tb_L T)) (en_I (tb_H T)) (en_I (tb_R T)) (en_I (tb_X T)) (en_I (tb_D T)) (en_I (tb_Q T)) (en_I (ca_F C)) (en_I (ca_G C)) (en_I (ca_H C)) (en_I (ca_R C)) (en_I (ma_f M)) (en_I (ma_g M)) (en_I (ma_h M)) (en_I (ma_v M)) (en_I (ma_p M)) (en_I (ma_l M)) (en_I (ma_b M)) (en_I (ga_r G)) (en_I (ga_s G)) (en_I (ga_i G)) (en_I (ga_w G)) (en_I (wo_w W)) (en_I (si_z ((zs, sc)))) (en_I (si_c ((zs, sc))))
  | 0, i, sc, hi, h => by
    have e : i = n := by omega
    subst e
    exact ⟨sc, h, fun post hp => pk_le i i (fun _ => hp) (fun z => by omega)⟩
  | m + 1, i, sc, hi, h => by
    obtain ⟨q, q1, q2, q3⟩ : ∃ q, q ≤ i ∧ (∀ j, q ≤ j → j < i → tb_Q T (sc j) < tb_Q T i) ∧ (q = 0 ∨ tb_Q T i ≤ tb_Q T (sc (q - 1))) := by
      have k : ∀ p, p ≤ i → (∀ j, p ≤ j → j < i → tb_Q T (sc j) < tb_Q T i) → ∃ q, q ≤ i ∧ (∀ j, q ≤ j → j < i → tb_Q T (sc j) < tb_Q T i) ∧ (q = 0 ∨ tb_Q T i ≤ tb_Q T (sc (q - 1))) := by
        intro p
        induction p with
        | zero => intro h1 h2; exact ⟨0, h1, h2, Or.inl rfl⟩
        | succ p ih =>
          intro h1 h2
          by_cases c : tb_Q T i ≤ tb_Q T (sc p)
          · exact ⟨p + 1, h1, h2, Or.inr c⟩
          · exact ih (by omega) (fun j a b => by
              by_cases e : j = p
              · subst e; omega
              · exact h2 j (by omega) b)
      exact k i (Nat.le_refl _) (fun j a b => by omega)
    obtain ⟨sc', a1, a2⟩ := xw_sched n6 hk m (i + 1) (in_ sc q i i) (by omega) (ks_ins h q1 q2 q3)
    refine ⟨sc', a1, fun post hp => pk_le n i (fun z => by omega) (fun _ => ⟨i + 1, ?_⟩)⟩
    have e : sf_ sc i i = sc := by funext j; unfold sf_; rw [if_neg (by omega)]
    have w := xw_insS (n := n) (la := la) (li := li) (E := E) (hh := hh) (va := va) (lv := lv) (T := T) (C := C) (M := M) (G := G) (W := W) (post := post) (i := i) (zs := zs) (sc := sc) (J := wX_siftAll_2 post (nI n) (nI la) (nI li) (nI (tb_fh T)) (nI (tb_lo T)) (nI (tb_to T)) (nI (ma_F M)) (nI (ma_G M)) (nI (ma_H M)) (nI (ma_n M)) (nI (ga_n G)) (nI (wo_n W)) (m + 1)) (by omega) (fun k hk => by have := h.1 k hk; omega) hk (fun q' b1 b2 b3 => by
      have : q' = q := by
        rcases Nat.lt_trichotomy q' q with z | z | z
        · rcases q3 with y | y
          · omega
          · have := b2 (q - 1) (by omega) (by omega); omega
        · exact z
        · rcases b3 with y | y
          · omega
          · have := q2 (q' - 1) (by omega) (by omega); omega
      subst this
      exact a2 post hp) i (Nat.le_refl _) (fun j a b => by omega)
    rw [e] at w
    exact w
/-! the reference's list -/
theorem yw_55 {post : Int32 → SY → Prop} {J : Int32 → (Nat → Int64) → (Nat → Int32) → (Nat → Int32) → (Nat → Int32) → (Nat → Int32) → (Nat → Int64) → (Nat → Int32) → (Nat → Int32) → (Nat → Int32) → Prop} {key sc : Nat → Nat} {i : Nat} (n6 : n ≤ 6) (hi : i < n) (h : Ks_ key sc n) (hkb : ∀ w, w < n → key w < 2 ^ 31) (hsw : ∀ w, w < n → sw w = nI (key w)) (hls : ∀ k, k < n → ls (sc k) = if k < i then 1 else 0)
    (hJ : J (nI (i + 1)) (en_F n B) (en_I hh) (en_I us) (en_O va) ot sn sw (upd ls (sc i) 1) (upd lt i (nI (sc i)))) : ∀ (m w : Nat) (x : Int32), w + m = n → ((x = -1 ∧ ∀ z, z < w → ls z ≠ 0) ∨ (∃ a, x = nI a ∧ a < w ∧ ls a = 0 ∧ ∀ z, z < w → ls z = 0 → key z < key a ∨ (key z = key a ∧ a ≤ z))) → wY_siftAll_55 post J (nI i) (nI n) (nI la) (nI li) (nI (2 ^ n)) (en_F n B) (en_I hh) (en_I us) (en_O va) ot sn sw ls lt (m + 1) x (nI w)
  | 0, w, x, hm, hx => by
    have e : w = n := by omega
    subst e
    obtain ⟨s1, s2, s3, s4⟩ := h
    have hi0 : ls (sc i) = 0 := by rw [hls i hi, if_neg (Nat.lt_irrefl _)]
    rcases hx with ⟨-, z⟩ | ⟨a, e, a1, a2, a3⟩
    · exact absurd hi0 (z _ (s1 i hi))
    · have : a = sc i := by
        obtain ⟨k, k1, k2⟩ := s3 a a1
        have hk0 := hls k k1
        rw [k2, a2] at hk0
        have hki : ¬ k < i := fun c => by rw [if_pos c] at hk0; exact absurd hk0 (by decide)
        by_cases c : k = i
        · rw [← c]; exact k2.symm
        · have q1 := s4 i k (by omega) k1
          have q2 := a3 (sc i) (s1 i hi) hi0
          rw [k2] at q1
          omega
      subst e
      subst this
      have va1 : vp_in (nI (sc i)) 6 := vp_in_nI (by omega) (by omega)
      refine pk_le w w (fun _ => br_f (nI_pos (by omega)) ?_) (fun z => by omega)
      rw [nI_clamp (n := sc i) (by omega), nI_clamp (n := i) (by omega)]
      exact ⟨va1, nm_r (e' := upd ls (sc i) 1) rfl ⟨vp_in_nI (by omega) (by omega), nm_e (nm_r (nI_1 _) hJ)⟩⟩
  | m + 1, w, x, hm, hx => by
    have vw : vp_in (nI w) 6 := vp_in_nI (by omega) (by omega)
    have go := fun x => yw_55 (post := post) n6 hi h hkb hsw hls hJ m (w + 1) x (by omega)
    have l01 : ls w = 0 ∨ ls w = 1 := by
      obtain ⟨k, k1, k2⟩ := h.2.2.1 w (by omega)
      rw [← k2, hls k k1]
      by_cases c : k < i
      · rw [if_pos c]; exact Or.inr rfl
      · rw [if_neg c]; exact Or.inl rfl
    refine pk_le n w (fun z => by omega) (fun _ => ⟨vw, ?_⟩)
    rw [nI_clamp (n := w) (by omega)]
    by_cases c : ls w = 0
    · refine br_t c ?_
      rcases hx with ⟨e, z⟩ | ⟨a, e, a1, a2, a3⟩
      · subst e
        refine br_t (by decide) (nm_r (nI_1 _) (go _ (Or.inr ⟨w, rfl, by omega, c, fun y hy hl => ?_⟩)))
        by_cases d : y = w
        · subst d; exact Or.inr ⟨rfl, Nat.le_refl _⟩
        · exact absurd hl (z y (by omega))
      · subst e
        have kw := hkb w (by omega)
        have ka := hkb a (by omega)
        refine br_f (nI_pos (by omega)) ⟨vw, vp_in_nI (by omega) (by omega), ?_⟩
        rw [nI_clamp (n := a) (by omega), hsw w (by omega), hsw a (by omega)]
        refine pk_le (key w) (key a) (fun q => nm_r (nI_1 _) (go _ (Or.inr ⟨a, rfl, by omega, a2, fun y hy hl => ?_⟩))) (fun q => nm_r (nI_1 _) (go _ (Or.inr ⟨w, rfl, by omega, c, fun y hy hl => ?_⟩)))
        · by_cases d : y = w
          · subst d; omega
          · exact a3 y (by omega) hl
        · by_cases d : y = w
          · subst d; exact Or.inr ⟨rfl, Nat.le_refl _⟩
          · have := a3 y (by omega) hl
            omega
    · refine br_f c (nm_r (nI_1 _) (go _ ?_))
      rcases hx with ⟨e, z⟩ | ⟨a, e, a1, a2, a3⟩
      · refine Or.inl ⟨e, fun y hy => ?_⟩
        by_cases d : y = w
        · subst d; exact c
        · exact z y (by omega)
      · refine Or.inr ⟨a, e, by omega, a2, fun y hy hl => ?_⟩
        by_cases d : y = w
        · subst d; exact absurd hl c
        · exact a3 y (by omega) hl
theorem yw_43 {post : Int32 → SY → Prop} {key sc : Nat → Nat} (n6 : n ≤ 6) (h : Ks_ key sc n) (hkb : ∀ w, w < n → key w < 2 ^ 31) (hsw : ∀ w, w < n → sw w = nI (key w)) (hp : ∀ ls' lt', (∀ k, k < n → lt' k = nI (sc k)) → ∃ N, wY_siftAll_127 post N 0 0 (nI n) (nI la) (nI li) (nI (2 ^ n)) (en_F n B) (en_I hh) (en_I us) (en_O va) ot sn sw ls' lt') : ∀ (m i : Nat) (ls lt : Nat → Int32), i + m = n → (∀ k, k < n → ls (sc k) = if k < i then 1 else 0) → (∀ k, k < i → lt k = nI (sc k)) → wY_siftAll_43 post (nI n) (nI la) (nI li) (nI (2 ^ n)) (m + 1) (nI i) (en_F n B) (en_I hh) (en_I us) (en_O va) ot sn sw ls lt
  | 0, i, ls, lt, hm, hls, hlt => by
    have e : i = n := by omega
    subst e
    exact pk_le i i (fun _ => hp ls lt hlt) (fun z => by omega)
  | m + 1, i, ls, lt, hm, hls, hlt => by
    refine pk_le n i (fun z => by omega) (fun _ => ⟨n + 1, ?_⟩)
    refine yw_55 n6 (by omega) h hkb hsw hls ?_ n 0 (-1) (by omega) (Or.inl ⟨rfl, fun z hz => by omega⟩)
    refine yw_43 n6 h hkb hsw hp m (i + 1) _ _ (by omega) (fun k hk => ?_) (fun k hk => ?_)
    · by_cases c : k = i
      · rw [c, pk_us, if_pos (by omega)]
      · rw [pk_un (fun q => c (h.2.1 k i hk (by omega) q)), hls k hk]
        by_cases d : k < i
        · rw [if_pos d, if_pos (by omega)]
        · rw [if_neg d, if_neg (by omega)]
    · by_cases c : k = i
      · rw [c, pk_us]
      · rw [pk_un c]; exact hlt k (by omega)
theorem yw_sa2 {post : Int32 → SY → Prop} (P : Pm_ n va lv) (I : Ti_ n E 0 T φ) (O : Od_ 0 lv (tb_V T) (tb_L T) (tb_H T)) (l0 : tb_lo T = 0) (N : Hn_ la li E hh) (b : Bu_ n E φ B us) (hp : ∀ sn' sw' ls', (∀ w, w < n → sw' w = nI (tb_Q T w)) → (∀ w, w < n → ls' w = 0) → ∃ N, wY_siftAll_43 post (nI n) (nI la) (nI li) (nI (2 ^ n)) N 0 (en_F n B) (en_I hh) (en_I us) (en_O va) ot sn' sw' ls' lt) : ∀ (m l : Nat) (sn : Nat → Int64) (sw ls : Nat → Int32), l + m = n → (∀ j, j < l → sw (va j) = nI (tb_Q T (va j)) ∧ ls (va j) = 0) → wY_siftAll_2 post (m + 1) (nI l) (nI n) (nI la) (nI li) (nI (2 ^ n)) (en_F n B) (en_I hh) (en_I us) (en_O va) ot sn sw ls lt
  | 0, l, sn, sw, ls, hm, hf => by
    have n6 := P.1.2.1
    have e : l = n := by omega
    subst e
    refine pk_le l l (fun _ => hp sn sw ls (fun w hw => ?_) (fun w hw => ?_)) (fun z => by omega)
    · obtain ⟨q1, q2⟩ := P.2.2 w hw
      have := (hf _ q1).1
      rw [q2] at this
      exact this
    · obtain ⟨q1, q2⟩ := P.2.2 w hw
      have := (hf _ q1).2
      rw [q2] at this
      exact this
  | m + 1, l, sn, sw, ls, hm, hf => by
    have n6 := P.1.2.1
    have vl : vp_in (nI l) 6 := vp_in_nI (by omega) (by omega)
    obtain ⟨a1, a2⟩ := P.2.1 l (by omega)
    have vv : vp_in (nI (va l)) 6 := vp_in_nI (by omega) (by omega)
    refine pk_le n l (fun z => by omega) (fun _ => ⟨vl, nm_r (e' := nI (va l)) (by rw [nI_clamp (n := l) (by omega)]; exact en_Ok (by omega)) ?_⟩)
    unfold wpY_width
    refine br_f (nI_pos (by omega)) (br_t (nI_lt (by omega) (by omega)) ?_)
    refine yw_wAll P I O l0 N b (by omega) (fun sn' => ?_)
    dsimp only [sy_]
    rw [nI_clamp (n := va l) (by omega)]
    refine ⟨vv, nm_e ⟨vv, nm_e (nm_r (nI_1 _) ?_)⟩⟩
    refine yw_sa2 P I O l0 N b hp m (l + 1) sn' _ _ (by omega) (fun j hj => ?_)
    by_cases c : j = l
    · rw [c, pk_us, pk_us, I.2.2.2.2.2.1.2 (va l) (by omega)]
      exact ⟨rfl, rfl⟩
    · have hne : va j ≠ va l := fun q => by
        have := (P.2.1 j (by omega)).2
        rw [q, a2] at this
        omega
      rw [pk_un hne, pk_un hne]
      exact hf j (by omega)
/-- the sifts of all variables, both sides -/
theorem jn_sall {sc : Nat → Nat} (hsc : ∀ k, k < n → sc k < n) : ∀ (m i : Nat) (x1 : Int32) (va lv : Nat → Nat) (T : TN_) (C : CN_) (W : WN_) (S : SN_) (φ : Nat → BF_), i + m = n → Re_ n la li E hh va lv T C G φ B us → si_c S = sc →
    ∃ x va' lv' T' C' W' S' φ', Re_ n la li E hh va' lv' T' C' G φ' B us ∧ (∀ post : Int32 → SX → Prop, post x (st_ n la li E hh va' lv' T' C' M G W' S') → wX_siftAll_75 post (m + 1) x1 (nI i) (nI n) (nI la) (nI li) (nI (tb_fh T)) (nI (tb_lo T)) (nI (tb_to T)) (nI (ma_F M)) (nI (ma_G M)) (nI (ma_H M)) (nI (ma_n M)) (nI (ga_n G)) (nI (wo_n W)) (en_E E) (en_I hh) (en_I va) (en_I lv) (en_V (tb_V T)) (en_I (tb_L T)) (en_I (tb_H T)) (en_I (tb_R T)) (en_I (tb_X T)) (en_I (tb_D T)) (en_I (tb_Q T)) (en_I (ca_F C)) (en_I (ca_G C)) (en_I (ca_H C)) (en_I (ca_R C)) (en_I (ma_f M)) (en_I (ma_g M)) (en_I (ma_h M)) (en_I (ma_v M)) (en_I (ma_p M)) (en_I (ma_l M)) (en_I (ma_b M)) (en_I (ga_r G)) (en_I (ga_s G)) (en_I (ga_i G)) (en_I (ga_w G)) (en_I (wo_w W)) (en_I (si_z S)) (en_I (si_c S))) ∧ (∀ (post : Int32 → SY → Prop) (ot : Nat → Int32) (sn : Nat → Int64) (sw ls lt : Nat → Int32), (∀ k, k < n → lt k = nI (sc k)) → (∀ ot' sn', post x (sy_ n la li B hh us va' ot' sn' sw ls lt)) → wY_siftAll_127 post (m + 1) x1 (nI i) (nI n) (nI la) (nI li) (nI (2 ^ n)) (en_F n B) (en_I hh) (en_I us) (en_O va) ot sn sw ls lt)
  | 0, i, x1, va, lv, T, C, W, S, φ, hm, r, hS => by
    have n6 := r.1.1.1.2.1
    have e : i = n := by omega
    subst e
    exact ⟨x1, va, lv, T, C, W, S, φ, r, fun post hp => pk_le i i (fun _ => hp) (fun z => by omega), fun post ot sn sw ls lt hlt hp => pk_le i i (fun _ => hp ot sn) (fun z => by omega)⟩
  | m + 1, i, x1, va, lv, T, C, W, S, φ, hm, r, hS => by
    have n6 := r.1.1.1.2.1
    have vi : vp_in (nI i) 6 := vp_in_nI (by omega) (by omega)
    have hi := hsc i (by omega)
    obtain ⟨x, va1, lv1, T1, C1, W1, S1, φ1, r1, s1, wx1, wy1⟩ := jn_sift (M := M) (W := W) (S := S) r hi
    obtain ⟨x', va', lv', T', C', W', S', φ', r', wx', wy'⟩ := jn_sall hsc m (i + 1) (x1 + x) va1 lv1 T1 C1 W1 S1 φ1 (by omega) r1 (s1.trans hS)
    refine ⟨x', va', lv', T', C', W', S', φ', r', fun post hp => ?_, fun post ot sn sw ls lt hlt hp => ?_⟩
    · refine pk_le n i (fun z => by omega) (fun _ => ⟨vi, ?_⟩)
      rw [nI_clamp (n := i) (by omega), show en_I (si_c S) i = nI (sc i) from by rw [hS]; rfl]
      refine wx1 _ ?_
      dsimp only [st_]
      exact nm_e (nm_r (nI_1 _) (wx' post hp))
    · refine pk_le n i (fun z => by omega) (fun _ => ⟨vi, ?_⟩)
      rw [nI_clamp (n := i) (by omega), hlt i (by omega)]
      refine wy1 _ ot sn sw ls lt (fun ot' sn' => ?_)
      dsimp only [sy_]
      exact nm_e (nm_r (nI_1 _) (wy' post ot' sn' sw ls lt hlt hp))
end
theorem i_vc_siftAll {k : Nat} {u : SX} {v : SY} (I : i_Rel k u v) (hk : k + 4 ≤ 2051) : wpX_siftAll (fun r u' => wpY_siftAll (fun r' v' => r' = r ∧ i_Rel (k + 4) u' v') v) u := by
  refine ir_el (P := fun u v => wpX_siftAll (fun r u' => wpY_siftAll (fun r' v' => r' = r ∧ i_Rel (k + 4) u' v') v) u) I ?_
  intro n la li E hh va lv T C M G W S φ B us ot sn sw ls lt r
  have rr := r
  obtain ⟨⟨P, I0, O, l0, K, g, N⟩, b⟩ := r
  have n6 := P.1.2.1
  have hkb : ∀ w, w < 6 → tb_Q T w < 2 ^ 31 := fun w hw => by
    rw [I0.2.2.2.2.2.1.2 w hw]
    have := sm_bd (f := fun j => if tb_V T j = w ∧ j ≠ 0 then 1 else 0) (b := 1) (m := 1024) (fun j _ => by (try dsimp only); split <;> omega)
    unfold vc_
    omega
  obtain ⟨sc, s1, s2⟩ := xw_sched (n := n) (la := la) (li := li) (E := E) (hh := hh) (va := va) (lv := lv) (T := T) (C := C) (M := M) (G := G) (W := W) (zs := si_z S) n6 hkb n 0 (si_c S) (by omega) ⟨fun k hk => by omega, fun k l hk => by omega, fun w hw => by omega, fun k l _ hl => by omega⟩
  obtain ⟨x, va', lv', T', C', W', S', φ', r', wx, wy⟩ := jn_sall (M := M) (sc := sc) s1.1 n 0 0 va lv T C W (si_z S, sc) φ (by omega) rr rfl
  unfold wpX_siftAll st_
  dsimp only
  refine ⟨n + 1, s2 _ ⟨n + 1, wx _ ?_⟩⟩
  unfold wpY_siftAll
  refine ⟨n + 1, ?_⟩
  refine yw_sa2 P I0 O l0 N b (fun sn' sw' ls' q1 q2 => ⟨n + 1, ?_⟩) n 0 sn sw ls (by omega) (fun j hj => by omega)
  refine yw_43 n6 s1 (fun w hw => hkb w (by omega)) q1 (fun ls'' lt' q3 => ⟨n + 1, ?_⟩) n 0 ls' lt (by omega) (fun k hk => by rw [if_neg (Nat.not_lt_zero _)]; exact q2 _ (s1.1 k hk)) (fun k hk => by omega)
  exact wy _ ot sn' sw' ls'' lt' q3 (fun ot'' sn'' => ⟨rfl, ir_mk r'⟩)
end
section
/-! table, satCount, support -/
theorem sh_n {n : Nat} (h2 : 2 ≤ n) (h6 : n ≤ 6) : (1 : Int32) <<< (nI n &&& 31) = nI (2 ^ n) := by
  rcases (by omega : n = 2 ∨ n = 3 ∨ n = 4 ∨ n = 5 ∨ n = 6) with e | e | e | e | e <;> subst e <;> decide
section
variable {n la li : Nat} {E hh va lv : Nat → Nat} {T : TN_} {C : CN_} {M : MN_} {G : GN_} {W : WN_} {S : SN_} {φ : Nat → BF_}
theorem ef_end {n : Nat} {V L H va lv : Nat → Nat} {φ : Nat → BF_} (S : Sm_ n V L H φ) (P : Pm_ n va lv) {e : Nat} (he : ok_ V (e / 2)) (h : n ≤ lv (V (e / 2))) : e < 2 := by
  rcases he with z | z
  · omega
  · have := (P.2.2 _ (S.2.1 _ z).1).1
    omega
theorem ef_par {n : Nat} {V L H : Nat → Nat} {φ : Nat → BF_} (S : Sm_ n V L H φ) {e : Nat} (he : e < 2) (s : Nat → Bool) : (ef_ φ e s).toNat = e % 2 := by
  rcases (by omega : e = 0 ∨ e = 1) with z | z
  · subst z; rw [(ef_0 S s).1]; rfl
  · subst z; rw [(ef_0 S s).2]; rfl
theorem xw_eval {post : Int32 → Prop} {a : Nat} (P : Pm_ n va lv) (S0 : Sm_ n (tb_V T) (tb_L T) (tb_H T) φ) (O : Od_ 0 lv (tb_V T) (tb_L T) (tb_H T)) (ha : a < 64) : ∀ (m st e : Nat), st + m = n → ok_ (tb_V T) (e / 2) → st ≤ lv (tb_V T (e / 2)) → post (nI (ef_ φ e (as_ a)).toNat) → wX_evaluate_5 post (nI a) (nI n) (nI la) (nI li) (nI (tb_fh T)) (nI (tb_lo T)) (nI (tb_to T)) (nI (ma_F M)) (nI (ma_G M)) (nI (ma_H M)) (nI (ma_n M)) (nI (ga_n G)) (nI (wo_n W)) (en_E E) (en_I hh) (en_I va) (en_I lv) (en_V (tb_V T)) (en_I (tb_L T)) (en_I (tb_H T)) (en_I (tb_R T)) (en_I (tb_X T)) (en_I (tb_D T)) (en_I (tb_Q T)) (en_I (ca_F C)) (en_I (ca_G C)) (en_I (ca_H C)) (en_I (ca_R C)) (en_I (ma_f M)) (en_I (ma_g M)) (en_I (ma_h M)) (en_I (ma_v M)) (en_I (ma_p M)) (en_I (ma_l M)) (en_I (ma_b M)) (en_I (ga_r G)) (en_I (ga_s G)) (en_I (ga_i G)) (en_I (ga_w G)) (en_I (wo_w W)) (en_I (si_z S)) (en_I (si_c S)) (m + 1) (nI e) (nI st)
  | 0, st, e, hm, oe, hl, hp => by
    have n6 := P.1.2.1
    have he := ef_end S0 P oe (by omega)
    refine pk_le n st (fun _ => ?_) (fun z => by omega)
    rw [nn_low (by omega), ← ef_par S0 he (as_ a)]
    exact hp
  | m + 1, st, e, hm, oe, hl, hp => by
    have n6 := P.1.2.1
    have hel := ef_lt oe
    refine pk_le n st (fun z => by omega) (fun _ => ?_)
    by_cases c : e < 2
    · refine pk_le e 1 (fun _ => ?_) (fun z => by omega)
      rw [nn_low (by omega), ← ef_par S0 c (as_ a)]
      exact hp
    · have hal : al_ (tb_V T) (e / 2) := oe.elim (fun z => by omega) id
      have hv := (S0.2.1 _ hal).1
      refine pk_le e 1 (fun z => by omega) (fun _ => ?_)
      rw [nn_half (by omega), nI_clamp (n := e / 2) (by omega)]
      refine ⟨vp_in_nI (by omega) (by omega), nm_r (en_Vk (by omega)) ?_⟩
      have t := ts_w ⟨a, ha⟩ ⟨tb_V T (e / 2), by omega⟩
      rw [show ((nI a >>> (nI (tb_V T (e / 2)) &&& 31)) &&& 1) = nI (a.testBit (tb_V T (e / 2))).toNat from t]
      have hb : (a.testBit (tb_V T (e / 2))).toNat < 2 := by cases a.testBit (tb_V T (e / 2)) <;> decide
      obtain ⟨c1, c2, c3⟩ := cd_sem S0 P O (v := tb_V T (e / 2)) (b := (a.testBit (tb_V T (e / 2))).toNat) oe hv hb (Nat.le_refl _)
      refine xw_child (v := tb_V T (e / 2)) hel (by omega) (by omega) hb (nm_r (nI_1 _) ?_)
      refine xw_eval P S0 O ha m (st + 1) _ (by omega) c1 (by omega) ?_
      rw [c3, fu_e (by show a.testBit (tb_V T (e / 2)) = _; cases a.testBit (tb_V T (e / 2)) <;> rfl)]
      exact hp
theorem xw_table {post : Int64 → Prop} {j : Nat} (P : Pm_ n va lv) (S0 : Sm_ n (tb_V T) (tb_L T) (tb_H T) φ) (O : Od_ 0 lv (tb_V T) (tb_L T) (tb_H T)) (j10 : j < 10) (j3 : E j < 2048) (oj : ok_ (tb_V T) (E j / 2)) (hp : post (lN (mk_N (fun a => ef_ φ (E j) (as_ a)) (2 ^ n)))) : wX_table_23 post (nI j) (nI (2 ^ n)) (nI n) (nI la) (nI li) (nI (tb_fh T)) (nI (tb_lo T)) (nI (tb_to T)) (nI (ma_F M)) (nI (ma_G M)) (nI (ma_H M)) (nI (ma_n M)) (nI (ga_n G)) (nI (wo_n W)) (en_E E) (en_I hh) (en_I va) (en_I lv) (en_V (tb_V T)) (en_I (tb_L T)) (en_I (tb_H T)) (en_I (tb_R T)) (en_I (tb_X T)) (en_I (tb_D T)) (en_I (tb_Q T)) (en_I (ca_F C)) (en_I (ca_G C)) (en_I (ca_H C)) (en_I (ca_R C)) (en_I (ma_f M)) (en_I (ma_g M)) (en_I (ma_h M)) (en_I (ma_v M)) (en_I (ma_p M)) (en_I (ma_l M)) (en_I (ma_b M)) (en_I (ga_r G)) (en_I (ga_s G)) (en_I (ga_i G)) (en_I (ga_w G)) (en_I (wo_w W)) (en_I (si_z S)) (en_I (si_c S)) (2 ^ n + 1) 0 0 := by
  have n6 := P.1.2.1
  have p64 := p2_le n6
  have vj : vp_in (nI j) 10 := vp_in_nI j10 (by omega)
  refine lp_mk (W := fun N x2 x4 => wX_table_23 post (nI j) (nI (2 ^ n)) (nI n) (nI la) (nI li) (nI (tb_fh T)) (nI (tb_lo T)) (nI (tb_to T)) (nI (ma_F M)) (nI (ma_G M)) (nI (ma_H M)) (nI (ma_n M)) (nI (ga_n G)) (nI (wo_n W)) (en_E E) (en_I hh) (en_I va) (en_I lv) (en_V (tb_V T)) (en_I (tb_L T)) (en_I (tb_H T)) (en_I (tb_R T)) (en_I (tb_X T)) (en_I (tb_D T)) (en_I (tb_Q T)) (en_I (ca_F C)) (en_I (ca_G C)) (en_I (ca_H C)) (en_I (ca_R C)) (en_I (ma_f M)) (en_I (ma_g M)) (en_I (ma_h M)) (en_I (ma_v M)) (en_I (ma_p M)) (en_I (ma_l M)) (en_I (ma_b M)) (en_I (ga_r G)) (en_I (ga_s G)) (en_I (ga_i G)) (en_I (ga_w G)) (en_I (wo_w W)) (en_I (si_z S)) (en_I (si_c S)) N x2 x4) (f := fun a => ef_ φ (E j) (as_ a)) (c := 2 ^ n) (fun N => ?_) (fun N i hi hw => ?_)
  · exact pk_le (2 ^ n) (2 ^ n) (fun _ => hp) (fun z => by omega)
  · refine pk_le (2 ^ n) i (fun z => by omega) (fun _ => ⟨vj, ?_⟩)
    rw [nI_clamp (n := j) (by omega), en_Ek j3]
    refine ⟨n + 1, xw_eval P S0 O (by omega) n 0 (E j) (by omega) oj (Nat.zero_le _) ?_⟩
    refine nm_r (e' := lN (mk_N (fun a => ef_ φ (E j) (as_ a)) (i + 1))) ?_ (nm_r (nI_1 _) hw)
    rw [← mk_or (f := fun a => ef_ φ (E j) (as_ a)) (by omega), nI_l (by cases ef_ φ (E j) (as_ i) <;> decide)]
end
theorem i_vc_table {k : Nat} {u : SX} {v : SY} (I : i_Rel k u v) (hk : k + 4 ≤ 2051) (v1 : Int32) : wpX_table (fun r => wpY_table (fun r' => r' = r ∧ i_Rel (k + 4) u v) v v1) u v1 := by
  refine ir_el (P := fun u v => wpX_table (fun r => wpY_table (fun r' => r' = r ∧ i_Rel (k + 4) u v) v v1) u v1) I ?_
  intro n la li E hh va lv T C M G W S φ B us ot sn sw ls lt r
  have rr := r
  obtain ⟨⟨P, I0, O, l0, K, g, N⟩, b⟩ := r
  have n6 := P.1.2.1
  have p64 := p2_le n6
  have S0 := I0.1
  have la9 := N.1.2.1
  have R : i_Rel (k + 4) (st_ n la li E hh va lv T C M G W S) (sy_ n la li B hh us va ot sn sw ls lt) := ir_mk rr
  unfold wpX_table wpY_table
  rcases jn_occ (M := M) (W := W) (S := S) (ot := ot) (sn := sn) (sw := sw) (ls := ls) (lt := lt) rr v1 with h | ⟨j, j1, j2, j3, h⟩
  · refine (h _ (fun _ => True)).1 (br_t rfl ?_)
    exact (h (fun _ => True) _).2 (br_t rfl ⟨rfl, R⟩)
  · subst j2
    have vj : vp_in (nI j) 10 := vp_in_nI (by omega) (by omega)
    have oj := okh_ I0 N j1 j3
    refine (h _ (fun _ => True)).1 (br_f (by decide) (nm_r (sh_n P.1.1 n6) ⟨2 ^ n + 1, ?_⟩))
    refine xw_table P S0 O (by omega) j3 oj ?_
    refine (h (fun _ => True) _).2 (br_f (by decide) ⟨vj, ?_, R⟩)
    rw [nI_clamp (n := j) (by omega)]
    exact congrArg lN (mk_ext (fun a ha => b.2 j (by omega) j3 a ha))
/-! counting -/
theorem sm_inv {g : Nat → Bool} {f : Nat → Nat} {m : Nat} (h1 : ∀ a, a < m → f a < m) (h2 : ∀ a, a < m → f (f a) = a) : sm_n (fun a => (g (f a)).toNat) m = sm_n (fun a => (g a).toNat) m := by
  rw [← ls_rl (P := fun a => g (f a)), ← ls_rl (P := g)]
  have e1 := ls_inj (fun a b : Nat => f a = b) (ls_r (fun a => g (f a)) m) (ls_r g m) ls_rn (fun a ha => by
    obtain ⟨q1, q2⟩ := ls_rm.mp ha
    exact ⟨f a, ls_rm.mpr ⟨h1 a q1, q2⟩, rfl⟩) (fun a a' c ha ha' q q' => by
    have z1 := h2 a (ls_rm.mp ha).1
    have z2 := h2 a' (ls_rm.mp ha').1
    rw [q] at z1
    rw [q'] at z2
    omega)
  have e2 := ls_inj (fun a b : Nat => f a = b) (ls_r g m) (ls_r (fun a => g (f a)) m) ls_rn (fun a ha => by
    obtain ⟨q1, q2⟩ := ls_rm.mp ha
    exact ⟨f a, ls_rm.mpr ⟨h1 a q1, by rw [h2 a q1]; exact q2⟩, rfl⟩) (fun a a' c ha ha' q q' => by
    have z1 := h2 a (ls_rm.mp ha).1
    have z2 := h2 a' (ls_rm.mp ha').1
    rw [q] at z1
    rw [q'] at z2
    omega)
  omega
def cw_ (n : Nat) (F : BF_) : Nat := sm_n (fun a => (F (as_ a)).toNat) (2 ^ n)
theorem cw_le {n : Nat} {F : BF_} : cw_ n F ≤ 2 ^ n := by
  have := sm_bd (f := fun a => (F (as_ a)).toNat) (b := 1) (m := 2 ^ n) (fun a _ => by cases F (as_ a) <;> decide)
  unfold cw_; omega
theorem cw_c {n : Nat} {F : BF_} : cw_ n (fun s => !F s) + cw_ n F = 2 ^ n := by
  unfold cw_
  rw [← sm_plus]
  have : sm_n (fun a => (!F (as_ a)).toNat + (F (as_ a)).toNat) (2 ^ n) = sm_n (fun _ => 1) (2 ^ n) := sm_ext (fun a _ => by cases F (as_ a) <;> rfl)
  rw [this]
  generalize 2 ^ n = m
  induction m with
  | zero => rfl
  | succ m ih => show sm_n (fun _ => 1) m + 1 = _; rw [ih]
theorem cw_node {n i : Nat} {V L H va lv : Nat → Nat} {φ : Nat → BF_} (S : Sm_ n V L H φ) (P : Pm_ n va lv) (O : Od_ 0 lv V L H) (hi : al_ V i) : cw_ n (ef_ φ (L i)) + cw_ n (ef_ φ (H i)) = 2 * cw_ n (φ i) := by
  have hv := (S.2.1 i hi).1
  obtain ⟨-, -, -, -, -, o1, o2⟩ := S.2.1 i hi
  have p2 : ∀ a, a < 2 ^ n → a ^^^ 2 ^ V i < 2 ^ n := fun a ha => Nat.xor_lt_two_pow ha (Nat.pow_lt_pow_right (by omega) hv)
  have inv := sm_inv (g := fun a => φ i (as_ a)) (f := fun a => a ^^^ 2 ^ V i) (m := 2 ^ n) p2 (fun a _ => by rw [Nat.xor_assoc, Nat.xor_self, Nat.xor_zero])
  have e : cw_ n (φ i) + cw_ n (φ i) = cw_ n (ef_ φ (L i)) + cw_ n (ef_ φ (H i)) := by
    unfold cw_
    conv => lhs; rhs; rw [← inv]
    rw [← sm_plus, ← sm_plus]
    apply sm_ext
    intro a ha
    have q : ∀ x, x = L i ∨ x = H i → ef_ φ x (as_ (a ^^^ 2 ^ V i)) = ef_ φ x (as_ a) := fun x hx => by
      have ox : ok_ V (x / 2) := by
        rcases hx with z | z
        · rw [z]; exact o1
        · rw [z]; exact o2
      rw [ef_dn S P O ox _ (fu_u (as_ a) (V i) (!(as_ a (V i)))) (fun w hw => as_fl ha hv)]
      rcases hx with z | z
      · rw [z]; exact (S.2.2.2.1 i hi _ _).1
      · rw [z]; exact (S.2.2.2.1 i hi _ _).2
    rw [S.2.2.1 i hi (as_ a), S.2.2.1 i hi (as_ (a ^^^ 2 ^ V i)), q _ (Or.inl rfl), q _ (Or.inr rfl), as_fl ha hv, fu_s]
    cases as_ a (V i)
    · simp
    · simp; omega
  omega
def gw_ (G : GN_) (wt : Nat → Nat) : GN_ := (ga_n G, ga_r G, ga_s G, ga_i G, wt)
section
variable {n la li : Nat} {E hh va lv : Nat → Nat} {T : TN_} {C : CN_} {M : MN_} {G : GN_} {W : WN_} {S : SN_} {φ : Nat → BF_}
theorem xw_ew {post : Int32 → Prop} {e : Nat} {wt : Nat → Nat} (P : Pm_ n va lv) (he : e < 2048) (hw : wt (e / 2) = cw_ n (φ (e / 2))) (hp : post (nI (cw_ n (ef_ φ e)))) : wpX_edgeWeight post (st_ n la li E hh va lv T C M (gw_ G wt) W S) (nI e) := by
  have n6 := P.1.2.1
  have p64 := p2_le n6
  have cl := cw_le (n := n) (F := φ (e / 2))
  unfold wpX_edgeWeight st_
  dsimp only
  rw [nn_half (by omega), nI_clamp (n := e / 2) (by omega), nn_low (by omega), sh_n P.1.1 n6]
  refine ⟨vp_in_nI (by omega) (by omega), nm_r (e' := nI (cw_ n (φ (e / 2)))) (by show nI (wt (e / 2)) = _; rw [hw]) ?_⟩
  refine pk_eq (e % 2) 0 (fun z => ?_) (fun z => ?_)
  · have : ef_ φ e = φ (e / 2) := by funext s; unfold ef_; rw [z]; simp
    rw [this] at hp
    exact hp
  · have q : ef_ φ e = fun s => !φ (e / 2) s := by
      funext s; unfold ef_
      rw [show e % 2 = 1 from by omega]
      simp
    have c := cw_c (n := n) (F := φ (e / 2))
    rw [q] at hp
    rw [pk_sub cl, show 2 ^ n - cw_ n (φ (e / 2)) = cw_ n (fun s => !φ (e / 2) s) from by omega]
    exact hp
theorem xw_sat {j : Nat} (P : Pm_ n va lv) (S0 : Sm_ n (tb_V T) (tb_L T) (tb_H T) φ) (O : Od_ 0 lv (tb_V T) (tb_L T) (tb_H T)) (j10 : j < 10) (hE : E j < 2048) (g : Go_ (tb_V T) (tb_L T) (tb_H T) lv (E j) G) : ∀ (m : Nat) (wt : Nat → Nat), m ≤ ga_n G → wt 0 = 0 → (∀ k, m ≤ k → k < ga_n G → wt (ga_r G k) = cw_ n (φ (ga_r G k))) → ∃ wt', wt' 0 = 0 ∧ ∀ post : Int32 → SX → Prop, post (nI (cw_ n (ef_ φ (E j)))) (st_ n la li E hh va lv T C M (gw_ G wt') W S) → wX_satCount_27 post (nI j) (nI n) (nI la) (nI li) (nI (tb_fh T)) (nI (tb_lo T)) (nI (tb_to T)) (nI (ma_F M)) (nI (ma_G M)) (nI (ma_H M)) (nI (ma_n M)) (nI (ga_n G)) (nI (wo_n W)) (m + 1) (nI m - 1) (en_E E) (en_I hh) (en_I va) (en_I lv) (en_V (tb_V T)) (en_I (tb_L T)) (en_I (tb_H T)) (en_I (tb_R T)) (en_I (tb_X T)) (en_I (tb_D T)) (en_I (tb_Q T)) (en_I (ca_F C)) (en_I (ca_G C)) (en_I (ca_H C)) (en_I (ca_R C)) (en_I (ma_f M)) (en_I (ma_g M)) (en_I (ma_h M)) (en_I (ma_v M)) (en_I (ma_p M)) (en_I (ma_l M)) (en_I (ma_b M)) (en_I (ga_r (gw_ G wt))) (en_I (ga_s (gw_ G wt))) (en_I (ga_i (gw_ G wt))) (en_I (ga_w (gw_ G wt))) (en_I (wo_w W)) (en_I (si_z S)) (en_I (si_c S))
  | 0, wt, hm, h0, hw => by
    refine ⟨wt, h0, fun post hp => ?_⟩
    refine br_t (by decide) ⟨vp_in_nI j10 (by omega), ?_⟩
    rw [nI_clamp (n := j) (by omega), en_Ek hE]
    refine xw_ew P hE ?_ hp
    rcases g.2.2.2.2.2.1 with z | ⟨k, k1, k2⟩
    · rw [z, h0]
      unfold cw_
      symm
      apply sm_z0
      intro a _
      rw [S0.1.2.2]; rfl
    · rw [← k2]; exact hw k (by omega) k1
  | m + 1, wt, hm, h0, hw => by
    have n6 := P.1.2.1
    have p64 := p2_le n6
    have hgl := g.1
    obtain ⟨hal, hrh⟩ := g.2.1 m (by omega)
    have hx := hal.1
    obtain ⟨xv, xl, xh, -, -, o1, o2⟩ := S0.2.1 _ hal
    obtain ⟨lo1, lo2⟩ := O _ hal (Nat.zero_le _)
    obtain ⟨in1, in2⟩ := g.2.2.2.2.2.2 m (by omega)
    have vx : vp_in (nI (ga_r G m)) 1024 := vp_in_nI hx (by omega)
    have kid : ∀ c, lv (tb_V T (ga_r G m)) < lv (tb_V T (c / 2)) → In_ G (c / 2) → wt (c / 2) = cw_ n (φ (c / 2)) := fun c hc hin => by
      rcases hin with z | ⟨k, k1, k2⟩
      · rw [z, h0]
        unfold cw_
        symm
        apply sm_z0
        intro a _
        rw [S0.1.2.2]; rfl
      · rw [← k2]
        refine hw k ?_ k1
        apply Classical.byContradiction
        intro h
        have : lv (tb_V T (ga_r G k)) ≤ lv (tb_V T (ga_r G m)) := by
          by_cases e : k = m
          · rw [e]; exact Nat.le_refl _
          · exact g.2.2.2.1 k m (by omega) (by omega)
        rw [k2] at this
        omega
    have cn := cw_node S0 P O hal
    have cl := cw_le (n := n) (F := φ (ga_r G m))
    obtain ⟨wt', a1, a2⟩ := xw_sat P S0 O j10 hE g m (fu_u wt (ga_r G m) (cw_ n (φ (ga_r G m)))) (by omega) (by rw [fu_n (fun e => S0.ne0 hal e.symm)]; exact h0) (fun k k1 k2 => by
      by_cases e : k = m
      · rw [e, fu_s]
      · rw [fu_n (fun c => e (g.2.2.1 k m k2 (by omega) c))]
        exact hw k (by omega) k2)
    refine ⟨wt', a1, fun post hp => ?_⟩
    rw [nI_pred m]
    refine br_f (nI_pos (by omega)) ⟨vp_in_nI (by omega) (by omega), nm_r (e' := nI (ga_r G m)) (by rw [nI_clamp (n := m) (by omega)]; rfl) ⟨vx, ?_⟩⟩
    rw [nI_clamp (n := ga_r G m) (by omega)]
    refine xw_ew (φ := φ) P xl (kid _ lo1 in1) ⟨vx, ?_⟩
    refine xw_ew (φ := φ) P xh (kid _ lo2 in2) ⟨vx, ?_⟩
    refine nm_r (e' := en_I (fu_u wt (ga_r G m) (cw_ n (φ (ga_r G m))))) ?_ (nm_r (e' := nI m - 1) (by rw [Int32.sub_eq_add_neg]) (a2 post hp))
    rw [← en_uI, nI_add, cn, nn_half (by omega), show 2 * cw_ n (φ (ga_r G m)) / 2 = cw_ n (φ (ga_r G m)) from by omega]
    rfl
end
theorem i_vc_satCount {k : Nat} {u : SX} {v : SY} (I : i_Rel k u v) (hk : k + 4 ≤ 2051) (v1 : Int32) : wpX_satCount (fun r u' => wpY_satCount (fun r' => r' = r ∧ i_Rel (k + 4) u' v) v v1) u v1 := by
  refine ir_el (P := fun u v => wpX_satCount (fun r u' => wpY_satCount (fun r' => r' = r ∧ i_Rel (k + 4) u' v) v v1) u v1) I ?_
  intro n la li E hh va lv T C M G W S φ B us ot sn sw ls lt r
  have rr := r
  obtain ⟨⟨P, I0, O, l0, K, g, N⟩, b⟩ := r
  have n6 := P.1.2.1
  have p64 := p2_le n6
  have S0 := I0.1
  have la9 := N.1.2.1
  unfold wpX_satCount wpY_satCount
  rcases jn_occ (M := M) (W := W) (S := S) (ot := ot) (sn := sn) (sw := sw) (ls := ls) (lt := lt) rr v1 with h | ⟨j, j1, j2, j3, h⟩
  · refine (h _ (fun _ => True)).1 (br_t rfl ?_)
    exact (h (fun _ => True) _).2 (br_t rfl ⟨rfl, ir_mk rr⟩)
  · subst j2
    have vj : vp_in (nI j) 10 := vp_in_nI (by omega) (by omega)
    have oj := okh_ I0 N j1 j3
    obtain ⟨G1, go, ⟨gi1, gw1⟩, w1⟩ := xm_gather (la := la) (li := li) (E := E) (hh := hh) (C := C) (M := M) (W := W) (S := S) (r := E j) P S0 g.1 oj
    obtain ⟨wt', q1, q2⟩ := xw_sat (la := la) (li := li) (hh := hh) (va := va) (C := C) (M := M) (W := W) (S := S) P S0 O (by omega) j3 go (ga_n G1) (ga_w G1) (Nat.le_refl _) (by rw [gw1]; exact g.2.2) (fun k h1 h2 => by omega)
    have R1 : Re_ n la li E hh va lv T C (gw_ G1 wt') φ B us := ⟨⟨P, I0, O, l0, K, ⟨go.2.2.2.2.1, by show ga_i G1 0 = 0; rw [gi1]; exact g.2.1, q1⟩, N⟩, b⟩
    refine (h _ (fun _ => True)).1 (br_f (by decide) ⟨vj, ?_⟩)
    rw [nI_clamp (n := j) (by omega), en_Ek j3]
    refine w1 _ ?_
    dsimp only [st_]
    refine nm_e ⟨_, q2 _ ?_⟩
    refine (h (fun _ => True) _).2 (br_f (by decide) ⟨2 ^ n + 1, ?_⟩)
    have loop : ∀ m a, a + m = 2 ^ n → wY_satCount_14 (fun r' => r' = nI (cw_ n (ef_ φ (E j))) ∧ i_Rel (k + 4) (st_ n la li E hh va lv T C M (gw_ G1 wt') W S) (sy_ n la li B hh us va ot sn sw ls lt)) (nI j) (nI n) (nI la) (nI li) (nI (2 ^ n)) (en_F n B) (en_I hh) (en_I us) (en_O va) ot sn sw ls lt (m + 1) (nI (sm_n (fun a => (ef_ φ (E j) (as_ a)).toNat) a)) (nI a) := by
      intro m
      induction m with
      | zero =>
        intro a ha
        have e : a = 2 ^ n := by omega
        subst e
        exact pk_le (2 ^ n) (2 ^ n) (fun _ => ⟨rfl, ir_mk R1⟩) (fun z => by omega)
      | succ m ih =>
        intro a ha
        refine pk_le (2 ^ n) a (fun z => by omega) (fun _ => ?_)
        refine yw_value n6 (by omega) (by omega) ?_
        rw [b.2 j (by omega) j3 a (by omega)]
        exact nm_r (nI_add _ _) (nm_r (nI_1 _) (ih (a + 1) (by omega)))
    exact loop (2 ^ n) 0 (by omega)
end
section
/-! support, firstModel -/
def Dp_ (n : Nat) (F : BF_) (v : Nat) : Prop := ∃ a, a < 2 ^ n ∧ F (as_ a) ≠ F (as_ (a ^^^ 2 ^ v))
theorem dp_iff {n v : Nat} {F : BF_} (hF : Dn_ n F) (hv : v < n) : Dp_ n F v ↔ ∃ s, F (fu_u s v true) ≠ F (fu_u s v false) := by
  have key : ∀ a, a < 2 ^ n → (F (as_ a) ≠ F (as_ (a ^^^ 2 ^ v)) ↔ F (fu_u (as_ a) v true) ≠ F (fu_u (as_ a) v false)) := fun a ha => by
    have e1 : F (as_ (a ^^^ 2 ^ v)) = F (fu_u (as_ a) v (!(as_ a v))) := hF _ _ (fun w _ => as_fl ha hv)
    have e2 : F (as_ a) = F (fu_u (as_ a) v (as_ a v)) := by rw [fu_e rfl]
    rw [e1]
    conv => lhs; lhs; rw [e2]
    cases as_ a v
    · exact ⟨fun h z => h z.symm, fun h z => h z.symm⟩
    · exact Iff.rfl
  constructor
  · intro ⟨a, a1, a2⟩; exact ⟨as_ a, (key a a1).mp a2⟩
  · intro ⟨s, hs⟩
    obtain ⟨a, a1, a2⟩ := as_ex n s
    refine ⟨a, a1, (key a a1).mpr ?_⟩
    have q : ∀ x : Bool, F (fu_u (as_ a) v x) = F (fu_u s v x) := fun x => hF _ _ (fun w hw => by
      by_cases c : w = v
      · rw [c, fu_s, fu_s]
      · rw [fu_n c, fu_n c]; exact a2 w hw)
    rw [q, q]; exact hs
/-- the variables of the gathered nodes are those that the function depends on -/
theorem go_dep {n r v : Nat} {V L H va lv : Nat → Nat} {φ : Nat → BF_} {G : GN_} (S : Sm_ n V L H φ) (P : Pm_ n va lv) (O : Od_ 0 lv V L H) (or : ok_ V (r / 2)) (g : Go_ V L H lv r G) (hv : v < n) : (∃ k, k < ga_n G ∧ V (ga_r G k) = v) ↔ Dp_ n (ef_ φ r) v := by
  rw [dp_iff (ef_dn S P O or) hv]
  constructor
  · intro ⟨k, k1, k2⟩
    obtain ⟨hal, hrh⟩ := g.2.1 k k1
    obtain ⟨s, b, hs⟩ := cf_reach S P O hrh hal
    apply Classical.byContradiction
    intro c
    apply S.top hal
    intro t
    rw [hs, hs]
    congr 1
    have e : ∀ x : Bool, mx_ lv (lv (V (ga_r G k))) s (fu_u t (V (ga_r G k)) x) = fu_u (mx_ lv (lv (V (ga_r G k))) s t) v x := fun x => by
      funext w
      by_cases q : w = v
      · rw [q, fu_s, k2, mx_hi (Nat.le_refl _), fu_s]
      · rw [fu_n q]
        by_cases d : lv w < lv (V (ga_r G k))
        · rw [mx_lo d, mx_lo d]
        · rw [mx_hi (by omega), mx_hi (by omega), k2, fu_n q]
    rw [e, e]
    exact Classical.byContradiction (fun z => c ⟨_, z⟩)
  · intro ⟨s, hs⟩
    apply Classical.byContradiction
    intro c
    have ind : ∀ d j, In_ G j → ok_ V j → 6 - lv (V j) < d → ∀ x, φ j (fu_u s v x) = φ j s := by
      intro d
      induction d with
      | zero => intro j _ _ h; omega
      | succ d ih =>
        intro j hj oj hd x
        rcases oj with z | z
        · rw [z, S.1.2.2, S.1.2.2]
        · obtain ⟨-, -, -, -, -, o1, o2⟩ := S.2.1 j z
          obtain ⟨l1, l2⟩ := O j z (Nat.zero_le _)
          have b1 := P.1.2.2.2 _ (S.v6 o1)
          have b2 := P.1.2.2.2 _ (S.v6 o2)
          obtain ⟨k, k1, k2⟩ : ∃ k, k < ga_n G ∧ ga_r G k = j := hj.elim (fun q => absurd q (S.ne0 z)) id
          obtain ⟨i1, i2⟩ := g.2.2.2.2.2.2 k k1
          rw [k2] at i1 i2
          have hne : V j ≠ v := fun q => c ⟨k, k1, by rw [k2]; exact q⟩
          have e1 := ih _ i1 o1 (by omega) x
          have e2 := ih _ i2 o2 (by omega) x
          rw [S.2.2.1 j z, S.2.2.1 j z, fu_n hne]
          unfold ef_
          rw [e1, e2]
    apply hs
    unfold ef_
    rw [ind 7 _ g.2.2.2.2.2.1 or (by omega) true, ind 7 _ g.2.2.2.2.2.1 or (by omega) false]
section
variable {n la li : Nat} {E hh va lv : Nat → Nat} {T : TN_} {C : CN_} {M : MN_} {G : GN_} {W : WN_} {S : SN_} {φ : Nat → BF_} {B : Nat → Nat → Bool} {us : Nat → Nat} {ot : Nat → Int32} {sn : Nat → Int64} {sw ls lt : Nat → Int32}
theorem bt_or1 {x : Int32} {v i : Nat} (hv : v < 6) (hi : i < 32) : bt (x ||| ((1 : Int32) <<< (nI v &&& 31))) i = (bt x i || decide (i = v)) := by
  have s := bt_sh1 (v := v) hv hi true
  rw [show nI (true : Bool).toNat = 1 from rfl] at s
  rw [b_or, s]; simp
theorem xw_supp {post : Int32 → SX → Prop} (hgn : ga_n G < 1024) (hv : ∀ k, k < ga_n G → ga_r G k < 1024 ∧ tb_V T (ga_r G k) < 6) (hp : ∀ x : Int32, (∀ i, i < 32 → (bt x i = true ↔ ∃ k, k < ga_n G ∧ tb_V T (ga_r G k) = i)) → post x (st_ n la li E hh va lv T C M G W S)) : ∀ (m j : Nat) (x : Int32), j + m = ga_n G → (∀ i, i < 32 → (bt x i = true ↔ ∃ k, k < j ∧ tb_V T (ga_r G k) = i)) → wX_support_24 post (nI n) (nI la) (nI li) (nI (tb_fh T)) (nI (tb_lo T)) (nI (tb_to T)) (nI (ma_F M)) (nI (ma_G M)) (nI (ma_H M)) (nI (ma_n M)) (nI (ga_n G)) (nI (wo_n W)) (en_E E) (en_I hh) (en_I va) (en_I lv) (en_V (tb_V T)) (en_I (tb_L T)) (en_I (tb_H T)) (en_I (tb_R T)) (en_I (tb_X T)) (en_I (tb_D T)) (en_I (tb_Q T)) (en_I (ca_F C)) (en_I (ca_G C)) (en_I (ca_H C)) (en_I (ca_R C)) (en_I (ma_f M)) (en_I (ma_g M)) (en_I (ma_h M)) (en_I (ma_v M)) (en_I (ma_p M)) (en_I (ma_l M)) (en_I (ma_b M)) (en_I (ga_r G)) (en_I (ga_s G)) (en_I (ga_i G)) (en_I (ga_w G)) (en_I (wo_w W)) (en_I (si_z S)) (en_I (si_c S)) (m + 1) x (nI j)
  | 0, j, x, hm, hx => by
    have e : j = ga_n G := by omega
    subst e
    exact pk_le (ga_n G) (ga_n G) (fun _ => hp x hx) (fun z => by omega)
  | m + 1, j, x, hm, hx => by
    obtain ⟨r1, r2⟩ := hv j (by omega)
    refine pk_le (ga_n G) j (fun z => by omega) (fun _ => ⟨vp_in_nI (by omega) (by omega), ?_⟩)
    rw [nI_clamp (n := j) (by omega), show en_I (ga_r G) j = nI (ga_r G j) from rfl, nI_clamp (n := ga_r G j) (by omega), en_Vk (by omega)]
    refine ⟨vp_in_nI r1 (by omega), nm_e (nm_r (nI_1 _) ?_)⟩
    refine xw_supp hgn hv hp m (j + 1) _ (by omega) (fun i hi => ?_)
    rw [bt_or1 r2 hi, Bool.or_eq_true, hx i hi, decide_eq_true_iff]
    constructor
    · intro q
      rcases q with ⟨k, k1, k2⟩ | q
      · exact ⟨k, by omega, k2⟩
      · exact ⟨j, by omega, q.symm⟩
    · intro ⟨k, k1, k2⟩
      by_cases c : k = j
      · subst c; exact Or.inr k2.symm
      · exact Or.inl ⟨k, by omega, k2⟩
theorem yw_supp25 {post : Int32 → Prop} {J : Int32 → Int32 → Prop} {j v : Nat} (n6 : n ≤ 6) (hj : j < 10) (hv : v < n) : ∀ (m a : Nat) (x : Int32) (d : Bool) (x0 : Int32), a + m = 2 ^ n → (d = true ↔ ∃ c, c < a ∧ B j c ≠ B j (c ^^^ 2 ^ v)) → (∀ i, i < 32 → bt x i = (bt x0 i || (decide (i = v) && d))) → (∀ (x : Int32) (d : Bool), (d = true ↔ ∃ c, c < 2 ^ n ∧ B j c ≠ B j (c ^^^ 2 ^ v)) → (∀ i, i < 32 → bt x i = (bt x0 i || (decide (i = v) && d))) → J x (nI (v + 1))) → wY_support_25 post J (nI j) (nI v) (nI n) (nI la) (nI li) (nI (2 ^ n)) (en_F n B) (en_I hh) (en_I us) (en_O va) ot sn sw ls lt (m + 1) x (nI a)
  | 0, a, x, d, x0, hm, hd, hx, hJ => by
    have p64 := p2_le n6
    have e : a = 2 ^ n := by omega
    subst e
    exact pk_le (2 ^ n) (2 ^ n) (fun _ => nm_r (nI_1 _) (hJ x d hd hx)) (fun z => by omega)
  | m + 1, a, x, d, x0, hm, hd, hx, hJ => by
    have p64 := p2_le n6
    have e1 : ((1 : Int32) <<< (nI v &&& 31)) = nI (2 ^ v) := by
      rcases (by omega : v = 0 ∨ v = 1 ∨ v = 2 ∨ v = 3 ∨ v = 4 ∨ v = 5) with e | e | e | e | e | e <;> subst e <;> decide
    have hx2 : a ^^^ 2 ^ v < 2 ^ n := Nat.xor_lt_two_pow (by omega) (Nat.pow_lt_pow_right (by omega) hv)
    refine pk_le (2 ^ n) a (fun z => by omega) (fun _ => nm_r (e' := nI (a ^^^ 2 ^ v)) (by rw [e1, nx_xor]) ?_)
    refine yw_value n6 hj (by omega) ?_
    refine yw_value n6 hj hx2 ?_
    refine ek_if (d := B j a = B j (a ^^^ 2 ^ v)) ?_ (fun q => nm_r (nI_1 _) ?_) (fun q => nm_e (nm_r (nI_1 _) ?_))
    · cases B j a <;> cases B j (a ^^^ 2 ^ v) <;> decide
    · refine yw_supp25 n6 hj hv m (a + 1) x d x0 (by omega) ?_ hx hJ
      rw [hd]
      constructor
      · intro ⟨c, c1, c2⟩; exact ⟨c, by omega, c2⟩
      · intro ⟨c, c1, c2⟩
        by_cases z : c = a
        · subst z; exact absurd q c2
        · exact ⟨c, by omega, c2⟩
    · refine yw_supp25 n6 hj hv m (a + 1) _ true x0 (by omega) ⟨fun _ => ⟨a, by omega, q⟩, fun _ => rfl⟩ (fun i hi => ?_) hJ
      rw [bt_or1 (by omega) hi, hx i hi]
      cases bt x0 i <;> cases decide (i = v) <;> cases d <;> rfl
theorem yw_supp14 {post : Int32 → Prop} {j : Nat} (n6 : n ≤ 6) (hj : j < 10) (hp : ∀ x : Int32, (∀ i, i < 32 → (bt x i = true ↔ i < n ∧ ∃ c, c < 2 ^ n ∧ B j c ≠ B j (c ^^^ 2 ^ i))) → post x) : ∀ (m v : Nat) (x : Int32), v + m = n → (∀ i, i < 32 → (bt x i = true ↔ i < v ∧ ∃ c, c < 2 ^ n ∧ B j c ≠ B j (c ^^^ 2 ^ i))) → wY_support_14 post (nI j) (nI n) (nI la) (nI li) (nI (2 ^ n)) (en_F n B) (en_I hh) (en_I us) (en_O va) ot sn sw ls lt (m + 1) x (nI v)
  | 0, v, x, hm, hx => by
    have e : v = n := by omega
    subst e
    exact pk_le v v (fun _ => hp x hx) (fun z => by omega)
  | m + 1, v, x, hm, hx => by
    refine pk_le n v (fun z => by omega) (fun _ => ⟨2 ^ n + 1, ?_⟩)
    refine yw_supp25 n6 hj (by omega) (2 ^ n) 0 x false x (by omega) ⟨fun z => absurd z (by decide), fun ⟨c, z, _⟩ => by omega⟩ (fun i _ => by simp) (fun x' d hd hx' => ?_)
    refine yw_supp14 n6 hj hp m (v + 1) x' (by omega) (fun i hi => ?_)
    rw [hx' i hi, Bool.or_eq_true, Bool.and_eq_true, hx i hi, decide_eq_true_iff, hd]
    constructor
    · intro q
      rcases q with ⟨q1, q2⟩ | ⟨q1, q2⟩
      · exact ⟨by omega, q2⟩
      · subst q1; exact ⟨by omega, q2⟩
    · intro ⟨q1, q2⟩
      by_cases c : i = v
      · subst c; exact Or.inr ⟨rfl, q2⟩
      · exact Or.inl ⟨by omega, q2⟩
end
theorem i_vc_support {k : Nat} {u : SX} {v : SY} (I : i_Rel k u v) (hk : k + 4 ≤ 2051) (v1 : Int32) : wpX_support (fun r u' => wpY_support (fun r' => r' = r ∧ i_Rel (k + 4) u' v) v v1) u v1 := by
  refine ir_el (P := fun u v => wpX_support (fun r u' => wpY_support (fun r' => r' = r ∧ i_Rel (k + 4) u' v) v v1) u v1) I ?_
  intro n la li E hh va lv T C M G W S φ B us ot sn sw ls lt r
  have rr := r
  obtain ⟨⟨P, I0, O, l0, K, g, N⟩, b⟩ := r
  have n6 := P.1.2.1
  have p64 := p2_le n6
  have S0 := I0.1
  have la9 := N.1.2.1
  unfold wpX_support wpY_support
  rcases jn_occ (M := M) (W := W) (S := S) (ot := ot) (sn := sn) (sw := sw) (ls := ls) (lt := lt) rr v1 with h | ⟨j, j1, j2, j3, h⟩
  · refine (h _ (fun _ => True)).1 (br_t rfl ?_)
    exact (h (fun _ => True) _).2 (br_t rfl ⟨rfl, ir_mk rr⟩)
  · subst j2
    have vj : vp_in (nI j) 10 := vp_in_nI (by omega) (by omega)
    have oj := okh_ I0 N j1 j3
    obtain ⟨G1, go, ⟨gi1, gw1⟩, w1⟩ := xm_gather (la := la) (li := li) (E := E) (hh := hh) (C := C) (M := M) (W := W) (S := S) (r := E j) P S0 g.1 oj
    have R1 : Re_ n la li E hh va lv T C G1 φ B us := ⟨⟨P, I0, O, l0, K, ⟨go.2.2.2.2.1, by rw [gi1]; exact g.2.1, by rw [gw1]; exact g.2.2⟩, N⟩, b⟩
    refine (h _ (fun _ => True)).1 (br_f (by decide) ⟨vj, ?_⟩)
    rw [nI_clamp (n := j) (by omega), en_Ek j3]
    refine w1 _ ?_
    dsimp only [st_]
    refine ⟨ga_n G1 + 1, xw_supp go.1 (fun k hk => ⟨(go.2.1 k hk).1.1, (go.2.1 k hk).1.2⟩) (fun x hx => ?_) (ga_n G1) 0 0 (by omega) (fun i _ => by rw [b_0]; exact ⟨fun z => absurd z (by decide), fun ⟨k, z, _⟩ => by omega⟩)⟩
    refine (h (fun _ => True) _).2 (br_f (by decide) ⟨n + 1, ?_⟩)
    refine yw_supp14 n6 (by omega) (fun y hy => ⟨?_, ir_mk R1⟩) n 0 0 (by omega) (fun i _ => by rw [b_0]; exact ⟨fun z => absurd z (by decide), fun ⟨z, _⟩ => by omega⟩)
    apply b_ext
    intro i hi
    have q : bt y i = true ↔ bt x i = true := by
      rw [hx i hi, hy i hi]
      have p2 : ∀ c, c < 2 ^ n → i < n → c ^^^ 2 ^ i < 2 ^ n := fun c hc hin => Nat.xor_lt_two_pow hc (Nat.pow_lt_pow_right (by omega) hin)
      constructor
      · intro ⟨q1, c, c1, c2⟩
        refine (go_dep S0 P O oj go q1).mpr ⟨c, c1, ?_⟩
        rw [← b.2 j (by omega) j3 c c1, ← b.2 j (by omega) j3 _ (p2 c c1 q1)]
        exact c2
      · intro ⟨k', k1, k2⟩
        have q1 : i < n := by rw [← k2]; exact (S0.2.1 _ (go.2.1 k' k1).1).1
        obtain ⟨c, c1, c2⟩ := (go_dep S0 P O oj go q1).mp ⟨k', k1, k2⟩
        refine ⟨q1, c, c1, ?_⟩
        rw [b.2 j (by omega) j3 c c1, b.2 j (by omega) j3 _ (p2 c c1 q1)]
        exact c2
    cases h1 : bt y i <;> cases h2 : bt x i
    · rfl
    · rw [q.mpr h2] at h1; exact absurd h1 (by decide)
    · rw [q.mp h1] at h2; exact absurd h2 (by decide)
    · rfl
end
section
/-! firstModel -/
def am_ (n : Nat) (lv : Nat → Nat) (r : Nat) : Nat → Bool := fun w => r.testBit (n - 1 - lv w)
noncomputable def an_ (n : Nat) (lv : Nat → Nat) (r : Nat) : Nat := Classical.choose (bits_ex n (am_ n lv r))
theorem an_s (n : Nat) (lv : Nat → Nat) (r : Nat) : an_ n lv r < 2 ^ n ∧ ∀ w, w < n → (an_ n lv r).testBit w = am_ n lv r w := Classical.choose_spec (bits_ex n (am_ n lv r))
theorem am_ex {n : Nat} {va lv : Nat → Nat} (P : Pm_ n va lv) (t : Nat → Bool) : ∃ r, r < 2 ^ n ∧ ∀ w, w < n → am_ n lv r w = t w := by
  obtain ⟨r, r1, r2⟩ := bits_ex n (fun i => t (va (n - 1 - i)))
  refine ⟨r, r1, fun w hw => ?_⟩
  obtain ⟨q1, q2⟩ := P.2.2 w hw
  unfold am_
  rw [r2 _ (by omega), show n - 1 - (n - 1 - lv w) = lv w from by omega, q2]
theorem tb_lt : ∀ {i x y : Nat}, x.testBit i = false → y.testBit i = true → (∀ j, i < j → x.testBit j = y.testBit j) → x < y
  | 0, x, y, h1, h2, h => by
    have e : x / 2 = y / 2 := Nat.eq_of_testBit_eq (fun j => by
      have := h (j + 1) (by omega)
      rw [Nat.testBit_succ, Nat.testBit_succ] at this
      exact this)
    rw [Nat.testBit_zero] at h1 h2
    have a := of_decide_eq_false h1
    have b := of_decide_eq_true h2
    omega
  | i + 1, x, y, h1, h2, h => by
    rw [Nat.testBit_succ] at h1 h2
    have := tb_lt h1 h2 (fun j hj => by
      have := h (j + 1) (by omega)
      rw [Nat.testBit_succ, Nat.testBit_succ] at this
      exact this)
    omega
theorem rk_lt {n r1 r2 w : Nat} {va lv : Nat → Nat} (P : Pm_ n va lv) (h1 : r1 < 2 ^ n) (h2 : r2 < 2 ^ n) (hw : w < n) (a1 : am_ n lv r1 w = false) (a2 : am_ n lv r2 w = true) (h : ∀ x, x < n → lv x < lv w → am_ n lv r1 x = am_ n lv r2 x) : r1 < r2 := by
  refine tb_lt (i := n - 1 - lv w) a1 a2 (fun j hj => ?_)
  by_cases c : j < n
  · obtain ⟨q1, q2⟩ := P.2.1 (n - 1 - j) (by omega)
    have := h (va (n - 1 - j)) q1 (by omega)
    unfold am_ at this
    rw [q2, show n - 1 - (n - 1 - j) = j from by omega] at this
    exact this
  · rw [tb_big h1 (by omega), tb_big h2 (by omega)]
section
variable {n la li : Nat} {E hh va lv : Nat → Nat} {T : TN_} {C : CN_} {M : MN_} {G : GN_} {W : WN_} {S : SN_} {φ : Nat → BF_} {B : Nat → Nat → Bool} {us : Nat → Nat} {ot : Nat → Int32} {sn : Nat → Int64} {sw ls lt : Nat → Int32}
theorem fm_skip {F : BF_} {rs c e : Nat} (P : Pm_ n va lv) (S0 : Sm_ n (tb_V T) (tb_L T) (tb_H T) φ) (O : Od_ 0 lv (tb_V T) (tb_L T) (tb_H T)) (dn : Dn_ n F) (r1 : rs < 2 ^ n) (r2 : F (am_ n lv rs) = true) (r3 : ∀ r, r < rs → F (am_ n lv r) ≠ true) (oe : ok_ (tb_V T) (e / 2)) (he : ∀ t, ef_ φ e t = F (mx_ lv c (am_ n lv rs) t)) {w : Nat} (hw : w < n) (h1 : c ≤ lv w) (h2 : lv w < lv (tb_V T (e / 2))) : am_ n lv rs w = false := by
  cases hc : am_ n lv rs w
  · rfl
  · exfalso
    obtain ⟨r', q1, q2⟩ := am_ex P (fu_u (am_ n lv rs) w false)
    have hlt : r' < rs := rk_lt P q1 r1 hw (by rw [q2 w hw, fu_s]) hc (fun x hx hxl => by rw [q2 x hx, fu_n (fun z => by subst z; omega)])
    apply r3 r' hlt
    rw [dn _ (mx_ lv c (am_ n lv rs) (fu_u (am_ n lv rs) w false)) (fun x hx => by
      rw [q2 x hx]
      by_cases d : lv x < c
      · rw [mx_lo d, fu_n (fun z => by subst z; omega)]
      · rw [mx_hi (by omega)]), ← he]
    rw [S0.edep P.1.2.2.2 O oe (Nat.zero_le _) (b := am_ n lv rs) (fun x _ hx => fu_n (fun z => by subst z; omega)), he]
    rw [dn _ (am_ n lv rs) (fun x _ => by unfold mx_; rw [ite_self])]
    exact r2
theorem xw_fm {post : Int32 → Prop} {F : BF_} {rs : Nat} (P : Pm_ n va lv) (S0 : Sm_ n (tb_V T) (tb_L T) (tb_H T) φ) (O : Od_ 0 lv (tb_V T) (tb_L T) (tb_H T)) (dn : Dn_ n F) (r1 : rs < 2 ^ n) (r2 : F (am_ n lv rs) = true) (r3 : ∀ r, r < rs → F (am_ n lv r) ≠ true) (hp : post (nI (an_ n lv rs))) : ∀ (m st e c : Nat) (x : Int32), st + m = n → ok_ (tb_V T) (e / 2) → st ≤ lv (tb_V T (e / 2)) → c ≤ lv (tb_V T (e / 2)) → (∀ t, ef_ φ e t = F (mx_ lv c (am_ n lv rs) t)) → (∀ i, i < 32 → bt x i = (decide (i < n) && decide (lv i < c) && am_ n lv rs i)) → wX_firstModel_29 post (nI n) (nI la) (nI li) (nI (tb_fh T)) (nI (tb_lo T)) (nI (tb_to T)) (nI (ma_F M)) (nI (ma_G M)) (nI (ma_H M)) (nI (ma_n M)) (nI (ga_n G)) (nI (wo_n W)) (en_E E) (en_I hh) (en_I va) (en_I lv) (en_V (tb_V T)) (en_I (tb_L T)) (en_I (tb_H T)) (en_I (tb_R T)) (en_I (tb_X T)) (en_I (tb_D T)) (en_I (tb_Q T)) (en_I (ca_F C)) (en_I (ca_G C)) (en_I (ca_H C)) (en_I (ca_R C)) (en_I (ma_f M)) (en_I (ma_g M)) (en_I (ma_h M)) (en_I (ma_v M)) (en_I (ma_p M)) (en_I (ma_l M)) (en_I (ma_b M)) (en_I (ga_r G)) (en_I (ga_s G)) (en_I (ga_i G)) (en_I (ga_w G)) (en_I (wo_w W)) (en_I (si_z S)) (en_I (si_c S)) (m + 1) (nI e) x (nI st) := by
  have n6 := P.1.2.1
  have last : ∀ (e c : Nat) (x : Int32), e < 2 → (∀ t, ef_ φ e t = F (mx_ lv c (am_ n lv rs) t)) → (∀ i, i < 32 → bt x i = (decide (i < n) && decide (lv i < c) && am_ n lv rs i)) → x = nI (an_ n lv rs) := by
    intro e c x he hs hx
    have oe : ok_ (tb_V T) (e / 2) := Or.inl (by omega)
    apply b_ext
    intro i hi
    obtain ⟨s1, s2⟩ := an_s n lv rs
    rw [hx i hi, bt_nI hi]
    by_cases d : i < n
    · rw [s2 i d, decide_eq_true d]
      by_cases q : lv i < c
      · rw [decide_eq_true q]; simp
      · have := fm_skip P S0 O dn r1 r2 r3 oe hs d (by omega) (by rw [show e / 2 = 0 from by omega, S0.1.2.1, P.1.2.2.1]; have := (P.2.2 i d).1; omega)
        rw [this]; simp
    · rw [tb_big s1 (by omega), decide_eq_false d]; simp
  intro m
  induction m with
  | zero =>
    intro st e c x hm oe hst hc hs hx
    have he := ef_end S0 P oe (by omega)
    refine pk_le n st (fun _ => ?_) (fun z => by omega)
    rw [last e c x he hs hx]
    exact hp
  | succ m ih =>
    intro st e c x hm oe hst hc hs hx
    have hel := ef_lt oe
    refine pk_le n st (fun z => by omega) (fun _ => ?_)
    by_cases d : e < 2
    · refine pk_le e 1 (fun _ => ?_) (fun z => by omega)
      rw [last e c x d hs hx]
      exact hp
    · have hal : al_ (tb_V T) (e / 2) := oe.elim (fun z => by omega) id
      have hv := (S0.2.1 _ hal).1
      have hlv := (P.2.2 _ hv).1
      obtain ⟨c1, c2, c3⟩ := cd_sem S0 P O (v := tb_V T (e / 2)) (b := 0) oe hv (by omega) (Nat.le_refl _)
      obtain ⟨d1, d2, d3⟩ := cd_sem S0 P O (v := tb_V T (e / 2)) (b := 1) oe hv (by omega) (Nat.le_refl _)
      have cl := ef_lt c1
      -- going on to the cofactor that the first model takes
      have path : ∀ t, F (mx_ lv (lv (tb_V T (e / 2)) + 1) (am_ n lv rs) t) = ef_ φ e (fu_u t (tb_V T (e / 2)) (am_ n lv rs (tb_V T (e / 2)))) := fun t => by
        rw [dn _ (mx_ lv c (am_ n lv rs) (mx_ lv (lv (tb_V T (e / 2)) + 1) (am_ n lv rs) t)) (fun w hw => by
          by_cases q : lv w < c
          · rw [mx_lo q, mx_lo (by omega)]
          · rw [mx_hi (K := c) (by omega)]), ← hs]
        refine S0.edep P.1.2.2.2 O oe (Nat.zero_le _) (fun w hw hlw => ?_)
        by_cases q : w = tb_V T (e / 2)
        · rw [q, fu_s, mx_lo (by omega)]
        · rw [fu_n q, mx_hi ?_]
          have : lv w ≠ lv (tb_V T (e / 2)) := fun z => q (P.inj hw hv z)
          omega
      have bits : ∀ i, i < 32 → ∀ y : Bool, y = am_ n lv rs (tb_V T (e / 2)) → (bt x i || (decide (i = tb_V T (e / 2)) && y)) = (decide (i < n) && decide (lv i < lv (tb_V T (e / 2)) + 1) && am_ n lv rs i) := fun i hi y hy => by
        rw [hx i hi]
        by_cases q : i < n
        · rw [decide_eq_true q]
          by_cases q1 : i = tb_V T (e / 2)
          · rw [decide_eq_true q1, hy, q1, decide_eq_false (show ¬ lv (tb_V T (e / 2)) < c by omega), decide_eq_true (show lv (tb_V T (e / 2)) < lv (tb_V T (e / 2)) + 1 by omega)]; simp
          · rw [decide_eq_false q1]
            have : lv i ≠ lv (tb_V T (e / 2)) := fun z => q1 (P.inj q hv z)
            by_cases q2 : lv i < c
            · rw [decide_eq_true q2, decide_eq_true (show lv i < lv (tb_V T (e / 2)) + 1 by omega)]; simp
            · rw [decide_eq_false q2]
              by_cases q3 : lv i < lv (tb_V T (e / 2)) + 1
              · have := fm_skip P S0 O dn r1 r2 r3 oe hs q (by omega) (by omega)
                rw [this]; simp
              · rw [decide_eq_false q3]; simp
        · rw [decide_eq_false q, decide_eq_false (show ¬ i = tb_V T (e / 2) by omega)]; simp
      refine pk_le e 1 (fun z => by omega) (fun _ => ?_)
      rw [nn_half (by omega), nI_clamp (n := e / 2) (by omega)]
      refine ⟨vp_in_nI (by omega) (by omega), nm_r (en_Vk (by omega)) ?_⟩
      refine xw_child (v := tb_V T (e / 2)) (b := 0) hel (by omega) (by omega) (by omega) ?_
      refine pk_eq (cd_ (tb_V T) (tb_L T) (tb_H T) e (tb_V T (e / 2)) 0) 0 (fun z => ?_) (fun z => ?_)
      · -- no model with 0: the variable is 1
        have ht : am_ n lv rs (tb_V T (e / 2)) = true := by
          cases q : am_ n lv rs (tb_V T (e / 2))
          · exfalso
            have h1 := c3 (am_ n lv rs)
            rw [z, (ef_0 S0 _).1] at h1
            have h2 : fu_u (am_ n lv rs) (tb_V T (e / 2)) (decide (0 = 1)) = am_ n lv rs := fu_e q
            rw [h2, hs, dn _ (am_ n lv rs) (fun x _ => by unfold mx_; rw [ite_self]), r2] at h1
            exact absurd h1 (by decide)
          · rfl
        refine nm_e ?_
        refine xw_child (v := tb_V T (e / 2)) (b := 1) hel (by omega) (by omega) (by omega) (nm_r (nI_1 _) ?_)
        refine ih (st + 1) _ (lv (tb_V T (e / 2)) + 1) _ (by omega) d1 (by omega) d2 (fun t => ?_) (fun i hi => ?_)
        · rw [path t, ht, d3]; rfl
        · rw [bt_or1 (by omega) hi]
          have := bits i hi true ht.symm
          simp only [Bool.and_true] at this
          exact this
      · -- a model with 0: the variable is 0
        have ht : am_ n lv rs (tb_V T (e / 2)) = false := by
          cases q : am_ n lv rs (tb_V T (e / 2))
          · rfl
          · exfalso
            apply z
            apply S0.can c1 (e := 0) (Or.inl rfl)
            intro t
            rw [(ef_0 S0 t).1]
            cases q2 : ef_ φ (cd_ (tb_V T) (tb_L T) (tb_H T) e (tb_V T (e / 2)) 0) t
            · rfl
            · exfalso
              obtain ⟨r', y1, y2⟩ := am_ex P (mx_ lv (lv (tb_V T (e / 2))) (am_ n lv rs) (fu_u t (tb_V T (e / 2)) false))
              have hlt : r' < rs := rk_lt P y1 r1 hv (by rw [y2 _ hv, mx_hi (Nat.le_refl _), fu_s]) q (fun x hx hxl => by rw [y2 x hx, mx_lo hxl])
              apply r3 r' hlt
              rw [dn _ (mx_ lv c (am_ n lv rs) (mx_ lv (lv (tb_V T (e / 2))) (am_ n lv rs) (fu_u t (tb_V T (e / 2)) false))) (fun x hx => by
                rw [y2 x hx]
                by_cases dd : lv x < c
                · rw [mx_lo dd, mx_lo (by omega)]
                · rw [mx_hi (K := c) (by omega)]), ← hs]
              rw [S0.edep P.1.2.2.2 O oe (Nat.zero_le _) (b := fu_u t (tb_V T (e / 2)) false) (fun x _ hx => mx_hi hx)]
              rw [← q2, c3]; rfl
        refine nm_r (nI_1 _) ?_
        refine ih (st + 1) _ (lv (tb_V T (e / 2)) + 1) _ (by omega) c1 (by omega) c2 (fun t => ?_) (fun i hi => ?_)
        · rw [path t, ht, c3]; rfl
        · have := bits i hi false ht.symm
          simp only [Bool.and_false, Bool.or_false] at this
          exact this
theorem yw_fm25 {post : Int32 → Prop} {J : Int32 → Prop} {j r : Nat} (P : Pm_ n va lv) (hj : j < 10) (hr : r < 2 ^ n) (h1 : B j (an_ n lv r) = true → post (nI (an_ n lv r))) (h0 : B j (an_ n lv r) = false → J (nI (r + 1))) : ∀ (m l : Nat) (x : Int32), l + m = n → (∀ i, i < 32 → bt x i = (decide (i < n) && decide (lv i < l) && am_ n lv r i)) → wY_firstModel_25 post J (nI j) (nI r) (nI n) (nI la) (nI li) (nI (2 ^ n)) (en_F n B) (en_I hh) (en_I us) (en_O va) ot sn sw ls lt (m + 1) x (nI l)
  | 0, l, x, hm, hx => by
    have n6 := P.1.2.1
    have e : l = n := by omega
    subst e
    obtain ⟨s1, s2⟩ := an_s l lv r
    have ex : x = nI (an_ l lv r) := by
      apply b_ext
      intro i hi
      rw [hx i hi, bt_nI hi]
      by_cases d : i < l
      · rw [s2 i d, decide_eq_true d, decide_eq_true (P.2.2 i d).1]; simp
      · rw [tb_big s1 (by omega), decide_eq_false d]; simp
    refine pk_le l l (fun _ => ?_) (fun z => by omega)
    rw [ex]
    refine yw_value n6 hj s1 ?_
    cases q : B j (an_ l lv r)
    · exact br_f (by decide) (nm_r (nI_1 _) (h0 q))
    · exact br_t (by decide) (h1 q)
  | m + 1, l, x, hm, hx => by
    have n6 := P.1.2.1
    have p64 := p2_le n6
    have vl : vp_in (nI l) 6 := vp_in_nI (by omega) (by omega)
    obtain ⟨v1, v2⟩ := P.2.1 l (by omega)
    have es : nI n - 1 - nI l = nI (n - 1 - l) := by
      rw [show nI n - 1 = nI (n - 1) from pk_sub (b := 1) (by omega), pk_sub (by omega)]
    refine pk_le n l (fun z => by omega) (fun _ => ⟨vl, ?_⟩)
    rw [nI_clamp (n := l) (by omega), es]
    have t := ts_w ⟨r, by omega⟩ ⟨n - 1 - l, by omega⟩
    rw [show ((nI r >>> (nI (n - 1 - l) &&& 31)) &&& 1) = nI (r.testBit (n - 1 - l)).toNat from t]
    refine nm_e (nm_r (nI_1 _) ?_)
    refine yw_fm25 P hj hr h1 h0 m (l + 1) _ (by omega) (fun i hi => ?_)
    rw [b_or, hx i hi, show en_O va l = nI (va l) from en_Ok (by omega), bt_sh1 (by omega) hi]
    by_cases q : i < n
    · rw [decide_eq_true q]
      by_cases q1 : i = va l
      · rw [decide_eq_true q1, q1, v2, decide_eq_false (Nat.lt_irrefl _), decide_eq_true (Nat.lt_succ_self _)]
        unfold am_
        rw [v2]; simp
      · rw [decide_eq_false q1]
        have : lv i ≠ l := fun z => q1 (P.inj q v1 (by rw [z, v2]))
        by_cases q2 : lv i < l
        · rw [decide_eq_true q2, decide_eq_true (show lv i < l + 1 by omega)]; simp
        · rw [decide_eq_false q2, decide_eq_false (show ¬ lv i < l + 1 by omega)]; simp
    · rw [decide_eq_false q, decide_eq_false (show ¬ i = va l by omega)]; simp
theorem yw_fm12 {post : Int32 → Prop} {j : Nat} (P : Pm_ n va lv) (hj : j < 10) (hF : ∀ r, r < 2 ^ n → B j (an_ n lv r) = true → (∀ r', r' < r → B j (an_ n lv r') = false) → post (nI (an_ n lv r))) (hN : (∀ r, r < 2 ^ n → B j (an_ n lv r) = false) → post (-4)) : ∀ (m r : Nat), r + m = 2 ^ n → (∀ r', r' < r → B j (an_ n lv r') = false) → wY_firstModel_12 post (nI j) (nI n) (nI la) (nI li) (nI (2 ^ n)) (en_F n B) (en_I hh) (en_I us) (en_O va) ot sn sw ls lt (m + 1) (nI r)
  | 0, r, hm, hr => by
    have n6 := P.1.2.1
    have p64 := p2_le n6
    exact pk_le (2 ^ n) r (fun _ => hN (fun r' h => hr r' (by omega))) (fun z => by omega)
  | m + 1, r, hm, hr => by
    have n6 := P.1.2.1
    have p64 := p2_le n6
    refine pk_le (2 ^ n) r (fun z => by omega) (fun _ => ⟨n + 1, ?_⟩)
    refine yw_fm25 P hj (by omega) (fun q => hF r (by omega) q hr) (fun q => ?_) n 0 0 (by omega) (fun i _ => by rw [b_0, decide_eq_false (Nat.not_lt_zero _)]; simp)
    exact yw_fm12 P hj hF hN m (r + 1) (by omega) (fun r' h => by
      by_cases e : r' = r
      · subst e; exact q
      · exact hr r' (by omega))
end
theorem i_vc_firstModel {k : Nat} {u : SX} {v : SY} (I : i_Rel k u v) (hk : k + 4 ≤ 2051) (v1 : Int32) : wpX_firstModel (fun r => wpY_firstModel (fun r' => r' = r ∧ i_Rel (k + 4) u v) v v1) u v1 := by
  refine ir_el (P := fun u v => wpX_firstModel (fun r => wpY_firstModel (fun r' => r' = r ∧ i_Rel (k + 4) u v) v v1) u v1) I ?_
  intro n la li E hh va lv T C M G W S φ B us ot sn sw ls lt r
  have rr := r
  obtain ⟨⟨P, I0, O, l0, K, g, N⟩, b⟩ := r
  have n6 := P.1.2.1
  have p64 := p2_le n6
  have S0 := I0.1
  have la9 := N.1.2.1
  have R : i_Rel (k + 4) (st_ n la li E hh va lv T C M G W S) (sy_ n la li B hh us va ot sn sw ls lt) := ir_mk rr
  unfold wpX_firstModel wpY_firstModel
  rcases jn_occ (M := M) (W := W) (S := S) (ot := ot) (sn := sn) (sw := sw) (ls := ls) (lt := lt) rr v1 with h | ⟨j, j1, j2, j3, h⟩
  · refine (h _ (fun _ => True)).1 (br_t rfl ?_)
    exact (h (fun _ => True) _).2 (br_t rfl ⟨rfl, R⟩)
  · subst j2
    have vj : vp_in (nI j) 10 := vp_in_nI (by omega) (by omega)
    have oj := okh_ I0 N j1 j3
    have dn := ef_dn S0 P O oj
    have bj : ∀ r, B j (an_ n lv r) = ef_ φ (E j) (am_ n lv r) := fun r => by
      rw [b.2 j (by omega) j3 _ (an_s n lv r).1]
      exact dn _ _ (fun w hw => (an_s n lv r).2 w hw)
    refine (h _ (fun _ => True)).1 (br_f (by decide) ⟨vj, ?_⟩)
    rw [nI_clamp (n := j) (by omega), en_Ek j3]
    refine nm_e (pk_eq (E j) 0 (fun z => ?_) (fun z => ?_))
    · refine (h (fun _ => True) _).2 (br_f (by decide) ⟨2 ^ n + 1, ?_⟩)
      refine yw_fm12 (lv := lv) P (by omega) (fun r hr q _ => ?_) (fun _ => ⟨rfl, R⟩) (2 ^ n) 0 (by omega) (fun r' h => by omega)
      rw [bj r, z, (ef_0 S0 _).1] at q
      exact absurd q (by decide)
    · -- there is a model
      have ex : ∃ r, r < 2 ^ n ∧ ef_ φ (E j) (am_ n lv r) = true := by
        apply Classical.byContradiction
        intro c
        apply z
        apply S0.can oj (e := 0) (Or.inl rfl)
        intro t
        rw [(ef_0 S0 t).1]
        cases q : ef_ φ (E j) t
        · rfl
        · exfalso
          obtain ⟨r, y1, y2⟩ := am_ex P t
          exact c ⟨r, y1, by rw [dn _ t y2]; exact q⟩
      obtain ⟨rs, ⟨y1, y2⟩, y3⟩ := pk_least (fun r => r < 2 ^ n ∧ ef_ φ (E j) (am_ n lv r) = true) ex
      have y4 : ∀ r, r < rs → ef_ φ (E j) (am_ n lv r) ≠ true := fun r hr q => y3 r hr ⟨by omega, q⟩
      refine ⟨n + 1, xw_fm P S0 O dn y1 y2 y4 ?_ n 0 (E j) 0 0 (by omega) oj (Nat.zero_le _) (Nat.zero_le _) (fun t => ?_) (fun i _ => by rw [b_0, decide_eq_false (Nat.not_lt_zero _)]; simp)⟩
      · refine (h (fun _ => True) _).2 (br_f (by decide) ⟨2 ^ n + 1, ?_⟩)
        refine yw_fm12 (lv := lv) P (by omega) (fun r hr q q2 => ?_) (fun q => ?_) (2 ^ n) 0 (by omega) (fun r' h => by omega)
        · refine ⟨?_, R⟩
          have : r = rs := by
            rcases Nat.lt_trichotomy r rs with y | y | y
            · rw [bj r] at q; exact absurd q (y4 r y)
            · exact y
            · have := q2 rs y
              rw [bj rs, y2] at this
              exact absurd this (by decide)
          rw [this]
        · have := q rs y1
          rw [bj rs, y2] at this
          exact absurd this (by decide)
      · exact dn _ _ (fun w _ => (mx_hi (Nat.zero_le _)).symm)
end
section
/-! the constructors -/
def z0_ : Nat → Nat := fun _ => 0
def vi_ (i : Nat) : Nat → Nat := fun j => if j < i then j else 0
def ri_ (h : Nat) : Nat → Nat := fun j => if 2 ≤ j ∧ j < h then 2048 else 0
def E0_ : Nat → Nat := fu_u (fu_u (ri_ 10) 0 0) 1 1
def h0_ : Nat → Nat := fu_u (fu_u z0_ 0 1) 1 1
def Vi_ (i : Nat) : Nat → Nat := fun j => if j = 0 then 6 else if j < i then 7 else 0
def Xn_ (i : Nat) : Nat → Nat := fun j => if 1 ≤ j ∧ j < i ∧ j < 1023 then j + 1 else 0
def T0_ (f i : Nat) : TN_ := (f, 0, 0, Vi_ i, z0_, z0_, fu_u z0_ 0 1, Xn_ i, z0_, z0_)
def C0_ : CN_ := (z0_, z0_, z0_, z0_)
def M0_ : MN_ := (0, 0, 0, 0, z0_, z0_, z0_, z0_, z0_, z0_, z0_)
def G0_ : GN_ := (0, z0_, z0_, z0_, z0_)
def W0_ : WN_ := (0, z0_)
def S0_ : SN_ := (z0_, z0_)
theorem vi_s {i : Nat} : vi_ (i + 1) = fu_u (vi_ i) i i := by
  funext j; unfold vi_ fu_u
  by_cases e : j = i
  · rw [if_pos e, if_pos (by omega), e]
  · rw [if_neg e]
    dsimp only
    by_cases d : j < i
    · rw [if_pos d, if_pos (by omega)]
    · rw [if_neg d, if_neg (by omega)]
theorem ri_s {i : Nat} (h : 2 ≤ i) : ri_ (i + 1) = fu_u (ri_ i) i 2048 := by
  funext j; unfold ri_ fu_u
  by_cases e : j = i
  · rw [if_pos e, if_pos (by omega)]
  · rw [if_neg e]
    dsimp only
    by_cases d : 2 ≤ j ∧ j < i
    · rw [if_pos d, if_pos (by omega)]
    · rw [if_neg d, if_neg (by omega)]
theorem Vi_s {i : Nat} (h : 1 ≤ i) : Vi_ (i + 1) = fu_u (Vi_ i) i 7 := by
  funext j; unfold Vi_ fu_u
  by_cases e : j = i
  · rw [if_pos e, if_neg (by omega), if_pos (by omega)]
  · rw [if_neg e]
    dsimp only
    by_cases d : j = 0
    · rw [if_pos d, if_pos d]
    · rw [if_neg d, if_neg d]
      by_cases c : j < i
      · rw [if_pos c, if_pos (by omega)]
      · rw [if_neg c, if_neg (by omega)]
theorem Xn_s {i : Nat} (h : 1 ≤ i) : Xn_ (i + 1) = fu_u (Xn_ i) i (if i < 1023 then i + 1 else 0) := by
  funext j; unfold Xn_ fu_u
  by_cases e : j = i
  · rw [if_pos e]
    by_cases c : i < 1023
    · rw [if_pos c, if_pos (by omega), e]
    · rw [if_neg c, if_neg (by omega)]
  · rw [if_neg e]
    dsimp only
    by_cases d : 1 ≤ j ∧ j < i ∧ j < 1023
    · rw [if_pos d, if_pos (by omega)]
    · rw [if_neg d, if_neg (by omega)]
section
variable {n la li : Nat}
theorem xw_396 {post : SX → Prop} {E hh va lv : Nat → Nat} (h : post (st_ n la li E hh va lv (T0_ 1 1024) C0_ M0_ G0_ W0_ S0_)) : ∀ (m i : Nat), i + m = 1024 → 1 ≤ i → wX_init_396 post (nI n) (nI la) (nI li) (nI (tb_fh (T0_ 0 i))) (nI (tb_lo (T0_ 0 i))) (nI (tb_to (T0_ 0 i))) (nI (ma_F M0_)) (nI (ma_G M0_)) (nI (ma_H M0_)) (nI (ma_n M0_)) (nI (ga_n G0_)) (nI (wo_n W0_)) (m + 1) (nI i) (en_E E) (en_I hh) (en_I va) (en_I lv) (en_V (tb_V (T0_ 0 i))) (en_I (tb_L (T0_ 0 i))) (en_I (tb_H (T0_ 0 i))) (en_I (tb_R (T0_ 0 i))) (en_I (tb_X (T0_ 0 i))) (en_I (tb_D (T0_ 0 i))) (en_I (tb_Q (T0_ 0 i))) (en_I (ca_F C0_)) (en_I (ca_G C0_)) (en_I (ca_H C0_)) (en_I (ca_R C0_)) (en_I (ma_f M0_)) (en_I (ma_g M0_)) (en_I (ma_h M0_)) (en_I (ma_v M0_)) (en_I (ma_p M0_)) (en_I (ma_l M0_)) (en_I (ma_b M0_)) (en_I (ga_r G0_)) (en_I (ga_s G0_)) (en_I (ga_i G0_)) (en_I (ga_w G0_)) (en_I (wo_w W0_)) (en_I (si_z S0_)) (en_I (si_c S0_))
  | 0, i, hm, h1 => by
    have e : i = 1024 := by omega
    subst e
    exact br_t (by decide) h
  | m + 1, i, hm, h1 => by
    have vi : vp_in (nI i) 1024 := vp_in_nI (by omega) (by omega)
    have ih := xw_396 h m (i + 1) (by omega) (by omega)
    unfold T0_ at ih
    rw [Vi_s h1, Xn_s h1] at ih
    refine pk_le 1024 i (fun z => by omega) (fun _ => ⟨vi, ?_⟩)
    rw [nI_clamp (n := i) (by omega)]
    refine nm_r en_uV7 ?_
    refine pk_le 1023 i (fun z => ⟨vi, nm_r (en_uI (x := 0)) (nm_r (nI_1 _) ?_)⟩) (fun z => ⟨vi, nm_r (e' := en_I (fu_u (Xn_ i) i (i + 1))) ?_ (nm_r (nI_1 _) ?_)⟩)
    · rw [if_neg (by omega)] at ih
      exact ih
    · rw [← en_uI, ← nI_1]; rfl
    · rw [if_pos (by omega)] at ih
      exact ih
theorem xw_326 {post : SX → Prop} {va lv : Nat → Nat} (h : post (st_ n la li E0_ h0_ va lv (T0_ 1 1024) C0_ M0_ G0_ W0_ S0_)) : ∀ (m i : Nat), i + m = 10 → 2 ≤ i → wX_init_326 post (nI n) (nI la) (nI li) 0 0 0 0 0 0 0 0 0 (m + 1) (nI i) (en_E (ri_ i)) (fun _ => 0) (en_I va) (en_I lv) (fun _ => 0) (fun _ => 0) (fun _ => 0) (fun _ => 0) (fun _ => 0) (fun _ => 0) (fun _ => 0) (fun _ => 0) (fun _ => 0) (fun _ => 0) (fun _ => 0) (fun _ => 0) (fun _ => 0) (fun _ => 0) (fun _ => 0) (fun _ => 0) (fun _ => 0) (fun _ => 0) (fun _ => 0) (fun _ => 0) (fun _ => 0) (fun _ => 0) (fun _ => 0) (fun _ => 0) (fun _ => 0)
  | 0, i, hm, h1 => by
    have e : i = 10 := by omega
    subst e
    refine br_t (by decide) (nm_r (en_uE (x := 0) (by omega)) (nm_r (en_uE (x := 1) (by omega)) (nm_r (e' := en_I (fu_u z0_ 0 1)) ?_ (nm_r (e' := en_I h0_) ?_ (nm_r (e' := en_V (Vi_ 1)) ?_ (nm_r (e' := en_I (fu_u z0_ 0 1)) ?_ ⟨1023 + 1, ?_⟩))))))
    · rw [← en_uI]; rfl
    · exact en_uI (f := fu_u z0_ 0 1) (k := 1) (x := 1)
    · funext j
      unfold upd en_V Vi_
      by_cases c : j = 0
      · rw [if_pos c, if_pos c]; rfl
      · rw [if_neg c, if_neg c, if_neg (show ¬ j < 1 by omega), if_pos (show 0 < 7 by omega)]; rfl
    · rw [← en_uI]; rfl
    · have w := xw_396 (n := n) (la := la) (li := li) (E := E0_) (hh := h0_) (va := va) (lv := lv) h 1023 1 (by omega) (by omega)
      have e1 : Xn_ 1 = z0_ := by
        funext j; unfold Xn_ z0_; rw [if_neg (by omega)]
      unfold T0_ at w
      rw [e1] at w
      exact w
  | m + 1, i, hm, h1 => by
    have vi : vp_in (nI i) 10 := vp_in_nI (by omega) (by omega)
    have ih := xw_326 h m (i + 1) (by omega) (by omega)
    rw [ri_s h1] at ih
    refine pk_le 10 i (fun z => by omega) (fun _ => ⟨vi, ?_⟩)
    rw [nI_clamp (n := i) (by omega)]
    exact nm_r en_uEn (nm_r (nI_1 _) ih)
theorem xw_292 {post : SX → Prop} (h : post (st_ n la li E0_ h0_ (vi_ 7) (vi_ 7) (T0_ 1 1024) C0_ M0_ G0_ W0_ S0_)) : ∀ (m i : Nat), i + m = 7 → wX_init_292 post (nI n) (nI la) (nI li) 0 0 0 0 0 0 0 0 0 (m + 1) (nI i) (fun _ => 0) (fun _ => 0) (en_I (vi_ i)) (en_I (vi_ i)) (fun _ => 0) (fun _ => 0) (fun _ => 0) (fun _ => 0) (fun _ => 0) (fun _ => 0) (fun _ => 0) (fun _ => 0) (fun _ => 0) (fun _ => 0) (fun _ => 0) (fun _ => 0) (fun _ => 0) (fun _ => 0) (fun _ => 0) (fun _ => 0) (fun _ => 0) (fun _ => 0) (fun _ => 0) (fun _ => 0) (fun _ => 0) (fun _ => 0) (fun _ => 0) (fun _ => 0) (fun _ => 0)
  | 0, i, hm => by
    have e : i = 7 := by omega
    subst e
    refine br_t (by decide) ⟨8 + 1, ?_⟩
    have w := xw_326 (n := n) (la := la) (li := li) h 8 2 (by omega) (by omega)
    have e1 : en_E (ri_ 2) = fun _ => 0 := by
      funext j; unfold en_E ri_; rw [if_neg (show ¬ (2 ≤ j ∧ j < 2) by omega), if_pos (show 0 < 2048 by omega)]; rfl
    rw [e1] at w
    exact w
  | m + 1, i, hm => by
    have vi : vp_in (nI i) 7 := vp_in_nI (by omega) (by omega)
    have ih := xw_292 h m (i + 1) (by omega)
    rw [vi_s] at ih
    refine pk_le 7 i (fun z => by omega) (fun _ => ⟨vi, ?_⟩)
    rw [nI_clamp (n := i) (by omega)]
    exact nm_r en_uI ⟨vi, nm_r en_uI (nm_r (nI_1 _) ih)⟩
theorem cl_x (x : Int32) (lo hi : Nat) (h : lo ≤ hi) (hb : hi < 2 ^ 31) : ∃ c, lo ≤ c ∧ c ≤ hi ∧ ∀ A : Int32 → Prop, A (nI c) → ((nI lo ≤ x → ((x ≤ nI hi → A x) ∧ (¬ x ≤ nI hi → A (nI hi)))) ∧ (¬ nI lo ≤ x → A (nI lo))) := by
  by_cases c1 : nI lo ≤ x
  · by_cases c2 : x ≤ nI hi
    · have h0 : ¬ x < 0 := fun z => by
        have : nI lo < 0 := Int32.lt_of_le_of_lt c1 z
        exact nI_pos (by omega) this
      obtain ⟨j, hj, e⟩ := nI_of h0
      subst e
      rw [nI_leI (by omega) hj] at c1
      rw [nI_leI hj hb] at c2
      exact ⟨j, c1, c2, fun A hA => ⟨fun _ => ⟨fun _ => hA, fun z => absurd (nI_le c2 hb) z⟩, fun z => absurd (nI_le c1 hj) z⟩⟩
    · exact ⟨hi, h, Nat.le_refl _, fun A hA => ⟨fun _ => ⟨fun z => absurd z c2, fun _ => hA⟩, fun z => absurd c1 z⟩⟩
  · exact ⟨lo, Nat.le_refl _, h, fun A hA => ⟨fun z => absurd z c1, fun _ => hA⟩⟩
theorem xw_clamp {post : Int32 → Prop} {u : SX} {x : Int32} {lo hi c : Nat} (hc : ∀ A : Int32 → Prop, A (nI c) → ((nI lo ≤ x → ((x ≤ nI hi → A x) ∧ (¬ x ≤ nI hi → A (nI hi)))) ∧ (¬ nI lo ≤ x → A (nI lo)))) (h : post (nI c)) : wpX_clamp post u x (nI lo) (nI hi) := by
  rcases u with ⟨u1, u2, u3, u4, u5, u6, u7, u8, u9, u10, u11, u12, u13, u14, u15, u16, u17, u18, u19, u20, u21, u22, u23, u24, u25, u26, u27, u28, u29, u30, u31, u32, u33, u34, u35, u36, u37, u38, u39, u40, u41⟩
  exact hc post h
end
/-! the reference's -/
def B0_ (i : Nat) : Nat → Nat → Bool := fun h a => decide (h = 1) && decide (a < i)
def us_0 (i : Nat) : Nat → Nat := fun h => if h < i then 1 else 0
section
variable {n la li : Nat}
theorem us_s {i : Nat} : us_0 (i + 1) = fu_u (us_0 i) i 1 := by
  funext j; unfold us_0 fu_u
  by_cases e : j = i
  · rw [if_pos e, if_pos (by omega)]
  · rw [if_neg e]
    dsimp only
    by_cases d : j < i
    · rw [if_pos d, if_pos (by omega)]
    · rw [if_neg d, if_neg (by omega)]
theorem yw_227 {post : SY → Prop} {F : Nat → Int64} {o : Nat → Int32} (h : post (nI n, nI la, nI li, nI (2 ^ n), F, en_I (us_0 2), en_I (us_0 2), o, (fun _ => 0), (fun _ => 0), (fun _ => 0), (fun _ => 0), (fun _ => 0))) : ∀ (m i : Nat), i + m = 2 → wY_init_227 post (nI n) (nI la) (nI li) (nI (2 ^ n)) (m + 1) (nI i) F (en_I (us_0 i)) (en_I (us_0 i)) o (fun _ => 0) (fun _ => 0) (fun _ => 0) (fun _ => 0) (fun _ => 0)
  | 0, i, hm => by
    have e : i = 2 := by omega
    subst e
    exact br_t (by decide) h
  | m + 1, i, hm => by
    have vi : vp_in (nI i) 10 := vp_in_nI (by omega) (by omega)
    have ih := yw_227 h m (i + 1) (by omega)
    rw [us_s] at ih
    refine pk_le 2 i (fun z => by omega) (fun _ => ⟨vi, ?_⟩)
    rw [nI_clamp (n := i) (by omega)]
    exact nm_r (en_uI (x := 1)) ⟨vi, nm_r (en_uI (x := 1)) (nm_r (nI_1 _) ih)⟩
theorem yw_196 {post : SY → Prop} {o : Nat → Int32} (n6 : n ≤ 6) (h : post (nI n, nI la, nI li, nI (2 ^ n), en_F n (B0_ (2 ^ n)), en_I (us_0 2), en_I (us_0 2), o, (fun _ => 0), (fun _ => 0), (fun _ => 0), (fun _ => 0), (fun _ => 0))) : ∀ (m i : Nat), i + m = 2 ^ n → wY_init_196 post (nI n) (nI la) (nI li) (nI (2 ^ n)) (m + 1) (nI i) (en_F n (B0_ i)) (fun _ => 0) (fun _ => 0) o (fun _ => 0) (fun _ => 0) (fun _ => 0) (fun _ => 0) (fun _ => 0)
  | 0, i, hm => by
    have p64 := p2_le n6
    have e : i = 2 ^ n := by omega
    subst e
    refine pk_le (2 ^ n) (2 ^ n) (fun _ => ⟨2 + 1, ?_⟩) (fun z => by omega)
    have w := yw_227 h 2 0 (by omega)
    have e1 : en_I (us_0 0) = fun _ => 0 := by
      funext j; unfold en_I us_0; rw [if_neg (by omega)]; rfl
    rw [e1] at w
    exact w
  | m + 1, i, hm => by
    have p64 := p2_le n6
    have ih := yw_196 n6 h m (i + 1) (by omega)
    refine pk_le (2 ^ n) i (fun z => by omega) (fun _ => nm_r (e' := en_F n (B0_ (i + 1))) ?_ (nm_r (nI_1 _) ih))
    have key : ∀ c, mk_N (B0_ (i + 1) 1) c = if i < c then mk_N (B0_ i 1) c + 2 ^ i else mk_N (B0_ i 1) c := by
      intro c
      induction c with
      | zero => rw [if_neg (by omega)]; rfl
      | succ c ih =>
        simp only [mk_N]
        rw [ih]
        by_cases a : i < c
        · rw [if_pos a, if_pos (by omega)]
          have : B0_ (i + 1) 1 c = B0_ i 1 c := by unfold B0_; rw [decide_eq_false (show ¬ c < i + 1 by omega), decide_eq_false (show ¬ c < i by omega)]
          rw [this]; omega
        · rw [if_neg a]
          by_cases d : i = c
          · rw [if_pos (by omega)]
            have e1 : B0_ (i + 1) 1 c = true := by unfold B0_; rw [decide_eq_true (show c < i + 1 by omega)]; rfl
            have e2 : B0_ i 1 c = false := by unfold B0_; rw [decide_eq_false (show ¬ c < i by omega)]; rfl
            rw [e1, e2, d]; simp; omega
          · rw [if_neg (by omega)]
            have : B0_ (i + 1) 1 c = B0_ i 1 c := by unfold B0_; rw [decide_eq_true (show c < i + 1 by omega), decide_eq_true (show c < i by omega)]
            rw [this]
    have hlt : mk_N (B0_ i 1) (2 ^ n) < 2 ^ i := by
      have q : ∀ c, i ≤ c → mk_N (B0_ i 1) c < 2 ^ i := by
        intro c hc
        induction c with
        | zero => have : i = 0 := by omega
                  subst this; simp [mk_N]
        | succ c ih =>
          by_cases d : i = c + 1
          · rw [d]; exact mk_lt _ _
          · have := ih (by omega)
            simp only [mk_N]
            have e2 : B0_ i 1 c = false := by unfold B0_; rw [decide_eq_false (show ¬ c < i by omega)]; rfl
            rw [e2]; simp; exact this
      exact q _ (by omega)
    have hpw : (2 : Nat) ^ (i + 1) ≤ 2 ^ 64 := Nat.pow_le_pow_right (by omega) (by omega)
    rw [Nat.pow_succ] at hpw
    funext h'
    unfold vp_updL en_F
    by_cases c : h' = 1
    · rw [if_pos c, c, key, if_pos (by omega)]
      have e1 := wb_shl 1 (k := i) (by omega)
      rw [show (lN 1 : Int64) = 1 from rfl] at e1
      rw [e1, g_or' (k := i) rfl hlt (by omega), Nat.one_mul]
    · rw [if_neg c]
      exact congrArg lN (mk_ext (fun a _ => by unfold B0_; rw [decide_eq_false c]; rfl))
theorem yw_171 {post : SY → Prop} (n6 : n ≤ 6) (h : post (nI n, nI la, nI li, nI (2 ^ n), en_F n (B0_ (2 ^ n)), en_I (us_0 2), en_I (us_0 2), en_O (vi_ 7), (fun _ => 0), (fun _ => 0), (fun _ => 0), (fun _ => 0), (fun _ => 0))) : ∀ (m i : Nat), i + m = 6 → wY_init_171 post (nI n) (nI la) (nI li) (nI (2 ^ n)) (m + 1) (nI i) (fun _ => 0) (fun _ => 0) (fun _ => 0) (en_I (vi_ i)) (fun _ => 0) (fun _ => 0) (fun _ => 0) (fun _ => 0) (fun _ => 0)
  | 0, i, hm => by
    have e : i = 6 := by omega
    subst e
    refine br_t (by decide) ⟨2 ^ n + 1, ?_⟩
    have e0 : en_O (vi_ 7) = en_I (vi_ 6) := by
      funext j; unfold en_O en_I vi_
      by_cases c : j < 6
      · rw [if_pos c, if_pos (by omega), if_pos c]
      · rw [if_neg c, if_neg c]; rfl
    rw [e0] at h
    have w := yw_196 n6 h (2 ^ n) 0 (by omega)
    have e1 : en_F n (B0_ 0) = fun _ => 0 := by
      funext j; unfold en_F
      rw [mk_ext (g := fun _ => false) (fun a _ => by unfold B0_; rw [decide_eq_false (Nat.not_lt_zero _)]; simp), mk_0]; rfl
    rw [e1] at w
    exact w
  | m + 1, i, hm => by
    have vi : vp_in (nI i) 6 := vp_in_nI (by omega) (by omega)
    have ih := yw_171 n6 h m (i + 1) (by omega)
    rw [vi_s] at ih
    refine pk_le 6 i (fun z => by omega) (fun _ => ⟨vi, ?_⟩)
    rw [nI_clamp (n := i) (by omega)]
    exact nm_r en_uI (nm_r (nI_1 _) ih)
end
/-! the first states are related -/
def fl_ : Nat → Nat → List Nat
  | 0, _ => []
  | m + 1, s => s :: fl_ m (s + 1)
theorem fl_m : ∀ {m s j : Nat}, j ∈ fl_ m s ↔ s ≤ j ∧ j < s + m
  | 0, s, j => ⟨fun h => by simp [fl_] at h, fun h => by omega⟩
  | m + 1, s, j => by
    show j ∈ s :: fl_ m (s + 1) ↔ _
    rw [List.mem_cons, fl_m]
    constructor
    · intro h; rcases h with h | h <;> omega
    · intro h; by_cases c : j = s
      · exact Or.inl c
      · exact Or.inr (by omega)
theorem fl_n : ∀ {m s : Nat}, (fl_ m s).Nodup
  | 0, _ => List.nodup_nil
  | m + 1, s => List.nodup_cons.mpr ⟨fun h => by have := fl_m.mp h; omega, fl_n⟩
theorem fl_l : ∀ {m s : Nat}, s + m + 1 = 1024 → 1 ≤ s → Lk_ (Xn_ 1024) s (fl_ (m + 1) s)
  | 0, s, h, h1 => by
    refine ⟨rfl, by omega, ?_⟩
    show Xn_ 1024 s = 0
    unfold Xn_; rw [if_neg (by omega)]
  | m + 1, s, h, h1 => by
    refine ⟨rfl, by omega, ?_⟩
    have e : Xn_ 1024 s = s + 1 := by unfold Xn_; rw [if_pos (by omega)]
    rw [e]
    exact fl_l (by omega) (by omega)
theorem V0_n {i : Nat} (h : i < 1024) : ¬ Vi_ 1024 i < 6 := by
  unfold Vi_
  by_cases c : i = 0
  · rw [if_pos c]; omega
  · rw [if_neg c, if_pos h]; omega
theorem re_0 {n la li : Nat} (h2 : 2 ≤ n) (h6 : n ≤ 6) (h5 : 5 ≤ la) (h9 : la ≤ 9) (h1 : 1 ≤ li) (h100 : li ≤ 100) : Re_ n la li E0_ h0_ (vi_ 7) (vi_ 7) (T0_ 1 1024) C0_ G0_ (fun _ _ => false) (B0_ (2 ^ n)) (us_0 2) := by
  have noal : ∀ i, ¬ al_ (Vi_ 1024) i := fun i h => V0_n h.1 h.2
  have ok0 : ∀ i, ok_ (Vi_ 1024) i → i = 0 := fun i h => h.elim id (fun z => absurd z (noal i))
  have Eb : ∀ h, h < 10 → (E0_ h < 2048 ↔ h < 2) := fun h hh => by
    unfold E0_
    by_cases a : h = 1
    · rw [a, fu_s]; omega
    · rw [fu_n a]
      by_cases b : h = 0
      · rw [b, fu_s]; omega
      · rw [fu_n b]; unfold ri_; rw [if_pos (by omega)]; omega
  have e0 : E0_ 0 = 0 := by unfold E0_; rw [fu_n (by omega), fu_s]
  have e1 : E0_ 1 = 1 := fu_s
  have hr0 : ∀ i, hr_ E0_ i = 0 := fun i => sm_z0 (fun h hh => if_neg (fun z => by have := (Eb h hh).mp z.2.1; omega))
  have nr0 : ∀ i, nr_ (Vi_ 1024) z0_ z0_ i = 0 := fun i => sm_z0 (fun j hj => by unfold nw_; rw [if_neg (V0_n hj)])
  refine ⟨⟨⟨⟨h2, h6, by decide, fun w hw => by unfold vi_; rw [if_pos (by omega)]; exact hw⟩, fun l hl => ?_, fun v hv => ?_⟩, ⟨⟨⟨h6, by decide, fun _ => rfl⟩, fun i hi => absurd hi (noal i), fun i hi => absurd hi (noal i), fun i hi => absurd hi (noal i), fun _ _ => rfl, fun i j hi hj _ => by rw [ok0 i hi, ok0 j hj]⟩, ⟨fun _ => [], fun b _ => ⟨rfl, List.nodup_nil, fun j => ⟨fun h => by simp at h, fun h => absurd h.1.1 (noal j)⟩⟩⟩, ⟨fl_ 1023 1, fl_l (m := 1022) (s := 1) (by omega) (by omega), fl_n, fun j => ?_, fun j hj => ?_⟩, fun i hi => ?_, ?_, ⟨?_, fun v hv => ?_⟩, fun h a b c => absurd ((Eb h b).mp c) (by omega)⟩, fun i hi => absurd hi (noal i), rfl, fun i _ h => absurd rfl h, ⟨fun _ => rfl, rfl, rfl⟩, ⟨h5, h9, h1, h100⟩, ⟨e0, e1, ?_, ?_⟩, fun h a b c => absurd ((Eb h (by omega)).mp c) (by omega), fun h a b c => absurd ((Eb h b).mp c) (by omega), fun h hh => ?_, fun h i a b _ _ c => absurd ((Eb h (by omega)).mp c) (by omega)⟩, fun h hh => ?_, fun h hh hE a ha => ?_⟩
  · unfold vi_; rw [if_pos (by omega), if_pos (by omega)]; exact ⟨hl, rfl⟩
  · unfold vi_; rw [if_pos (by omega), if_pos (by omega)]; exact ⟨hv, rfl⟩
  · show j ∈ fl_ 1023 1 ↔ 0 < j ∧ j < 1024 ∧ ¬ Vi_ 1024 j < 6
    rw [fl_m]
    constructor
    · intro h; exact ⟨by omega, by omega, V0_n (by omega)⟩
    · intro h; omega
  · show Vi_ 1024 j = 7
    have := fl_m.mp hj
    unfold Vi_; rw [if_neg (by omega), if_pos (by omega)]
  · have := ok0 i hi
    subst this
    show fu_u z0_ 0 1 0 = _ + hr_ E0_ 0 + nr_ (Vi_ 1024) z0_ z0_ 0
    rw [fu_s, hr0, nr0, if_pos rfl]
  · show 0 = lc_ (Vi_ 1024) (fu_u z0_ 0 1)
    symm
    exact lc_0 (fun k hk => absurd hk (noal k))
  · show 0 = tc_ 0 (Vi_ 1024)
    symm
    exact sm_z0 (fun j hj => if_neg (fun z => V0_n hj z.1))
  · show 0 = vc_ 0 (Vi_ 1024) v
    symm
    exact sm_z0 (fun j hj => if_neg (fun z => V0_n hj (by rw [z.1]; exact hv)))
  · unfold h0_; rw [fu_n (by omega), fu_s]
  · exact fu_s
  · unfold h0_
    by_cases a : h = 1
    · rw [a, fu_s]; exact h1
    · rw [fu_n a]
      by_cases b : h = 0
      · rw [b, fu_s]; exact h1
      · rw [fu_n b]; exact Nat.zero_le _
  · unfold us_0
    by_cases c : h < 2
    · rw [if_pos c, if_pos ((Eb h hh).mpr c)]
    · rw [if_neg c, if_neg (fun z => c ((Eb h hh).mp z))]
  · have := (Eb h hh).mp hE
    rcases (by omega : h = 0 ∨ h = 1) with z | z
    · subst z; rw [e0]; rfl
    · subst z
      rw [e1]
      unfold B0_
      rw [decide_eq_true ha]; rfl
theorem h0_us : h0_ = us_0 2 := by
  funext j
  unfold h0_ us_0
  by_cases a : j = 1
  · rw [a, fu_s, if_pos (by omega)]
  · rw [fu_n a]
    by_cases b : j = 0
    · rw [b, fu_s, if_pos (by omega)]
    · rw [fu_n b, if_neg (by omega)]; rfl
theorem i_vc0 (k0 : Int32) (k1 : Int32) (k2 : Int32) : wpX_init (fun u => wpY_init (fun v => i_Rel 3 u v) k0 k1 k2) k0 k1 k2 := by
  obtain ⟨n, n2, n6, c0⟩ := cl_x k0 2 6 (by omega) (by omega)
  obtain ⟨c, c4, c8, c1⟩ := cl_x k1 4 8 (by omega) (by omega)
  obtain ⟨li, l1, l100, c2⟩ := cl_x k2 1 100 (by omega) (by omega)
  have R := re_0 (la := c + 1) n2 n6 (by omega) (by omega) l1 l100
  unfold wpX_init
  refine xw_clamp (lo := 2) (hi := 6) c0 ?_
  refine xw_clamp (lo := 4) (hi := 8) c1 (nm_r (nI_1 _) ?_)
  refine xw_clamp (lo := 1) (hi := 100) c2 ⟨7 + 1, ?_⟩
  have e7 : en_I (vi_ 0) = fun _ => 0 := by
    funext j; unfold en_I vi_; rw [if_neg (by omega)]; rfl
  have w := xw_292 (n := n) (la := c + 1) (li := li) (post := fun u => wpY_init (fun v => i_Rel 3 u v) k0 k1 k2) ?_ 7 0 (by omega)
  · rw [e7] at w
    exact w
  · unfold wpY_init
    refine c0 (fun z => wY_init_99 (fun v => i_Rel 3 (st_ n (c + 1) li E0_ h0_ (vi_ 7) (vi_ 7) (T0_ 1 1024) C0_ M0_ G0_ W0_ S0_) v) k1 k2 z 0 0 0 0 (fun _ => 0) (fun _ => 0) (fun _ => 0) (fun _ => 0) (fun _ => 0) (fun _ => 0) (fun _ => 0) (fun _ => 0) (fun _ => 0)) ?_
    unfold wY_init_99
    refine c1 (fun z => wY_init_123 (fun v => i_Rel 3 (st_ n (c + 1) li E0_ h0_ (vi_ 7) (vi_ 7) (T0_ 1 1024) C0_ M0_ G0_ W0_ S0_) v) k2 z (nI n) 0 0 0 (fun _ => 0) (fun _ => 0) (fun _ => 0) (fun _ => 0) (fun _ => 0) (fun _ => 0) (fun _ => 0) (fun _ => 0) (fun _ => 0)) ?_
    unfold wY_init_123
    refine nm_r (nI_1 _) ?_
    refine c2 (fun z => wY_init_155 (fun v => i_Rel 3 (st_ n (c + 1) li E0_ h0_ (vi_ 7) (vi_ 7) (T0_ 1 1024) C0_ M0_ G0_ W0_ S0_) v) z (nI n) (nI (c + 1)) 0 0 (fun _ => 0) (fun _ => 0) (fun _ => 0) (fun _ => 0) (fun _ => 0) (fun _ => 0) (fun _ => 0) (fun _ => 0) (fun _ => 0)) ?_
    unfold wY_init_155
    refine nm_r (sh_n n2 n6) ⟨6 + 1, ?_⟩
    have y := yw_171 (n := n) (la := c + 1) (li := li) (post := fun v => i_Rel 3 (st_ n (c + 1) li E0_ h0_ (vi_ 7) (vi_ 7) (T0_ 1 1024) C0_ M0_ G0_ W0_ S0_) v) n6 ?_ 6 0 (by omega)
    · rw [e7] at y
      exact y
    · have z := ir_mk (k := 3) (M := M0_) (W := W0_) (S := S0_) (ot := fun _ => 0) (sn := fun _ => 0) (sw := fun _ => 0) (ls := fun _ => 0) (lt := fun _ => 0) R
      unfold sy_ at z
      rw [h0_us] at z ⊢
      exact z
end

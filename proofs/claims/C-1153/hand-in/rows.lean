section
/-! pure rows to paste: stores, nI and lN arithmetic, masks, shifts, narrowing, branches by naturals (pk_le, pk_lt, pk_eq), loops (lp1 .. lp16: the measure of the state; rp1 ..: recursion), negatives. Take what you need -/
theorem pk_us {f : Nat → Int32} {k : Nat} {x : Int32} : upd f k x k = x := if_pos rfl
theorem pk_un {f : Nat → Int32} {k j : Nat} {x : Int32} (h : j ≠ k) : upd f k x j = f j := if_neg h
theorem pk_uLs {f : Nat → Int64} {k : Nat} {x : Int64} : vp_updL f k x k = x := if_pos rfl
theorem pk_uLn {f : Nat → Int64} {k j : Nat} {x : Int64} (h : j ≠ k) : vp_updL f k x j = f j := if_neg h
theorem pk_sub {a b : Nat} (h : b ≤ a) : nI a - nI b = nI (a - b) := by
  obtain ⟨c, rfl⟩ : ∃ c, a = c + b := ⟨a - b, by omega⟩
  rw [← nI_add, Int32.add_sub_cancel, Nat.add_sub_cancel]
theorem pk_m1 (n : Nat) : nI (n + 1) + (-1) = nI n := by
  rw [← nI_1, Int32.add_assoc, show (1 : Int32) + (-1) = 0 from rfl, Int32.add_zero]
theorem pk_mul (a b : Nat) : nI a * nI b = nI (a * b) := (Int32.ofNat_mul a b).symm
theorem pk_div {a d : Nat} (ha : a < 2 ^ 31) (h0 : 0 < d) (hd : d < 2 ^ 31) : nI a / nI d = nI (a / d) := by
  apply Int32.toInt_inj.mp
  rw [lg_idiv_nonneg (by rw [nI_toInt ha]; omega) (by rw [nI_toInt hd]; omega), nI_toInt ha, nI_toInt hd, nI_toInt (Nat.lt_of_le_of_lt (Nat.div_le_self a d) ha)]
  first | rfl | exact (Int.natCast_ediv _ _).symm
theorem pk_rem {a d : Nat} (ha : a < 2 ^ 31) (h0 : 0 < d) (hd : d < 2 ^ 31) : nI a - nI a / nI d * nI d = nI (a % d) := by
  rw [pk_div ha h0 hd, pk_mul, pk_sub (Nat.div_mul_le_self a d)]
  exact congrArg nI (by have := Nat.div_add_mod' a d; omega)
theorem pk_sub_toInt {a b : Nat} (ha : a < 2 ^ 30) (hb : b < 2 ^ 30) : (nI a - nI b).toInt = (a : Int) - b := by
  rw [Int32.toInt_sub, nI_toInt (by omega), nI_toInt (by omega)]
  exact Int.bmod_eq_of_le (by omega) (by omega)
theorem pk_sneg {a b : Nat} (hb : b < 2 ^ 30) (h : a < b) : nI a - nI b < 0 := by
  rw [Int32.lt_iff_toInt_lt, pk_sub_toInt (by omega) hb, show (0 : Int32).toInt = 0 from by decide]
  omega
theorem pk_ix (x : Int32) {n : Nat} (hn : n < 2 ^ 31) : x < 0 ∨ nI n ≤ x ∨ ∃ j : Nat, j < n ∧ x = nI j := by
  by_cases h : x < 0
  · exact Or.inl h
  · obtain ⟨j, hj, rfl⟩ := nI_of h
    by_cases h2 : j < n
    · exact Or.inr (Or.inr ⟨j, h2, rfl⟩)
    · exact Or.inr (Or.inl (nI_le (by omega) hj))
theorem pk_le {x y : Int32} {A B : Prop} (a b : Nat) (f : a ≤ b → A) (g : b < a → B) (hx : x = nI a := by rfl) (hy : y = nI b := by rfl) (ha : a < 2 ^ 31 := by omega) (hb : b < 2 ^ 31 := by omega) : (x ≤ y → A) ∧ (¬ x ≤ y → B) := by
  subst hx hy
  rw [nI_leI ha hb]
  exact ⟨f, fun z => g (by omega)⟩
theorem pk_lt {x y : Int32} {A B : Prop} (a b : Nat) (f : a < b → A) (g : b ≤ a → B) (hx : x = nI a := by rfl) (hy : y = nI b := by rfl) (ha : a < 2 ^ 31 := by omega) (hb : b < 2 ^ 31 := by omega) : (x < y → A) ∧ (¬ x < y → B) := by
  subst hx hy
  rw [nI_ltI ha hb]
  exact ⟨f, fun z => g (by omega)⟩
theorem pk_eq {x y : Int32} {A B : Prop} (a b : Nat) (f : a = b → A) (g : a ≠ b → B) (hx : x = nI a := by rfl) (hy : y = nI b := by rfl) (ha : a < 2 ^ 31 := by omega) (hb : b < 2 ^ 31 := by omega) : (x = y → A) ∧ (¬ x = y → B) := by
  subst hx hy
  rw [nI_eq ha hb]
  exact ⟨f, g⟩
theorem pk_in {x : Int32} (n N : Nat) (h : n < N) (hx : x = nI n := by rfl) (hN : N < 2 ^ 31 := by omega) : vp_in x N := by
  subst hx
  exact vp_in_nI h hN
theorem pk_cl {x : Int32} (n : Nat) (hx : x = nI n := by rfl) (h : n < 2 ^ 31 := by omega) : x.toNatClampNeg = n := by
  subst hx
  exact nI_clamp h
theorem pk_tn {n : Nat} (h : n < 2 ^ 32) : (nI n).toBitVec.toNat = n := Nat.mod_eq_of_lt h
theorem pk_and (x : Int32) {m : Int32} (k : Nat) (hm : m.toBitVec.toNat = 2 ^ k - 1) : x &&& m = nI (x.toBitVec.toNat % 2 ^ k) := by
  apply Int32.toBitVec_inj.mp
  apply BitVec.eq_of_toNat_eq
  rw [Int32.toBitVec_and, BitVec.toNat_and, hm, Nat.and_two_pow_sub_one_eq_mod]
  show _ = (BitVec.ofNat 32 _).toNat
  rw [BitVec.toNat_ofNat]
  exact (Nat.mod_eq_of_lt (Nat.lt_of_le_of_lt (Nat.mod_le _ _) x.toBitVec.isLt)).symm
theorem pk_andN {n : Nat} (h : n < 2 ^ 32) {m : Int32} (k : Nat) (hm : m.toBitVec.toNat = 2 ^ k - 1) : nI n &&& m = nI (n % 2 ^ k) := by
  rw [pk_and _ k hm, pk_tn h]
theorem pk_andE (x : Int32) {m : Int32} (k : Nat) (hm : m.toBitVec.toNat = 2 ^ k - 1) : ∃ j : Nat, j < 2 ^ k ∧ x &&& m = nI j := ⟨_, Nat.mod_lt _ (Nat.two_pow_pos k), pk_and x k hm⟩
theorem pk_andIn (x : Int32) {m : Int32} (k : Nat) (hm : m.toBitVec.toNat = 2 ^ k - 1) (hk : k ≤ 30) : vp_in (x &&& m) (2 ^ k) := by
  obtain ⟨j, hj, e⟩ := pk_andE x k hm
  rw [e]
  exact vp_in_nI hj (Nat.lt_of_le_of_lt (Nat.pow_le_pow_right (by decide) hk) (by decide))
theorem pk_shl (a s : Int32) (k : Nat) (hs : (s.toBitVec.smod 32).toNat = k) : (a <<< s).toBitVec.toNat = a.toBitVec.toNat * 2 ^ k % 2 ^ 32 := by
  show (a.toBitVec <<< (s.toBitVec.smod 32).toNat).toNat = _
  rw [hs, BitVec.toNat_shiftLeft, Nat.shiftLeft_eq]
theorem pk_shlN {n : Nat} (s : Int32) (k : Nat) (hs : (s.toBitVec.smod 32).toNat = k) (h : n * 2 ^ k < 2 ^ 32) : nI n <<< s = nI (n * 2 ^ k) := by
  apply Int32.toBitVec_inj.mp
  apply BitVec.eq_of_toNat_eq
  have hn : n < 2 ^ 32 := Nat.lt_of_le_of_lt (Nat.le_mul_of_pos_right n (Nat.two_pow_pos k)) h
  rw [pk_shl _ _ k hs, pk_tn hn, pk_tn h, Nat.mod_eq_of_lt h]
theorem pk_shr (a s : Int32) (k : Nat) (hs : (s.toBitVec.smod 32).toNat = k) : (a >>> s).toInt = a.toInt >>> k := by
  show (a.toBitVec.sshiftRight (s.toBitVec.smod 32).toNat).toInt = _
  rw [hs, BitVec.toInt_sshiftRight]
  rfl
theorem pk_shrN {n : Nat} (h : n < 2 ^ 31) (s : Int32) (k : Nat) (hs : (s.toBitVec.smod 32).toNat = k) : nI n >>> s = nI (n / 2 ^ k) := by
  apply Int32.toInt_inj.mp
  have h2 : n / 2 ^ k ≤ n := Nat.div_le_self _ _
  rw [pk_shr _ _ k hs, nI_toInt h, nI_toInt (by omega), Int.shiftRight_eq_div_pow]
  rfl
theorem pk_ushr (x s : Int32) (k : Nat) (hs : ((s.toUInt32 &&& Int32.toUInt32 31).toBitVec % 32).toNat = k) : (x.toUInt32 >>> (s.toUInt32 &&& Int32.toUInt32 31)).toInt32.toBitVec.toNat = x.toBitVec.toNat / 2 ^ k := by
  have e : (x.toUInt32 >>> (s.toUInt32 &&& Int32.toUInt32 31)).toInt32.toBitVec = x.toBitVec >>> k := by
    rw [← hs]
    exact UInt32.toBitVec_shiftRight _ _
  rw [e, BitVec.toNat_ushiftRight, Nat.shiftRight_eq_div_pow]
theorem pk_ushrN {n : Nat} (hn : n < 2 ^ 32) (s : Int32) (k : Nat) (hs : ((s.toUInt32 &&& Int32.toUInt32 31).toBitVec % 32).toNat = k) : ((nI n).toUInt32 >>> (s.toUInt32 &&& Int32.toUInt32 31)).toInt32 = nI (n / 2 ^ k) := by
  apply Int32.toBitVec_inj.mp
  apply BitVec.eq_of_toNat_eq
  rw [pk_ushr _ s k hs, pk_tn hn, pk_tn (Nat.lt_of_le_of_lt (Nat.div_le_self _ _) hn)]
theorem pk_nb (z : Int32) : narrow .byte (.int z.toInt8.toInt32) = .int z.toInt8.toInt32 := congrArg Value.int (by simp)
theorem pk_ns (z : Int32) : narrow .short (.int z.toInt16.toInt32) = .int z.toInt16.toInt32 := congrArg Value.int (by simp)
theorem pk_fb (r : Int32) : fits .byte (.int r.toInt8.toInt32) = true := by
  have ⟨a, b⟩ := lg_i2b_range r
  have h1 : (-128 : Int32).toInt = -128 := by decide
  have h2 : (127 : Int32).toInt = 127 := by decide
  simp only [fits, Bool.and_eq_true, decide_eq_true_eq, Int32.le_iff_toInt_le, h1, h2]
  omega
theorem pk_fs (r : Int32) : fits .short (.int r.toInt16.toInt32) = true := by
  have ⟨a, b⟩ := lg_i2s_range r
  have h1 : (-32768 : Int32).toInt = -32768 := by decide
  have h2 : (32767 : Int32).toInt = 32767 := by decide
  simp only [fits, Bool.and_eq_true, decide_eq_true_eq, Int32.le_iff_toInt_le, h1, h2]
  omega
theorem pk_charN {q : Nat} (hq : q < 65536) : narrow .char (.int (nI q)) = .int (nI q) ∧ fits .char (.int (nI q)) = true := by
  constructor
  · have e : (nI q).toUInt32.toUInt16.toUInt32.toInt32 = nI q := by
      apply Int32.toBitVec_inj.mp
      apply BitVec.eq_of_toNat_eq
      show (nI q).toUInt32.toUInt16.toUInt32.toNat = q % 2 ^ 32
      rw [UInt16.toNat_toUInt32, UInt32.toNat_toUInt16, show (nI q).toUInt32.toNat = q % 2 ^ 32 from rfl]
      omega
    exact congrArg Value.int e
  · have a : (0 : Int32) ≤ nI q := nI_pos' (by omega)
    have b : nI q ≤ 65535 := nI_le (b := 65535) (by omega) (by decide)
    show (decide ((0 : Int32) ≤ nI q) && decide (nI q ≤ 65535)) = true
    rw [decide_eq_true a, decide_eq_true b]
    rfl
theorem pk_char (x : Int32) : (x.toUInt32 % 65536).toInt32 = nI (x.toBitVec.toNat % 65536) := by
  apply Int32.toBitVec_inj.mp
  apply BitVec.eq_of_toNat_eq
  rw [pk_tn (by omega)]
  show (x.toUInt32 % 65536).toNat = _
  rw [UInt32.toNat_mod]
  rfl
theorem pk_nc (x : Int32) : narrow .char (.int (x.toUInt32 % 65536).toInt32) = .int (x.toUInt32 % 65536).toInt32 := by
  rw [pk_char]
  exact (pk_charN (Nat.mod_lt _ (by decide))).1
theorem pk_fc (x : Int32) : fits .char (.int (x.toUInt32 % 65536).toInt32) = true := by
  rw [pk_char]
  exact (pk_charN (Nat.mod_lt _ (by decide))).2
theorem pk_vb (z : Int32) : vp_nar .byte z.toInt8.toInt32 = z.toInt8.toInt32 := by rw [vp_nar_byte]; simp
theorem pk_vs (z : Int32) : vp_nar .short z.toInt16.toInt32 = z.toInt16.toInt32 := by rw [vp_nar_short]; simp
theorem pk_vc (z : Int32) : vp_nar .char (z.toUInt32 % 65536).toInt32 = (z.toUInt32 % 65536).toInt32 := Value.int.inj (pk_nc z)
theorem pk_lT {n : Nat} (h : n < 2 ^ 63) : (lN n).toInt = (n : Int) := lg_ofNat_toInt h
theorem pk_lLT {a b : Nat} (ha : a < 2 ^ 63) (hb : b < 2 ^ 63) : lN a < lN b ↔ a < b := by
  rw [Int64.lt_iff_toInt_lt, pk_lT ha, pk_lT hb]; omega
theorem pk_lLE {a b : Nat} (ha : a < 2 ^ 63) (hb : b < 2 ^ 63) : lN a ≤ lN b ↔ a ≤ b := by
  rw [Int64.le_iff_toInt_le, pk_lT ha, pk_lT hb]; omega
theorem pk_lEQ {a b : Nat} (ha : a < 2 ^ 63) (hb : b < 2 ^ 63) : lN a = lN b ↔ a = b := by
  rw [← Int64.toInt_inj, pk_lT ha, pk_lT hb]; omega
theorem pk_lOf {x : Int64} (h : ¬ x < 0) : ∃ k : Nat, k < 2 ^ 63 ∧ x = lN k := by
  rw [Int64.lt_iff_toInt_lt] at h
  have h0 : (0 : Int64).toInt = 0 := by decide
  have hx := Int64.toInt_lt x
  refine ⟨x.toInt.toNat, by omega, Int64.toInt_inj.mp ?_⟩
  rw [pk_lT (by omega)]
  omega
theorem pk_lDiv {a b : Nat} (ha : a < 2 ^ 63) (h0 : 0 < b) (hb : b < 2 ^ 63) : lN a / lN b = lN (a / b) := by
  apply Int64.toInt_inj.mp
  rw [lg_ldiv_nonneg (by rw [pk_lT ha]; omega) (by rw [pk_lT hb]; omega), pk_lT ha, pk_lT hb, pk_lT (Nat.lt_of_le_of_lt (Nat.div_le_self a b) ha)]
  rfl
theorem pk_lRem {a b : Nat} (ha : a < 2 ^ 63) (h0 : 0 < b) (hb : b < 2 ^ 63) : lN a - lN a / lN b * lN b = lN (a % b) := by
  rw [pk_lDiv ha h0 hb, lN_mul, lN_sub (Nat.div_mul_le_self a b)]
  exact congrArg lN (by have := Nat.div_add_mod' a b; omega)
theorem pk_loop {σ : Type} (W : Nat → Nat → σ → Prop) (I : Nat → σ → Prop) (e i0 : Nat) (s : σ) (hi : i0 ≤ e) (h0 : I i0 s) (hx : ∀ n s, I e s → W (n + 1) e s)
    (hs : ∀ n i s, i < e → I i s → (∀ s', I (i + 1) s' → W n (i + 1) s') → W (n + 1) i s) : ∃ n, W n i0 s :=
  ⟨e + 1, loop_i W I e hx hs (e + 1) i0 s hi (by omega) h0⟩
theorem pk_loopD {σ : Type} (W : Nat → Nat → σ → Prop) (I : Nat → σ → Prop) (hx : ∀ n s, I 0 s → W (n + 1) 0 s)
    (hs : ∀ n i s, I (i + 1) s → (∀ s', I i s' → W n i s') → W (n + 1) (i + 1) s) : ∀ (e : Nat) (s : σ), I e s → W (e + 1) e s := by
  intro e
  induction e with
  | zero => exact fun s h => hx 0 s h
  | succ e ih => exact fun s h => hs (e + 1) e s h (fun s' h' => ih s' h')
theorem lp1 {A1 : Type} (W : Nat → A1 → Prop) (I : A1 → Prop) (μ : A1 → Nat) (hs : ∀ (n : Nat) (a1 : A1), I a1 → (∀ (b1 : A1), I b1 → μ b1 < μ a1 → W n b1) → W (n + 1) a1) (a1 : A1) (h : I a1) : ∃ n, W n a1 :=
  loop_m (σ := A1) (fun n s => W n s) (fun s => I s) (fun s => μ s) (fun n s hI hk => hs n s hI (fun b1 h9 hm => hk b1 h9 hm)) a1 h
theorem lp2 {A1 A2 : Type} (W : Nat → A1 → A2 → Prop) (I : A1 → A2 → Prop) (μ : A1 → A2 → Nat) (hs : ∀ (n : Nat) (a1 : A1) (a2 : A2), I a1 a2 → (∀ (b1 : A1) (b2 : A2), I b1 b2 → μ b1 b2 < μ a1 a2 → W n b1 b2) → W (n + 1) a1 a2) (a1 : A1) (a2 : A2) (h : I a1 a2) : ∃ n, W n a1 a2 :=
  loop_m (σ := A1 × A2) (fun n s => W n s.1 s.2) (fun s => I s.1 s.2) (fun s => μ s.1 s.2) (fun n s hI hk => hs n s.1 s.2 hI (fun b1 b2 h9 hm => hk (b1, b2) h9 hm)) (a1, a2) h
theorem lp3 {A1 A2 A3 : Type} (W : Nat → A1 → A2 → A3 → Prop) (I : A1 → A2 → A3 → Prop) (μ : A1 → A2 → A3 → Nat) (hs : ∀ (n : Nat) (a1 : A1) (a2 : A2) (a3 : A3), I a1 a2 a3 → (∀ (b1 : A1) (b2 : A2) (b3 : A3), I b1 b2 b3 → μ b1 b2 b3 < μ a1 a2 a3 → W n b1 b2 b3) → W (n + 1) a1 a2 a3) (a1 : A1) (a2 : A2) (a3 : A3) (h : I a1 a2 a3) : ∃ n, W n a1 a2 a3 :=
  loop_m (σ := A1 × A2 × A3) (fun n s => W n s.1 s.2.1 s.2.2) (fun s => I s.1 s.2.1 s.2.2) (fun s => μ s.1 s.2.1 s.2.2) (fun n s hI hk => hs n s.1 s.2.1 s.2.2 hI (fun b1 b2 b3 h9 hm => hk (b1, b2, b3) h9 hm)) (a1, a2, a3) h
theorem lp4 {A1 A2 A3 A4 : Type} (W : Nat → A1 → A2 → A3 → A4 → Prop) (I : A1 → A2 → A3 → A4 → Prop) (μ : A1 → A2 → A3 → A4 → Nat) (hs : ∀ (n : Nat) (a1 : A1) (a2 : A2) (a3 : A3) (a4 : A4), I a1 a2 a3 a4 → (∀ (b1 : A1) (b2 : A2) (b3 : A3) (b4 : A4), I b1 b2 b3 b4 → μ b1 b2 b3 b4 < μ a1 a2 a3 a4 → W n b1 b2 b3 b4) → W (n + 1) a1 a2 a3 a4) (a1 : A1) (a2 : A2) (a3 : A3) (a4 : A4) (h : I a1 a2 a3 a4) : ∃ n, W n a1 a2 a3 a4 :=
  loop_m (σ := A1 × A2 × A3 × A4) (fun n s => W n s.1 s.2.1 s.2.2.1 s.2.2.2) (fun s => I s.1 s.2.1 s.2.2.1 s.2.2.2) (fun s => μ s.1 s.2.1 s.2.2.1 s.2.2.2) (fun n s hI hk => hs n s.1 s.2.1 s.2.2.1 s.2.2.2 hI (fun b1 b2 b3 b4 h9 hm => hk (b1, b2, b3, b4) h9 hm)) (a1, a2, a3, a4) h
theorem lp5 {A1 A2 A3 A4 A5 : Type} (W : Nat → A1 → A2 → A3 → A4 → A5 → Prop) (I : A1 → A2 → A3 → A4 → A5 → Prop) (μ : A1 → A2 → A3 → A4 → A5 → Nat) (hs : ∀ (n : Nat) (a1 : A1) (a2 : A2) (a3 : A3) (a4 : A4) (a5 : A5), I a1 a2 a3 a4 a5 → (∀ (b1 : A1) (b2 : A2) (b3 : A3) (b4 : A4) (b5 : A5), I b1 b2 b3 b4 b5 → μ b1 b2 b3 b4 b5 < μ a1 a2 a3 a4 a5 → W n b1 b2 b3 b4 b5) → W (n + 1) a1 a2 a3 a4 a5) (a1 : A1) (a2 : A2) (a3 : A3) (a4 : A4) (a5 : A5) (h : I a1 a2 a3 a4 a5) : ∃ n, W n a1 a2 a3 a4 a5 :=
  loop_m (σ := A1 × A2 × A3 × A4 × A5) (fun n s => W n s.1 s.2.1 s.2.2.1 s.2.2.2.1 s.2.2.2.2) (fun s => I s.1 s.2.1 s.2.2.1 s.2.2.2.1 s.2.2.2.2) (fun s => μ s.1 s.2.1 s.2.2.1 s.2.2.2.1 s.2.2.2.2) (fun n s hI hk => hs n s.1 s.2.1 s.2.2.1 s.2.2.2.1 s.2.2.2.2 hI (fun b1 b2 b3 b4 b5 h9 hm => hk (b1, b2, b3, b4, b5) h9 hm)) (a1, a2, a3, a4, a5) h
theorem lp6 {A1 A2 A3 A4 A5 A6 : Type} (W : Nat → A1 → A2 → A3 → A4 → A5 → A6 → Prop) (I : A1 → A2 → A3 → A4 → A5 → A6 → Prop) (μ : A1 → A2 → A3 → A4 → A5 → A6 → Nat) (hs : ∀ (n : Nat) (a1 : A1) (a2 : A2) (a3 : A3) (a4 : A4) (a5 : A5) (a6 : A6), I a1 a2 a3 a4 a5 a6 → (∀ (b1 : A1) (b2 : A2) (b3 : A3) (b4 : A4) (b5 : A5) (b6 : A6), I b1 b2 b3 b4 b5 b6 → μ b1 b2 b3 b4 b5 b6 < μ a1 a2 a3 a4 a5 a6 → W n b1 b2 b3 b4 b5 b6) → W (n + 1) a1 a2 a3 a4 a5 a6) (a1 : A1) (a2 : A2) (a3 : A3) (a4 : A4) (a5 : A5) (a6 : A6) (h : I a1 a2 a3 a4 a5 a6) : ∃ n, W n a1 a2 a3 a4 a5 a6 :=
  loop_m (σ := A1 × A2 × A3 × A4 × A5 × A6) (fun n s => W n s.1 s.2.1 s.2.2.1 s.2.2.2.1 s.2.2.2.2.1 s.2.2.2.2.2) (fun s => I s.1 s.2.1 s.2.2.1 s.2.2.2.1 s.2.2.2.2.1 s.2.2.2.2.2) (fun s => μ s.1 s.2.1 s.2.2.1 s.2.2.2.1 s.2.2.2.2.1 s.2.2.2.2.2) (fun n s hI hk => hs n s.1 s.2.1 s.2.2.1 s.2.2.2.1 s.2.2.2.2.1 s.2.2.2.2.2 hI (fun b1 b2 b3 b4 b5 b6 h9 hm => hk (b1, b2, b3, b4, b5, b6) h9 hm)) (a1, a2, a3, a4, a5, a6) h
theorem lp7 {A1 A2 A3 A4 A5 A6 A7 : Type} (W : Nat → A1 → A2 → A3 → A4 → A5 → A6 → A7 → Prop) (I : A1 → A2 → A3 → A4 → A5 → A6 → A7 → Prop) (μ : A1 → A2 → A3 → A4 → A5 → A6 → A7 → Nat) (hs : ∀ (n : Nat) (a1 : A1) (a2 : A2) (a3 : A3) (a4 : A4) (a5 : A5) (a6 : A6) (a7 : A7), I a1 a2 a3 a4 a5 a6 a7 → (∀ (b1 : A1) (b2 : A2) (b3 : A3) (b4 : A4) (b5 : A5) (b6 : A6) (b7 : A7), I b1 b2 b3 b4 b5 b6 b7 → μ b1 b2 b3 b4 b5 b6 b7 < μ a1 a2 a3 a4 a5 a6 a7 → W n b1 b2 b3 b4 b5 b6 b7) → W (n + 1) a1 a2 a3 a4 a5 a6 a7) (a1 : A1) (a2 : A2) (a3 : A3) (a4 : A4) (a5 : A5) (a6 : A6) (a7 : A7) (h : I a1 a2 a3 a4 a5 a6 a7) : ∃ n, W n a1 a2 a3 a4 a5 a6 a7 :=
  loop_m (σ := A1 × A2 × A3 × A4 × A5 × A6 × A7) (fun n s => W n s.1 s.2.1 s.2.2.1 s.2.2.2.1 s.2.2.2.2.1 s.2.2.2.2.2.1 s.2.2.2.2.2.2) (fun s => I s.1 s.2.1 s.2.2.1 s.2.2.2.1 s.2.2.2.2.1 s.2.2.2.2.2.1 s.2.2.2.2.2.2) (fun s => μ s.1 s.2.1 s.2.2.1 s.2.2.2.1 s.2.2.2.2.1 s.2.2.2.2.2.1 s.2.2.2.2.2.2) (fun n s hI hk => hs n s.1 s.2.1 s.2.2.1 s.2.2.2.1 s.2.2.2.2.1 s.2.2.2.2.2.1 s.2.2.2.2.2.2 hI (fun b1 b2 b3 b4 b5 b6 b7 h9 hm => hk (b1, b2, b3, b4, b5, b6, b7) h9 hm)) (a1, a2, a3, a4, a5, a6, a7) h
theorem lp8 {A1 A2 A3 A4 A5 A6 A7 A8 : Type} (W : Nat → A1 → A2 → A3 → A4 → A5 → A6 → A7 → A8 → Prop) (I : A1 → A2 → A3 → A4 → A5 → A6 → A7 → A8 → Prop) (μ : A1 → A2 → A3 → A4 → A5 → A6 → A7 → A8 → Nat) (hs : ∀ (n : Nat) (a1 : A1) (a2 : A2) (a3 : A3) (a4 : A4) (a5 : A5) (a6 : A6) (a7 : A7) (a8 : A8), I a1 a2 a3 a4 a5 a6 a7 a8 → (∀ (b1 : A1) (b2 : A2) (b3 : A3) (b4 : A4) (b5 : A5) (b6 : A6) (b7 : A7) (b8 : A8), I b1 b2 b3 b4 b5 b6 b7 b8 → μ b1 b2 b3 b4 b5 b6 b7 b8 < μ a1 a2 a3 a4 a5 a6 a7 a8 → W n b1 b2 b3 b4 b5 b6 b7 b8) → W (n + 1) a1 a2 a3 a4 a5 a6 a7 a8) (a1 : A1) (a2 : A2) (a3 : A3) (a4 : A4) (a5 : A5) (a6 : A6) (a7 : A7) (a8 : A8) (h : I a1 a2 a3 a4 a5 a6 a7 a8) : ∃ n, W n a1 a2 a3 a4 a5 a6 a7 a8 :=
  loop_m (σ := A1 × A2 × A3 × A4 × A5 × A6 × A7 × A8) (fun n s => W n s.1 s.2.1 s.2.2.1 s.2.2.2.1 s.2.2.2.2.1 s.2.2.2.2.2.1 s.2.2.2.2.2.2.1 s.2.2.2.2.2.2.2) (fun s => I s.1 s.2.1 s.2.2.1 s.2.2.2.1 s.2.2.2.2.1 s.2.2.2.2.2.1 s.2.2.2.2.2.2.1 s.2.2.2.2.2.2.2) (fun s => μ s.1 s.2.1 s.2.2.1 s.2.2.2.1 s.2.2.2.2.1 s.2.2.2.2.2.1 s.2.2.2.2.2.2.1 s.2.2.2.2.2.2.2) (fun n s hI hk => hs n s.1 s.2.1 s.2.2.1 s.2.2.2.1 s.2.2.2.2.1 s.2.2.2.2.2.1 s.2.2.2.2.2.2.1 s.2.2.2.2.2.2.2 hI (fun b1 b2 b3 b4 b5 b6 b7 b8 h9 hm => hk (b1, b2, b3, b4, b5, b6, b7, b8) h9 hm)) (a1, a2, a3, a4, a5, a6, a7, a8) h
theorem lp9 {A1 A2 A3 A4 A5 A6 A7 A8 A9 : Type} (W : Nat → A1 → A2 → A3 → A4 → A5 → A6 → A7 → A8 → A9 → Prop) (I : A1 → A2 → A3 → A4 → A5 → A6 → A7 → A8 → A9 → Prop) (μ : A1 → A2 → A3 → A4 → A5 → A6 → A7 → A8 → A9 → Nat) (hs : ∀ (n : Nat) (a1 : A1) (a2 : A2) (a3 : A3) (a4 : A4) (a5 : A5) (a6 : A6) (a7 : A7) (a8 : A8) (a9 : A9), I a1 a2 a3 a4 a5 a6 a7 a8 a9 → (∀ (b1 : A1) (b2 : A2) (b3 : A3) (b4 : A4) (b5 : A5) (b6 : A6) (b7 : A7) (b8 : A8) (b9 : A9), I b1 b2 b3 b4 b5 b6 b7 b8 b9 → μ b1 b2 b3 b4 b5 b6 b7 b8 b9 < μ a1 a2 a3 a4 a5 a6 a7 a8 a9 → W n b1 b2 b3 b4 b5 b6 b7 b8 b9) → W (n + 1) a1 a2 a3 a4 a5 a6 a7 a8 a9) (a1 : A1) (a2 : A2) (a3 : A3) (a4 : A4) (a5 : A5) (a6 : A6) (a7 : A7) (a8 : A8) (a9 : A9) (h : I a1 a2 a3 a4 a5 a6 a7 a8 a9) : ∃ n, W n a1 a2 a3 a4 a5 a6 a7 a8 a9 :=
  loop_m (σ := A1 × A2 × A3 × A4 × A5 × A6 × A7 × A8 × A9) (fun n s => W n s.1 s.2.1 s.2.2.1 s.2.2.2.1 s.2.2.2.2.1 s.2.2.2.2.2.1 s.2.2.2.2.2.2.1 s.2.2.2.2.2.2.2.1 s.2.2.2.2.2.2.2.2) (fun s => I s.1 s.2.1 s.2.2.1 s.2.2.2.1 s.2.2.2.2.1 s.2.2.2.2.2.1 s.2.2.2.2.2.2.1 s.2.2.2.2.2.2.2.1 s.2.2.2.2.2.2.2.2) (fun s => μ s.1 s.2.1 s.2.2.1 s.2.2.2.1 s.2.2.2.2.1 s.2.2.2.2.2.1 s.2.2.2.2.2.2.1 s.2.2.2.2.2.2.2.1 s.2.2.2.2.2.2.2.2) (fun n s hI hk => hs n s.1 s.2.1 s.2.2.1 s.2.2.2.1 s.2.2.2.2.1 s.2.2.2.2.2.1 s.2.2.2.2.2.2.1 s.2.2.2.2.2.2.2.1 s.2.2.2.2.2.2.2.2 hI (fun b1 b2 b3 b4 b5 b6 b7 b8 b9 h9 hm => hk (b1, b2, b3, b4, b5, b6, b7, b8, b9) h9 hm)) (a1, a2, a3, a4, a5, a6, a7, a8, a9) h
theorem lp10 {A1 A2 A3 A4 A5 A6 A7 A8 A9 A10 : Type} (W : Nat → A1 → A2 → A3 → A4 → A5 → A6 → A7 → A8 → A9 → A10 → Prop) (I : A1 → A2 → A3 → A4 → A5 → A6 → A7 → A8 → A9 → A10 → Prop) (μ : A1 → A2 → A3 → A4 → A5 → A6 → A7 → A8 → A9 → A10 → Nat) (hs : ∀ (n : Nat) (a1 : A1) (a2 : A2) (a3 : A3) (a4 : A4) (a5 : A5) (a6 : A6) (a7 : A7) (a8 : A8) (a9 : A9) (a10 : A10), I a1 a2 a3 a4 a5 a6 a7 a8 a9 a10 → (∀ (b1 : A1) (b2 : A2) (b3 : A3) (b4 : A4) (b5 : A5) (b6 : A6) (b7 : A7) (b8 : A8) (b9 : A9) (b10 : A10), I b1 b2 b3 b4 b5 b6 b7 b8 b9 b10 → μ b1 b2 b3 b4 b5 b6 b7 b8 b9 b10 < μ a1 a2 a3 a4 a5 a6 a7 a8 a9 a10 → W n b1 b2 b3 b4 b5 b6 b7 b8 b9 b10) → W (n + 1) a1 a2 a3 a4 a5 a6 a7 a8 a9 a10) (a1 : A1) (a2 : A2) (a3 : A3) (a4 : A4) (a5 : A5) (a6 : A6) (a7 : A7) (a8 : A8) (a9 : A9) (a10 : A10) (h : I a1 a2 a3 a4 a5 a6 a7 a8 a9 a10) : ∃ n, W n a1 a2 a3 a4 a5 a6 a7 a8 a9 a10 :=
  loop_m (σ := A1 × A2 × A3 × A4 × A5 × A6 × A7 × A8 × A9 × A10) (fun n s => W n s.1 s.2.1 s.2.2.1 s.2.2.2.1 s.2.2.2.2.1 s.2.2.2.2.2.1 s.2.2.2.2.2.2.1 s.2.2.2.2.2.2.2.1 s.2.2.2.2.2.2.2.2.1 s.2.2.2.2.2.2.2.2.2) (fun s => I s.1 s.2.1 s.2.2.1 s.2.2.2.1 s.2.2.2.2.1 s.2.2.2.2.2.1 s.2.2.2.2.2.2.1 s.2.2.2.2.2.2.2.1 s.2.2.2.2.2.2.2.2.1 s.2.2.2.2.2.2.2.2.2) (fun s => μ s.1 s.2.1 s.2.2.1 s.2.2.2.1 s.2.2.2.2.1 s.2.2.2.2.2.1 s.2.2.2.2.2.2.1 s.2.2.2.2.2.2.2.1 s.2.2.2.2.2.2.2.2.1 s.2.2.2.2.2.2.2.2.2) (fun n s hI hk => hs n s.1 s.2.1 s.2.2.1 s.2.2.2.1 s.2.2.2.2.1 s.2.2.2.2.2.1 s.2.2.2.2.2.2.1 s.2.2.2.2.2.2.2.1 s.2.2.2.2.2.2.2.2.1 s.2.2.2.2.2.2.2.2.2 hI (fun b1 b2 b3 b4 b5 b6 b7 b8 b9 b10 h9 hm => hk (b1, b2, b3, b4, b5, b6, b7, b8, b9, b10) h9 hm)) (a1, a2, a3, a4, a5, a6, a7, a8, a9, a10) h
theorem lp11 {A1 A2 A3 A4 A5 A6 A7 A8 A9 A10 A11 : Type} (W : Nat → A1 → A2 → A3 → A4 → A5 → A6 → A7 → A8 → A9 → A10 → A11 → Prop) (I : A1 → A2 → A3 → A4 → A5 → A6 → A7 → A8 → A9 → A10 → A11 → Prop) (μ : A1 → A2 → A3 → A4 → A5 → A6 → A7 → A8 → A9 → A10 → A11 → Nat) (hs : ∀ (n : Nat) (a1 : A1) (a2 : A2) (a3 : A3) (a4 : A4) (a5 : A5) (a6 : A6) (a7 : A7) (a8 : A8) (a9 : A9) (a10 : A10) (a11 : A11), I a1 a2 a3 a4 a5 a6 a7 a8 a9 a10 a11 → (∀ (b1 : A1) (b2 : A2) (b3 : A3) (b4 : A4) (b5 : A5) (b6 : A6) (b7 : A7) (b8 : A8) (b9 : A9) (b10 : A10) (b11 : A11), I b1 b2 b3 b4 b5 b6 b7 b8 b9 b10 b11 → μ b1 b2 b3 b4 b5 b6 b7 b8 b9 b10 b11 < μ a1 a2 a3 a4 a5 a6 a7 a8 a9 a10 a11 → W n b1 b2 b3 b4 b5 b6 b7 b8 b9 b10 b11) → W (n + 1) a1 a2 a3 a4 a5 a6 a7 a8 a9 a10 a11) (a1 : A1) (a2 : A2) (a3 : A3) (a4 : A4) (a5 : A5) (a6 : A6) (a7 : A7) (a8 : A8) (a9 : A9) (a10 : A10) (a11 : A11) (h : I a1 a2 a3 a4 a5 a6 a7 a8 a9 a10 a11) : ∃ n, W n a1 a2 a3 a4 a5 a6 a7 a8 a9 a10 a11 :=
  loop_m (σ := A1 × A2 × A3 × A4 × A5 × A6 × A7 × A8 × A9 × A10 × A11) (fun n s => W n s.1 s.2.1 s.2.2.1 s.2.2.2.1 s.2.2.2.2.1 s.2.2.2.2.2.1 s.2.2.2.2.2.2.1 s.2.2.2.2.2.2.2.1 s.2.2.2.2.2.2.2.2.1 s.2.2.2.2.2.2.2.2.2.1 s.2.2.2.2.2.2.2.2.2.2) (fun s => I s.1 s.2.1 s.2.2.1 s.2.2.2.1 s.2.2.2.2.1 s.2.2.2.2.2.1 s.2.2.2.2.2.2.1 s.2.2.2.2.2.2.2.1 s.2.2.2.2.2.2.2.2.1 s.2.2.2.2.2.2.2.2.2.1 s.2.2.2.2.2.2.2.2.2.2) (fun s => μ s.1 s.2.1 s.2.2.1 s.2.2.2.1 s.2.2.2.2.1 s.2.2.2.2.2.1 s.2.2.2.2.2.2.1 s.2.2.2.2.2.2.2.1 s.2.2.2.2.2.2.2.2.1 s.2.2.2.2.2.2.2.2.2.1 s.2.2.2.2.2.2.2.2.2.2) (fun n s hI hk => hs n s.1 s.2.1 s.2.2.1 s.2.2.2.1 s.2.2.2.2.1 s.2.2.2.2.2.1 s.2.2.2.2.2.2.1 s.2.2.2.2.2.2.2.1 s.2.2.2.2.2.2.2.2.1 s.2.2.2.2.2.2.2.2.2.1 s.2.2.2.2.2.2.2.2.2.2 hI (fun b1 b2 b3 b4 b5 b6 b7 b8 b9 b10 b11 h9 hm => hk (b1, b2, b3, b4, b5, b6, b7, b8, b9, b10, b11) h9 hm)) (a1, a2, a3, a4, a5, a6, a7, a8, a9, a10, a11) h
theorem lp12 {A1 A2 A3 A4 A5 A6 A7 A8 A9 A10 A11 A12 : Type} (W : Nat → A1 → A2 → A3 → A4 → A5 → A6 → A7 → A8 → A9 → A10 → A11 → A12 → Prop) (I : A1 → A2 → A3 → A4 → A5 → A6 → A7 → A8 → A9 → A10 → A11 → A12 → Prop) (μ : A1 → A2 → A3 → A4 → A5 → A6 → A7 → A8 → A9 → A10 → A11 → A12 → Nat) (hs : ∀ (n : Nat) (a1 : A1) (a2 : A2) (a3 : A3) (a4 : A4) (a5 : A5) (a6 : A6) (a7 : A7) (a8 : A8) (a9 : A9) (a10 : A10) (a11 : A11) (a12 : A12), I a1 a2 a3 a4 a5 a6 a7 a8 a9 a10 a11 a12 → (∀ (b1 : A1) (b2 : A2) (b3 : A3) (b4 : A4) (b5 : A5) (b6 : A6) (b7 : A7) (b8 : A8) (b9 : A9) (b10 : A10) (b11 : A11) (b12 : A12), I b1 b2 b3 b4 b5 b6 b7 b8 b9 b10 b11 b12 → μ b1 b2 b3 b4 b5 b6 b7 b8 b9 b10 b11 b12 < μ a1 a2 a3 a4 a5 a6 a7 a8 a9 a10 a11 a12 → W n b1 b2 b3 b4 b5 b6 b7 b8 b9 b10 b11 b12) → W (n + 1) a1 a2 a3 a4 a5 a6 a7 a8 a9 a10 a11 a12) (a1 : A1) (a2 : A2) (a3 : A3) (a4 : A4) (a5 : A5) (a6 : A6) (a7 : A7) (a8 : A8) (a9 : A9) (a10 : A10) (a11 : A11) (a12 : A12) (h : I a1 a2 a3 a4 a5 a6 a7 a8 a9 a10 a11 a12) : ∃ n, W n a1 a2 a3 a4 a5 a6 a7 a8 a9 a10 a11 a12 :=
  loop_m (σ := A1 × A2 × A3 × A4 × A5 × A6 × A7 × A8 × A9 × A10 × A11 × A12) (fun n s => W n s.1 s.2.1 s.2.2.1 s.2.2.2.1 s.2.2.2.2.1 s.2.2.2.2.2.1 s.2.2.2.2.2.2.1 s.2.2.2.2.2.2.2.1 s.2.2.2.2.2.2.2.2.1 s.2.2.2.2.2.2.2.2.2.1 s.2.2.2.2.2.2.2.2.2.2.1 s.2.2.2.2.2.2.2.2.2.2.2) (fun s => I s.1 s.2.1 s.2.2.1 s.2.2.2.1 s.2.2.2.2.1 s.2.2.2.2.2.1 s.2.2.2.2.2.2.1 s.2.2.2.2.2.2.2.1 s.2.2.2.2.2.2.2.2.1 s.2.2.2.2.2.2.2.2.2.1 s.2.2.2.2.2.2.2.2.2.2.1 s.2.2.2.2.2.2.2.2.2.2.2) (fun s => μ s.1 s.2.1 s.2.2.1 s.2.2.2.1 s.2.2.2.2.1 s.2.2.2.2.2.1 s.2.2.2.2.2.2.1 s.2.2.2.2.2.2.2.1 s.2.2.2.2.2.2.2.2.1 s.2.2.2.2.2.2.2.2.2.1 s.2.2.2.2.2.2.2.2.2.2.1 s.2.2.2.2.2.2.2.2.2.2.2) (fun n s hI hk => hs n s.1 s.2.1 s.2.2.1 s.2.2.2.1 s.2.2.2.2.1 s.2.2.2.2.2.1 s.2.2.2.2.2.2.1 s.2.2.2.2.2.2.2.1 s.2.2.2.2.2.2.2.2.1 s.2.2.2.2.2.2.2.2.2.1 s.2.2.2.2.2.2.2.2.2.2.1 s.2.2.2.2.2.2.2.2.2.2.2 hI (fun b1 b2 b3 b4 b5 b6 b7 b8 b9 b10 b11 b12 h9 hm => hk (b1, b2, b3, b4, b5, b6, b7, b8, b9, b10, b11, b12) h9 hm)) (a1, a2, a3, a4, a5, a6, a7, a8, a9, a10, a11, a12) h
theorem lp13 {A1 A2 A3 A4 A5 A6 A7 A8 A9 A10 A11 A12 A13 : Type} (W : Nat → A1 → A2 → A3 → A4 → A5 → A6 → A7 → A8 → A9 → A10 → A11 → A12 → A13 → Prop) (I : A1 → A2 → A3 → A4 → A5 → A6 → A7 → A8 → A9 → A10 → A11 → A12 → A13 → Prop) (μ : A1 → A2 → A3 → A4 → A5 → A6 → A7 → A8 → A9 → A10 → A11 → A12 → A13 → Nat) (hs : ∀ (n : Nat) (a1 : A1) (a2 : A2) (a3 : A3) (a4 : A4) (a5 : A5) (a6 : A6) (a7 : A7) (a8 : A8) (a9 : A9) (a10 : A10) (a11 : A11) (a12 : A12) (a13 : A13), I a1 a2 a3 a4 a5 a6 a7 a8 a9 a10 a11 a12 a13 → (∀ (b1 : A1) (b2 : A2) (b3 : A3) (b4 : A4) (b5 : A5) (b6 : A6) (b7 : A7) (b8 : A8) (b9 : A9) (b10 : A10) (b11 : A11) (b12 : A12) (b13 : A13), I b1 b2 b3 b4 b5 b6 b7 b8 b9 b10 b11 b12 b13 → μ b1 b2 b3 b4 b5 b6 b7 b8 b9 b10 b11 b12 b13 < μ a1 a2 a3 a4 a5 a6 a7 a8 a9 a10 a11 a12 a13 → W n b1 b2 b3 b4 b5 b6 b7 b8 b9 b10 b11 b12 b13) → W (n + 1) a1 a2 a3 a4 a5 a6 a7 a8 a9 a10 a11 a12 a13) (a1 : A1) (a2 : A2) (a3 : A3) (a4 : A4) (a5 : A5) (a6 : A6) (a7 : A7) (a8 : A8) (a9 : A9) (a10 : A10) (a11 : A11) (a12 : A12) (a13 : A13) (h : I a1 a2 a3 a4 a5 a6 a7 a8 a9 a10 a11 a12 a13) : ∃ n, W n a1 a2 a3 a4 a5 a6 a7 a8 a9 a10 a11 a12 a13 :=
  loop_m (σ := A1 × A2 × A3 × A4 × A5 × A6 × A7 × A8 × A9 × A10 × A11 × A12 × A13) (fun n s => W n s.1 s.2.1 s.2.2.1 s.2.2.2.1 s.2.2.2.2.1 s.2.2.2.2.2.1 s.2.2.2.2.2.2.1 s.2.2.2.2.2.2.2.1 s.2.2.2.2.2.2.2.2.1 s.2.2.2.2.2.2.2.2.2.1 s.2.2.2.2.2.2.2.2.2.2.1 s.2.2.2.2.2.2.2.2.2.2.2.1 s.2.2.2.2.2.2.2.2.2.2.2.2) (fun s => I s.1 s.2.1 s.2.2.1 s.2.2.2.1 s.2.2.2.2.1 s.2.2.2.2.2.1 s.2.2.2.2.2.2.1 s.2.2.2.2.2.2.2.1 s.2.2.2.2.2.2.2.2.1 s.2.2.2.2.2.2.2.2.2.1 s.2.2.2.2.2.2.2.2.2.2.1 s.2.2.2.2.2.2.2.2.2.2.2.1 s.2.2.2.2.2.2.2.2.2.2.2.2) (fun s => μ s.1 s.2.1 s.2.2.1 s.2.2.2.1 s.2.2.2.2.1 s.2.2.2.2.2.1 s.2.2.2.2.2.2.1 s.2.2.2.2.2.2.2.1 s.2.2.2.2.2.2.2.2.1 s.2.2.2.2.2.2.2.2.2.1 s.2.2.2.2.2.2.2.2.2.2.1 s.2.2.2.2.2.2.2.2.2.2.2.1 s.2.2.2.2.2.2.2.2.2.2.2.2) (fun n s hI hk => hs n s.1 s.2.1 s.2.2.1 s.2.2.2.1 s.2.2.2.2.1 s.2.2.2.2.2.1 s.2.2.2.2.2.2.1 s.2.2.2.2.2.2.2.1 s.2.2.2.2.2.2.2.2.1 s.2.2.2.2.2.2.2.2.2.1 s.2.2.2.2.2.2.2.2.2.2.1 s.2.2.2.2.2.2.2.2.2.2.2.1 s.2.2.2.2.2.2.2.2.2.2.2.2 hI (fun b1 b2 b3 b4 b5 b6 b7 b8 b9 b10 b11 b12 b13 h9 hm => hk (b1, b2, b3, b4, b5, b6, b7, b8, b9, b10, b11, b12, b13) h9 hm)) (a1, a2, a3, a4, a5, a6, a7, a8, a9, a10, a11, a12, a13) h
theorem lp14 {A1 A2 A3 A4 A5 A6 A7 A8 A9 A10 A11 A12 A13 A14 : Type} (W : Nat → A1 → A2 → A3 → A4 → A5 → A6 → A7 → A8 → A9 → A10 → A11 → A12 → A13 → A14 → Prop) (I : A1 → A2 → A3 → A4 → A5 → A6 → A7 → A8 → A9 → A10 → A11 → A12 → A13 → A14 → Prop) (μ : A1 → A2 → A3 → A4 → A5 → A6 → A7 → A8 → A9 → A10 → A11 → A12 → A13 → A14 → Nat) (hs : ∀ (n : Nat) (a1 : A1) (a2 : A2) (a3 : A3) (a4 : A4) (a5 : A5) (a6 : A6) (a7 : A7) (a8 : A8) (a9 : A9) (a10 : A10) (a11 : A11) (a12 : A12) (a13 : A13) (a14 : A14), I a1 a2 a3 a4 a5 a6 a7 a8 a9 a10 a11 a12 a13 a14 → (∀ (b1 : A1) (b2 : A2) (b3 : A3) (b4 : A4) (b5 : A5) (b6 : A6) (b7 : A7) (b8 : A8) (b9 : A9) (b10 : A10) (b11 : A11) (b12 : A12) (b13 : A13) (b14 : A14), I b1 b2 b3 b4 b5 b6 b7 b8 b9 b10 b11 b12 b13 b14 → μ b1 b2 b3 b4 b5 b6 b7 b8 b9 b10 b11 b12 b13 b14 < μ a1 a2 a3 a4 a5 a6 a7 a8 a9 a10 a11 a12 a13 a14 → W n b1 b2 b3 b4 b5 b6 b7 b8 b9 b10 b11 b12 b13 b14) → W (n + 1) a1 a2 a3 a4 a5 a6 a7 a8 a9 a10 a11 a12 a13 a14) (a1 : A1) (a2 : A2) (a3 : A3) (a4 : A4) (a5 : A5) (a6 : A6) (a7 : A7) (a8 : A8) (a9 : A9) (a10 : A10) (a11 : A11) (a12 : A12) (a13 : A13) (a14 : A14) (h : I a1 a2 a3 a4 a5 a6 a7 a8 a9 a10 a11 a12 a13 a14) : ∃ n, W n a1 a2 a3 a4 a5 a6 a7 a8 a9 a10 a11 a12 a13 a14 :=
  loop_m (σ := A1 × A2 × A3 × A4 × A5 × A6 × A7 × A8 × A9 × A10 × A11 × A12 × A13 × A14) (fun n s => W n s.1 s.2.1 s.2.2.1 s.2.2.2.1 s.2.2.2.2.1 s.2.2.2.2.2.1 s.2.2.2.2.2.2.1 s.2.2.2.2.2.2.2.1 s.2.2.2.2.2.2.2.2.1 s.2.2.2.2.2.2.2.2.2.1 s.2.2.2.2.2.2.2.2.2.2.1 s.2.2.2.2.2.2.2.2.2.2.2.1 s.2.2.2.2.2.2.2.2.2.2.2.2.1 s.2.2.2.2.2.2.2.2.2.2.2.2.2) (fun s => I s.1 s.2.1 s.2.2.1 s.2.2.2.1 s.2.2.2.2.1 s.2.2.2.2.2.1 s.2.2.2.2.2.2.1 s.2.2.2.2.2.2.2.1 s.2.2.2.2.2.2.2.2.1 s.2.2.2.2.2.2.2.2.2.1 s.2.2.2.2.2.2.2.2.2.2.1 s.2.2.2.2.2.2.2.2.2.2.2.1 s.2.2.2.2.2.2.2.2.2.2.2.2.1 s.2.2.2.2.2.2.2.2.2.2.2.2.2) (fun s => μ s.1 s.2.1 s.2.2.1 s.2.2.2.1 s.2.2.2.2.1 s.2.2.2.2.2.1 s.2.2.2.2.2.2.1 s.2.2.2.2.2.2.2.1 s.2.2.2.2.2.2.2.2.1 s.2.2.2.2.2.2.2.2.2.1 s.2.2.2.2.2.2.2.2.2.2.1 s.2.2.2.2.2.2.2.2.2.2.2.1 s.2.2.2.2.2.2.2.2.2.2.2.2.1 s.2.2.2.2.2.2.2.2.2.2.2.2.2) (fun n s hI hk => hs n s.1 s.2.1 s.2.2.1 s.2.2.2.1 s.2.2.2.2.1 s.2.2.2.2.2.1 s.2.2.2.2.2.2.1 s.2.2.2.2.2.2.2.1 s.2.2.2.2.2.2.2.2.1 s.2.2.2.2.2.2.2.2.2.1 s.2.2.2.2.2.2.2.2.2.2.1 s.2.2.2.2.2.2.2.2.2.2.2.1 s.2.2.2.2.2.2.2.2.2.2.2.2.1 s.2.2.2.2.2.2.2.2.2.2.2.2.2 hI (fun b1 b2 b3 b4 b5 b6 b7 b8 b9 b10 b11 b12 b13 b14 h9 hm => hk (b1, b2, b3, b4, b5, b6, b7, b8, b9, b10, b11, b12, b13, b14) h9 hm)) (a1, a2, a3, a4, a5, a6, a7, a8, a9, a10, a11, a12, a13, a14) h
theorem lp15 {A1 A2 A3 A4 A5 A6 A7 A8 A9 A10 A11 A12 A13 A14 A15 : Type} (W : Nat → A1 → A2 → A3 → A4 → A5 → A6 → A7 → A8 → A9 → A10 → A11 → A12 → A13 → A14 → A15 → Prop) (I : A1 → A2 → A3 → A4 → A5 → A6 → A7 → A8 → A9 → A10 → A11 → A12 → A13 → A14 → A15 → Prop) (μ : A1 → A2 → A3 → A4 → A5 → A6 → A7 → A8 → A9 → A10 → A11 → A12 → A13 → A14 → A15 → Nat) (hs : ∀ (n : Nat) (a1 : A1) (a2 : A2) (a3 : A3) (a4 : A4) (a5 : A5) (a6 : A6) (a7 : A7) (a8 : A8) (a9 : A9) (a10 : A10) (a11 : A11) (a12 : A12) (a13 : A13) (a14 : A14) (a15 : A15), I a1 a2 a3 a4 a5 a6 a7 a8 a9 a10 a11 a12 a13 a14 a15 → (∀ (b1 : A1) (b2 : A2) (b3 : A3) (b4 : A4) (b5 : A5) (b6 : A6) (b7 : A7) (b8 : A8) (b9 : A9) (b10 : A10) (b11 : A11) (b12 : A12) (b13 : A13) (b14 : A14) (b15 : A15), I b1 b2 b3 b4 b5 b6 b7 b8 b9 b10 b11 b12 b13 b14 b15 → μ b1 b2 b3 b4 b5 b6 b7 b8 b9 b10 b11 b12 b13 b14 b15 < μ a1 a2 a3 a4 a5 a6 a7 a8 a9 a10 a11 a12 a13 a14 a15 → W n b1 b2 b3 b4 b5 b6 b7 b8 b9 b10 b11 b12 b13 b14 b15) → W (n + 1) a1 a2 a3 a4 a5 a6 a7 a8 a9 a10 a11 a12 a13 a14 a15) (a1 : A1) (a2 : A2) (a3 : A3) (a4 : A4) (a5 : A5) (a6 : A6) (a7 : A7) (a8 : A8) (a9 : A9) (a10 : A10) (a11 : A11) (a12 : A12) (a13 : A13) (a14 : A14) (a15 : A15) (h : I a1 a2 a3 a4 a5 a6 a7 a8 a9 a10 a11 a12 a13 a14 a15) : ∃ n, W n a1 a2 a3 a4 a5 a6 a7 a8 a9 a10 a11 a12 a13 a14 a15 :=
  loop_m (σ := A1 × A2 × A3 × A4 × A5 × A6 × A7 × A8 × A9 × A10 × A11 × A12 × A13 × A14 × A15) (fun n s => W n s.1 s.2.1 s.2.2.1 s.2.2.2.1 s.2.2.2.2.1 s.2.2.2.2.2.1 s.2.2.2.2.2.2.1 s.2.2.2.2.2.2.2.1 s.2.2.2.2.2.2.2.2.1 s.2.2.2.2.2.2.2.2.2.1 s.2.2.2.2.2.2.2.2.2.2.1 s.2.2.2.2.2.2.2.2.2.2.2.1 s.2.2.2.2.2.2.2.2.2.2.2.2.1 s.2.2.2.2.2.2.2.2.2.2.2.2.2.1 s.2.2.2.2.2.2.2.2.2.2.2.2.2.2) (fun s => I s.1 s.2.1 s.2.2.1 s.2.2.2.1 s.2.2.2.2.1 s.2.2.2.2.2.1 s.2.2.2.2.2.2.1 s.2.2.2.2.2.2.2.1 s.2.2.2.2.2.2.2.2.1 s.2.2.2.2.2.2.2.2.2.1 s.2.2.2.2.2.2.2.2.2.2.1 s.2.2.2.2.2.2.2.2.2.2.2.1 s.2.2.2.2.2.2.2.2.2.2.2.2.1 s.2.2.2.2.2.2.2.2.2.2.2.2.2.1 s.2.2.2.2.2.2.2.2.2.2.2.2.2.2) (fun s => μ s.1 s.2.1 s.2.2.1 s.2.2.2.1 s.2.2.2.2.1 s.2.2.2.2.2.1 s.2.2.2.2.2.2.1 s.2.2.2.2.2.2.2.1 s.2.2.2.2.2.2.2.2.1 s.2.2.2.2.2.2.2.2.2.1 s.2.2.2.2.2.2.2.2.2.2.1 s.2.2.2.2.2.2.2.2.2.2.2.1 s.2.2.2.2.2.2.2.2.2.2.2.2.1 s.2.2.2.2.2.2.2.2.2.2.2.2.2.1 s.2.2.2.2.2.2.2.2.2.2.2.2.2.2) (fun n s hI hk => hs n s.1 s.2.1 s.2.2.1 s.2.2.2.1 s.2.2.2.2.1 s.2.2.2.2.2.1 s.2.2.2.2.2.2.1 s.2.2.2.2.2.2.2.1 s.2.2.2.2.2.2.2.2.1 s.2.2.2.2.2.2.2.2.2.1 s.2.2.2.2.2.2.2.2.2.2.1 s.2.2.2.2.2.2.2.2.2.2.2.1 s.2.2.2.2.2.2.2.2.2.2.2.2.1 s.2.2.2.2.2.2.2.2.2.2.2.2.2.1 s.2.2.2.2.2.2.2.2.2.2.2.2.2.2 hI (fun b1 b2 b3 b4 b5 b6 b7 b8 b9 b10 b11 b12 b13 b14 b15 h9 hm => hk (b1, b2, b3, b4, b5, b6, b7, b8, b9, b10, b11, b12, b13, b14, b15) h9 hm)) (a1, a2, a3, a4, a5, a6, a7, a8, a9, a10, a11, a12, a13, a14, a15) h
theorem lp16 {A1 A2 A3 A4 A5 A6 A7 A8 A9 A10 A11 A12 A13 A14 A15 A16 : Type} (W : Nat → A1 → A2 → A3 → A4 → A5 → A6 → A7 → A8 → A9 → A10 → A11 → A12 → A13 → A14 → A15 → A16 → Prop) (I : A1 → A2 → A3 → A4 → A5 → A6 → A7 → A8 → A9 → A10 → A11 → A12 → A13 → A14 → A15 → A16 → Prop) (μ : A1 → A2 → A3 → A4 → A5 → A6 → A7 → A8 → A9 → A10 → A11 → A12 → A13 → A14 → A15 → A16 → Nat) (hs : ∀ (n : Nat) (a1 : A1) (a2 : A2) (a3 : A3) (a4 : A4) (a5 : A5) (a6 : A6) (a7 : A7) (a8 : A8) (a9 : A9) (a10 : A10) (a11 : A11) (a12 : A12) (a13 : A13) (a14 : A14) (a15 : A15) (a16 : A16), I a1 a2 a3 a4 a5 a6 a7 a8 a9 a10 a11 a12 a13 a14 a15 a16 → (∀ (b1 : A1) (b2 : A2) (b3 : A3) (b4 : A4) (b5 : A5) (b6 : A6) (b7 : A7) (b8 : A8) (b9 : A9) (b10 : A10) (b11 : A11) (b12 : A12) (b13 : A13) (b14 : A14) (b15 : A15) (b16 : A16), I b1 b2 b3 b4 b5 b6 b7 b8 b9 b10 b11 b12 b13 b14 b15 b16 → μ b1 b2 b3 b4 b5 b6 b7 b8 b9 b10 b11 b12 b13 b14 b15 b16 < μ a1 a2 a3 a4 a5 a6 a7 a8 a9 a10 a11 a12 a13 a14 a15 a16 → W n b1 b2 b3 b4 b5 b6 b7 b8 b9 b10 b11 b12 b13 b14 b15 b16) → W (n + 1) a1 a2 a3 a4 a5 a6 a7 a8 a9 a10 a11 a12 a13 a14 a15 a16) (a1 : A1) (a2 : A2) (a3 : A3) (a4 : A4) (a5 : A5) (a6 : A6) (a7 : A7) (a8 : A8) (a9 : A9) (a10 : A10) (a11 : A11) (a12 : A12) (a13 : A13) (a14 : A14) (a15 : A15) (a16 : A16) (h : I a1 a2 a3 a4 a5 a6 a7 a8 a9 a10 a11 a12 a13 a14 a15 a16) : ∃ n, W n a1 a2 a3 a4 a5 a6 a7 a8 a9 a10 a11 a12 a13 a14 a15 a16 :=
  loop_m (σ := A1 × A2 × A3 × A4 × A5 × A6 × A7 × A8 × A9 × A10 × A11 × A12 × A13 × A14 × A15 × A16) (fun n s => W n s.1 s.2.1 s.2.2.1 s.2.2.2.1 s.2.2.2.2.1 s.2.2.2.2.2.1 s.2.2.2.2.2.2.1 s.2.2.2.2.2.2.2.1 s.2.2.2.2.2.2.2.2.1 s.2.2.2.2.2.2.2.2.2.1 s.2.2.2.2.2.2.2.2.2.2.1 s.2.2.2.2.2.2.2.2.2.2.2.1 s.2.2.2.2.2.2.2.2.2.2.2.2.1 s.2.2.2.2.2.2.2.2.2.2.2.2.2.1 s.2.2.2.2.2.2.2.2.2.2.2.2.2.2.1 s.2.2.2.2.2.2.2.2.2.2.2.2.2.2.2) (fun s => I s.1 s.2.1 s.2.2.1 s.2.2.2.1 s.2.2.2.2.1 s.2.2.2.2.2.1 s.2.2.2.2.2.2.1 s.2.2.2.2.2.2.2.1 s.2.2.2.2.2.2.2.2.1 s.2.2.2.2.2.2.2.2.2.1 s.2.2.2.2.2.2.2.2.2.2.1 s.2.2.2.2.2.2.2.2.2.2.2.1 s.2.2.2.2.2.2.2.2.2.2.2.2.1 s.2.2.2.2.2.2.2.2.2.2.2.2.2.1 s.2.2.2.2.2.2.2.2.2.2.2.2.2.2.1 s.2.2.2.2.2.2.2.2.2.2.2.2.2.2.2) (fun s => μ s.1 s.2.1 s.2.2.1 s.2.2.2.1 s.2.2.2.2.1 s.2.2.2.2.2.1 s.2.2.2.2.2.2.1 s.2.2.2.2.2.2.2.1 s.2.2.2.2.2.2.2.2.1 s.2.2.2.2.2.2.2.2.2.1 s.2.2.2.2.2.2.2.2.2.2.1 s.2.2.2.2.2.2.2.2.2.2.2.1 s.2.2.2.2.2.2.2.2.2.2.2.2.1 s.2.2.2.2.2.2.2.2.2.2.2.2.2.1 s.2.2.2.2.2.2.2.2.2.2.2.2.2.2.1 s.2.2.2.2.2.2.2.2.2.2.2.2.2.2.2) (fun n s hI hk => hs n s.1 s.2.1 s.2.2.1 s.2.2.2.1 s.2.2.2.2.1 s.2.2.2.2.2.1 s.2.2.2.2.2.2.1 s.2.2.2.2.2.2.2.1 s.2.2.2.2.2.2.2.2.1 s.2.2.2.2.2.2.2.2.2.1 s.2.2.2.2.2.2.2.2.2.2.1 s.2.2.2.2.2.2.2.2.2.2.2.1 s.2.2.2.2.2.2.2.2.2.2.2.2.1 s.2.2.2.2.2.2.2.2.2.2.2.2.2.1 s.2.2.2.2.2.2.2.2.2.2.2.2.2.2.1 s.2.2.2.2.2.2.2.2.2.2.2.2.2.2.2 hI (fun b1 b2 b3 b4 b5 b6 b7 b8 b9 b10 b11 b12 b13 b14 b15 b16 h9 hm => hk (b1, b2, b3, b4, b5, b6, b7, b8, b9, b10, b11, b12, b13, b14, b15, b16) h9 hm)) (a1, a2, a3, a4, a5, a6, a7, a8, a9, a10, a11, a12, a13, a14, a15, a16) h
theorem pk_least (P : Nat → Prop) (h : ∃ k, P k) : ∃ k, P k ∧ ∀ j, j < k → ¬ P j := by
  obtain ⟨k, hk⟩ := h
  induction k using Nat.strongRecOn with
  | ind k ih =>
    by_cases e : ∃ j, j < k ∧ P j
    · obtain ⟨j, hj, pj⟩ := e
      exact ih j hj pj
    · exact ⟨k, hk, fun j hj pj => e ⟨j, hj, pj⟩⟩
theorem rp1 {ρ A1 : Type} (W : Nat → (ρ → Prop) → A1 → Prop) (ok : A1 → Prop) (μ : A1 → Nat) (val : A1 → ρ)
    (hs : ∀ (d : Nat) (post : ρ → Prop) (a1 : A1), ok a1 → post (val a1) → (∀ (post' : ρ → Prop) (b1 : A1), ok b1 → μ b1 < μ a1 → post' (val b1) → W d post' b1) → W (d + 1) post a1) :
    ∀ (d : Nat) (post : ρ → Prop) (a1 : A1), ok a1 → μ a1 < d → post (val a1) → W d post a1 := by
  intro d
  induction d with
  | zero => intro post a1 _ h; omega
  | succ d ih =>
    intro post a1 ho hm hp
    exact hs d post a1 ho hp (fun post' b1 ho' hm' hp' => ih post' b1 ho' (by omega) hp')
theorem rp2 {ρ A1 A2 : Type} (W : Nat → (ρ → Prop) → A1 → A2 → Prop) (ok : A1 → A2 → Prop) (μ : A1 → A2 → Nat) (val : A1 → A2 → ρ)
    (hs : ∀ (d : Nat) (post : ρ → Prop) (a1 : A1) (a2 : A2), ok a1 a2 → post (val a1 a2) → (∀ (post' : ρ → Prop) (b1 : A1) (b2 : A2), ok b1 b2 → μ b1 b2 < μ a1 a2 → post' (val b1 b2) → W d post' b1 b2) → W (d + 1) post a1 a2) :
    ∀ (d : Nat) (post : ρ → Prop) (a1 : A1) (a2 : A2), ok a1 a2 → μ a1 a2 < d → post (val a1 a2) → W d post a1 a2 := by
  intro d
  induction d with
  | zero => intro post a1 a2 _ h; omega
  | succ d ih =>
    intro post a1 a2 ho hm hp
    exact hs d post a1 a2 ho hp (fun post' b1 b2 ho' hm' hp' => ih post' b1 b2 ho' (by omega) hp')
theorem rp3 {ρ A1 A2 A3 : Type} (W : Nat → (ρ → Prop) → A1 → A2 → A3 → Prop) (ok : A1 → A2 → A3 → Prop) (μ : A1 → A2 → A3 → Nat) (val : A1 → A2 → A3 → ρ)
    (hs : ∀ (d : Nat) (post : ρ → Prop) (a1 : A1) (a2 : A2) (a3 : A3), ok a1 a2 a3 → post (val a1 a2 a3) → (∀ (post' : ρ → Prop) (b1 : A1) (b2 : A2) (b3 : A3), ok b1 b2 b3 → μ b1 b2 b3 < μ a1 a2 a3 → post' (val b1 b2 b3) → W d post' b1 b2 b3) → W (d + 1) post a1 a2 a3) :
    ∀ (d : Nat) (post : ρ → Prop) (a1 : A1) (a2 : A2) (a3 : A3), ok a1 a2 a3 → μ a1 a2 a3 < d → post (val a1 a2 a3) → W d post a1 a2 a3 := by
  intro d
  induction d with
  | zero => intro post a1 a2 a3 _ h; omega
  | succ d ih =>
    intro post a1 a2 a3 ho hm hp
    exact hs d post a1 a2 a3 ho hp (fun post' b1 b2 b3 ho' hm' hp' => ih post' b1 b2 b3 ho' (by omega) hp')
theorem rp4 {ρ A1 A2 A3 A4 : Type} (W : Nat → (ρ → Prop) → A1 → A2 → A3 → A4 → Prop) (ok : A1 → A2 → A3 → A4 → Prop) (μ : A1 → A2 → A3 → A4 → Nat) (val : A1 → A2 → A3 → A4 → ρ)
    (hs : ∀ (d : Nat) (post : ρ → Prop) (a1 : A1) (a2 : A2) (a3 : A3) (a4 : A4), ok a1 a2 a3 a4 → post (val a1 a2 a3 a4) → (∀ (post' : ρ → Prop) (b1 : A1) (b2 : A2) (b3 : A3) (b4 : A4), ok b1 b2 b3 b4 → μ b1 b2 b3 b4 < μ a1 a2 a3 a4 → post' (val b1 b2 b3 b4) → W d post' b1 b2 b3 b4) → W (d + 1) post a1 a2 a3 a4) :
    ∀ (d : Nat) (post : ρ → Prop) (a1 : A1) (a2 : A2) (a3 : A3) (a4 : A4), ok a1 a2 a3 a4 → μ a1 a2 a3 a4 < d → post (val a1 a2 a3 a4) → W d post a1 a2 a3 a4 := by
  intro d
  induction d with
  | zero => intro post a1 a2 a3 a4 _ h; omega
  | succ d ih =>
    intro post a1 a2 a3 a4 ho hm hp
    exact hs d post a1 a2 a3 a4 ho hp (fun post' b1 b2 b3 b4 ho' hm' hp' => ih post' b1 b2 b3 b4 ho' (by omega) hp')
theorem rp5 {ρ A1 A2 A3 A4 A5 : Type} (W : Nat → (ρ → Prop) → A1 → A2 → A3 → A4 → A5 → Prop) (ok : A1 → A2 → A3 → A4 → A5 → Prop) (μ : A1 → A2 → A3 → A4 → A5 → Nat) (val : A1 → A2 → A3 → A4 → A5 → ρ)
    (hs : ∀ (d : Nat) (post : ρ → Prop) (a1 : A1) (a2 : A2) (a3 : A3) (a4 : A4) (a5 : A5), ok a1 a2 a3 a4 a5 → post (val a1 a2 a3 a4 a5) → (∀ (post' : ρ → Prop) (b1 : A1) (b2 : A2) (b3 : A3) (b4 : A4) (b5 : A5), ok b1 b2 b3 b4 b5 → μ b1 b2 b3 b4 b5 < μ a1 a2 a3 a4 a5 → post' (val b1 b2 b3 b4 b5) → W d post' b1 b2 b3 b4 b5) → W (d + 1) post a1 a2 a3 a4 a5) :
    ∀ (d : Nat) (post : ρ → Prop) (a1 : A1) (a2 : A2) (a3 : A3) (a4 : A4) (a5 : A5), ok a1 a2 a3 a4 a5 → μ a1 a2 a3 a4 a5 < d → post (val a1 a2 a3 a4 a5) → W d post a1 a2 a3 a4 a5 := by
  intro d
  induction d with
  | zero => intro post a1 a2 a3 a4 a5 _ h; omega
  | succ d ih =>
    intro post a1 a2 a3 a4 a5 ho hm hp
    exact hs d post a1 a2 a3 a4 a5 ho hp (fun post' b1 b2 b3 b4 b5 ho' hm' hp' => ih post' b1 b2 b3 b4 b5 ho' (by omega) hp')
theorem rp6 {ρ A1 A2 A3 A4 A5 A6 : Type} (W : Nat → (ρ → Prop) → A1 → A2 → A3 → A4 → A5 → A6 → Prop) (ok : A1 → A2 → A3 → A4 → A5 → A6 → Prop) (μ : A1 → A2 → A3 → A4 → A5 → A6 → Nat) (val : A1 → A2 → A3 → A4 → A5 → A6 → ρ)
    (hs : ∀ (d : Nat) (post : ρ → Prop) (a1 : A1) (a2 : A2) (a3 : A3) (a4 : A4) (a5 : A5) (a6 : A6), ok a1 a2 a3 a4 a5 a6 → post (val a1 a2 a3 a4 a5 a6) → (∀ (post' : ρ → Prop) (b1 : A1) (b2 : A2) (b3 : A3) (b4 : A4) (b5 : A5) (b6 : A6), ok b1 b2 b3 b4 b5 b6 → μ b1 b2 b3 b4 b5 b6 < μ a1 a2 a3 a4 a5 a6 → post' (val b1 b2 b3 b4 b5 b6) → W d post' b1 b2 b3 b4 b5 b6) → W (d + 1) post a1 a2 a3 a4 a5 a6) :
    ∀ (d : Nat) (post : ρ → Prop) (a1 : A1) (a2 : A2) (a3 : A3) (a4 : A4) (a5 : A5) (a6 : A6), ok a1 a2 a3 a4 a5 a6 → μ a1 a2 a3 a4 a5 a6 < d → post (val a1 a2 a3 a4 a5 a6) → W d post a1 a2 a3 a4 a5 a6 := by
  intro d
  induction d with
  | zero => intro post a1 a2 a3 a4 a5 a6 _ h; omega
  | succ d ih =>
    intro post a1 a2 a3 a4 a5 a6 ho hm hp
    exact hs d post a1 a2 a3 a4 a5 a6 ho hp (fun post' b1 b2 b3 b4 b5 b6 ho' hm' hp' => ih post' b1 b2 b3 b4 b5 b6 ho' (by omega) hp')
theorem rec_p {σ ρ : Type} (W : Nat → (ρ → Prop) → σ → Prop) (ok : σ → Prop) (μ : σ → Nat) (val : σ → ρ)
    (hs : ∀ d s post, ok s → post (val s) → (∀ s' post', ok s' → μ s' < μ s → post' (val s') → W d post' s') → W (d + 1) post s) :
    ∀ d s post, ok s → μ s < d → post (val s) → W d post s := by
  intro d
  induction d with
  | zero => intro s post _ h; omega
  | succ d ih =>
    intro s post ho hm hp
    exact hs d s post ho hp (fun s' post' ho' hm' hp' => ih s' post' ho' (by omega) hp')
theorem rec_q {σ ρ : Type} (W : Nat → (ρ → Prop) → σ → Prop) (ok : σ → Prop) (μ : σ → Nat) (Q : σ → ρ → Prop)
    (hs : ∀ d s post, ok s → (∀ r, Q s r → post r) → (∀ s' post', ok s' → μ s' < μ s → (∀ r, Q s' r → post' r) → W d post' s') → W (d + 1) post s) :
    ∀ d s post, ok s → μ s < d → (∀ r, Q s r → post r) → W d post s := by
  intro d
  induction d with
  | zero => intro s post _ h; omega
  | succ d ih =>
    intro s post ho hm hp
    exact hs d s post ho hp (fun s' post' ho' hm' hp' => ih s' post' ho' (by omega) hp')
def bx_sum (f : Nat → Int32) : Nat → Int32
  | 0 => 0
  | n + 1 => bx_sum f n + f n
theorem ek_u {A : Prop} {B : Nat → Prop} {k N : Nat} (hk : k < N) (h : B k) : (some k = none → A) ∧ (∀ y : Nat, some k = some y → (y < N ∧ B y)) :=
  ⟨fun z => absurd z (Option.some_ne_none k), fun _ e => (by cases e; exact ⟨hk, h⟩)⟩
theorem ek_nu {A : Prop} {B : Nat → Prop} (h : A) : ((none : Option Nat) = none → A) ∧ (∀ y : Nat, (none : Option Nat) = some y → B y) :=
  ⟨fun _ => h, fun _ e => (by cases e)⟩
theorem ek_if {c d A B : Prop} (e : c ↔ d) (f : d → A) (g : ¬ d → B) : (c → A) ∧ (¬ c → B) :=
  ⟨fun z => f (e.mp z), fun z => g (fun y => z (e.mpr y))⟩
theorem ek_v {α : Sort _} {P : α → Prop} {a b : α} (e : a = b) (h : P b) : P a := e ▸ h
theorem co_some {x : Option Nat} {A : Prop} {B : Nat → Prop} (i : Nat) (h : B i) (hx : x = some i := by rfl) : (x = none → A) ∧ (∀ y : Nat, x = some y → B y) := by
  subst hx
  exact ⟨fun e => (nomatch e), fun y e => Option.some.inj e ▸ h⟩
theorem co_none {x : Option Nat} {A : Prop} {B : Nat → Prop} (h : A) (hx : x = none := by rfl) : (x = none → A) ∧ (∀ y : Nat, x = some y → B y) := by
  subst hx
  exact ⟨fun _ => h, fun y e => (nomatch e)⟩
theorem co_any {x : Option Nat} {A : Prop} {B : Nat → Prop} (hn : x = none → A) (hs : ∀ i : Nat, x = some i → B i) : (x = none → A) ∧ (∀ y : Nat, x = some y → B y) := ⟨hn, hs⟩
theorem co_2 {P : Nat → Prop} (h0 : P 0) (h1 : P 1) {i : Nat} (hi : i < 2) : P i :=
  match i, hi with
  | 0, _ => h0
  | 1, _ => h1
theorem co_3 {P : Nat → Prop} (h0 : P 0) (h1 : P 1) (h2 : P 2) {i : Nat} (hi : i < 3) : P i :=
  match i, hi with
  | 0, _ => h0
  | 1, _ => h1
  | 2, _ => h2
theorem co_4 {P : Nat → Prop} (h0 : P 0) (h1 : P 1) (h2 : P 2) (h3 : P 3) {i : Nat} (hi : i < 4) : P i :=
  match i, hi with
  | 0, _ => h0
  | 1, _ => h1
  | 2, _ => h2
  | 3, _ => h3
theorem co_dec {N : Nat} {P : Nat → Prop} [DecidablePred P] (h : (List.range N).all (fun i => decide (P i)) = true) {i : Nat} (hi : i < N) : P i := by
  have := List.all_eq_true.mp h i (List.mem_range.mpr hi)
  exact of_decide_eq_true this
theorem co_tab {α : Type} {l : List α} {d : α} {P : α → Prop} (h : ∀ a, a ∈ l → P a) {i : Nat} (hi : i < l.length) : P (l.getD i d) := by
  rw [List.getD_eq_getElem?_getD, List.getElem?_eq_getElem hi]
  exact h _ (List.getElem_mem hi)
theorem pk_mu {x : Int32} {L : Nat} (h0 : ¬ x < 0) (h : ¬ nI L ≤ x) (hL : L < 2 ^ 31) : ∃ j : Nat, j < L ∧ x = nI j ∧ x + 1 = nI (j + 1) ∧ x.toNatClampNeg = j ∧ L - (x + 1).toNatClampNeg < L - x.toNatClampNeg := by
  obtain ⟨j, hj, rfl⟩ := nI_of h0
  have hl : j < L := Nat.not_le.mp fun q => h (nI_le q hj)
  refine ⟨j, hl, rfl, nI_1 j, nI_clamp hj, ?_⟩
  rw [nI_1, nI_clamp (by omega), nI_clamp hj]
  omega
theorem op_s {α : Type} {r : Option α} {A : Prop} {B : α → Prop} {y : α} (h : r = some y) (b : B y) : (r = none → A) ∧ ∀ z, r = some z → B z :=
  ⟨fun e => (by rw [h] at e; cases e), fun z e => (by rw [h] at e; cases e; exact b)⟩
def l_holds {α : Type} (a : Nat → Option Nat) (LP : List Nat) (p : Nat → α) (c : Nat) (b : Nat → α) : Prop :=
  ∀ j, j < c → ∃ y, a j = some y ∧ y ∈ LP ∧ p y = b j
theorem l_holds_0 {α : Type} {a : Nat → Option Nat} {LP : List Nat} {p b : Nat → α} : l_holds a LP p 0 b := fun j h => absurd h (Nat.not_lt_zero j)
theorem l_in_new (LP : List Nat) (q : Nat) : q ∈ LP ++ [q] := List.mem_append.mpr (Or.inr (List.mem_singleton.mpr rfl))
def l_sum (b : Nat → Int32) : Nat → Int32
  | 0 => 0
  | k + 1 => l_sum b k + b k
theorem sb_shr0 (x : Int32) : x >>> ((0 : Int32) &&& 31) = x := by
  rw [show ((0 : Int32) &&& 31) = 0 by decide]
  simp
theorem sb_shl0 (x : Int32) : x <<< ((0 : Int32) &&& 31) = x := by
  rw [show ((0 : Int32) &&& 31) = 0 by decide]
  simp
theorem sb_cl0 : (0 : Int32).toNatClampNeg = 0 := by decide
theorem sb_m1 {p : Nat} (h : 0 < p) : nI p + (-1) = nI (p - 1) := by
  obtain ⟨q, rfl⟩ : ∃ q, p = q + 1 := ⟨p - 1, by omega⟩
  exact pk_m1 q
def sb_b (c : Nat) : Int32 := (nI c).toInt8.toInt32
theorem sb_byte : ∀ c, c < 256 → sb_b c &&& 255 = nI c ∧ ((nI c).toUInt32 % 65536).toInt32 = nI c ∧ nI c ≤ 255 := by decide +kernel
def sb_Fit (a : Nat → Int32) : Prop := ∀ j, fits .byte (.int (a j)) = true
def sb_Lat (t : Nat → Nat) (n : Nat) (a : Nat → Int32) : Prop := ∀ j, j < n → t j < 256 ∧ a j = sb_b (t j)
theorem sb_fitB (c : Nat) : fits .byte (.int (sb_b c)) = true := pk_fb _
theorem sb_fit0 : sb_Fit (fun _ => 0) := fun _ => by
  show fits .byte (.int 0) = true
  decide
theorem sb_fitU {a : Nat → Int32} {k : Nat} {x : Int32} (h : sb_Fit a) (hx : fits .byte (.int x) = true) : sb_Fit (upd a k x) := by
  intro j
  by_cases e : j = k
  · subst e
    rw [pk_us]
    exact hx
  · rw [pk_un e]
    exact h j
def sb_cat (t : Nat → Nat) (n : Nat) (s : Nat → Nat) : Nat → Nat := fun j => if j < n then t j else s (j - n)
theorem sb_cat_lo {t s : Nat → Nat} {n j : Nat} (h : j < n) : sb_cat t n s j = t j := if_pos h
theorem sb_cat_hi {t s : Nat → Nat} {n j : Nat} : sb_cat t n s (n + j) = s j := by
  show (if n + j < n then t (n + j) else s (n + j - n)) = s j
  rw [if_neg (by omega), Nat.add_sub_cancel_left]
theorem sb_latPut {t s : Nat → Nat} {n w : Nat} {a a' : Nat → Int32} (h : sb_Lat t n a) (hk : ∀ j, j < n → a' j = a j) (hs : ∀ i, i < w → s i < 256 ∧ a' (n + i) = sb_b (s i)) : sb_Lat (sb_cat t n s) (n + w) a' := by
  intro j hj
  by_cases e : j < n
  · rw [sb_cat_lo e, hk j e]
    exact h j e
  · obtain ⟨i, rfl⟩ : ∃ i, j = n + i := ⟨j - n, by omega⟩
    rw [sb_cat_hi]
    exact hs i (by omega)
theorem sb_latKeep {t : Nat → Nat} {n : Nat} {a a' : Nat → Int32} (h : sb_Lat t n a) (hk : ∀ j, j < n → a' j = a j) : sb_Lat t n a' := fun j hj => by
  rw [hk j hj]
  exact h j hj
def sb_cap (q m : Nat) : Nat := if q ≤ m then m else if 2 * m + 2 < q then q else 2 * m + 2
def sb_Room (q m mc ms : Nat) : Prop := q ≤ m ∨ (1 ≤ mc ∧ sb_cap q m ≤ ms ∧ sb_cap q m ≤ 65536)
theorem sb_cap_ge (q m : Nat) : q ≤ sb_cap q m := by
  unfold sb_cap
  split
  · omega
  · split <;> omega
theorem sb_cap_gem (q m : Nat) : m ≤ sb_cap q m := by
  unfold sb_cap
  split
  · omega
  · split <;> omega
theorem sb_cap_le {q m mc ms : Nat} (hm : m ≤ 65536) (hr : sb_Room q m mc ms) : sb_cap q m ≤ 65536 := by
  rcases hr with h | h
  · rw [sb_cap, if_pos h]
    exact hm
  · exact h.2.2
theorem sb_at {P : Int32 → Prop} {x y : Int32} (e : x = y) (h : P y) : P x := e ▸ h
def sb_dg (w : Nat) : Nat := if w < 10 then 1 else if w < 100 then 2 else if w < 1000 then 3 else if w < 10000 then 4 else if w < 100000 then 5 else if w < 1000000 then 6 else if w < 10000000 then 7 else if w < 100000000 then 8 else if w < 1000000000 then 9 else 10
def sb_dec (v : Nat) : Nat → Nat := fun i => 48 + v / 10 ^ (sb_dg v - 1 - i) % 10
theorem sb_dg_in (w : Nat) : 1 ≤ sb_dg w ∧ sb_dg w ≤ 10 := by
  unfold sb_dg
  constructor <;> (repeat' split) <;> omega
theorem sb_dg100 {w : Nat} (h : 100 ≤ w) (hw : w < 2 ^ 31) : sb_dg w = sb_dg (w / 100) + 2 := by
  rw [sb_dg, sb_dg, if_neg (show ¬ w < 10 by omega), if_neg (show ¬ w < 100 by omega)]
  by_cases h3 : w < 1000
  · rw [if_pos h3, if_pos (show w / 100 < 10 by omega)]
  rw [if_neg h3, if_neg (show ¬ w / 100 < 10 by omega)]
  by_cases h4 : w < 10000
  · rw [if_pos h4, if_pos (show w / 100 < 100 by omega)]
  rw [if_neg h4, if_neg (show ¬ w / 100 < 100 by omega)]
  by_cases h5 : w < 100000
  · rw [if_pos h5, if_pos (show w / 100 < 1000 by omega)]
  rw [if_neg h5, if_neg (show ¬ w / 100 < 1000 by omega)]
  by_cases h6 : w < 1000000
  · rw [if_pos h6, if_pos (show w / 100 < 10000 by omega)]
  rw [if_neg h6, if_neg (show ¬ w / 100 < 10000 by omega)]
  by_cases h7 : w < 10000000
  · rw [if_pos h7, if_pos (show w / 100 < 100000 by omega)]
  rw [if_neg h7, if_neg (show ¬ w / 100 < 100000 by omega)]
  by_cases h8 : w < 100000000
  · rw [if_pos h8, if_pos (show w / 100 < 1000000 by omega)]
  rw [if_neg h8, if_neg (show ¬ w / 100 < 1000000 by omega)]
  by_cases h9 : w < 1000000000
  · rw [if_pos h9, if_pos (show w / 100 < 10000000 by omega)]
  rw [if_neg h9, if_neg (show ¬ w / 100 < 10000000 by omega)]
  rw [if_pos (show w / 100 < 100000000 by omega)]
theorem sb_negT {w : Nat} (h : w < 2 ^ 31) : (-nI w).toInt = -(w : Int) := by
  rw [Int32.toInt_neg, nI_toInt h]
  exact Int.bmod_eq_of_le (by omega) (by omega)
theorem sb_nle {a b : Nat} (ha : a < 2 ^ 31) (hb : b < 2 ^ 31) : -nI a ≤ -nI b ↔ b ≤ a := by
  rw [Int32.le_iff_toInt_le, sb_negT ha, sb_negT hb]
  omega
theorem sb_nlt {a b : Nat} (ha : a < 2 ^ 31) (hb : b < 2 ^ 31) : -nI a < -nI b ↔ b < a := by
  rw [Int32.lt_iff_toInt_lt, sb_negT ha, sb_negT hb]
  omega
theorem sb_cmp {A B : Prop} {x : Int32} (v c : Nat) (f : c ≤ v → A) (g : v < c → B) (hv : v < 2 ^ 31) (hx : x = -nI c := by rfl) (hc : c < 2 ^ 31 := by omega) : (-nI v ≤ x → A) ∧ (¬ -nI v ≤ x → B) := by
  subst hx
  rw [sb_nle hv hc]
  exact ⟨f, fun z => g (by omega)⟩
theorem sb_ndiv {w : Nat} (hw : w < 2 ^ 31) : (-nI w) / 100 = -nI (w / 100) := by
  apply Int32.toInt_inj.mp
  have h100 : (100 : Int32).toInt = 100 := by decide
  rw [Int32.toInt_div, sb_negT hw, h100, sb_negT (by omega), Int.neg_tdiv, Int.tdiv_eq_ediv_of_nonneg (by omega), Int.bmod_eq_of_le (by omega) (by omega)]
  omega
theorem sb_nrem {w : Nat} (hw : w < 2 ^ 31) : (-nI (w / 100)) * 100 - (-nI w) = nI (w % 100) := by
  have h := pk_rem (a := w) (d := 100) hw (by decide) (by decide)
  rw [pk_div hw (by decide) (by decide)] at h
  rw [← h]
  show (-nI (w / 100)) * nI 100 - (-nI w) = nI w - nI (w / 100) * nI 100
  rw [Int32.neg_mul, Int32.sub_neg, Int32.add_comm, ← Int32.sub_eq_add_neg]
end
section
/-! ===== Int32 by its bits: bt x i ===== -/
def bt (x : Int32) (i : Nat) : Bool := x.toBitVec.getLsbD i
theorem b_ext {x y : Int32} (h : ∀ i, i < 32 → bt x i = bt y i) : x = y := Int32.toBitVec_inj.mp (BitVec.eq_of_getLsbD_eq (fun i hi => h i hi))
theorem b_or (x y : Int32) (i : Nat) : bt (x ||| y) i = (bt x i || bt y i) := by unfold bt; rw [Int32.toBitVec_or, BitVec.getLsbD_or]
theorem b_and (x y : Int32) (i : Nat) : bt (x &&& y) i = (bt x i && bt y i) := by unfold bt; rw [Int32.toBitVec_and, BitVec.getLsbD_and]
theorem b_xor (x y : Int32) (i : Nat) : bt (x ^^^ y) i = (bt x i ^^ bt y i) := by unfold bt; rw [Int32.toBitVec_xor, BitVec.getLsbD_xor]
theorem b_big {x : Int32} {i : Nat} (h : 32 ≤ i) : bt x i = false := BitVec.getLsbD_of_ge _ _ h
theorem b_m1 : ∀ i, i < 32 → bt (-1) i = true := by decide +kernel
theorem b_0 (i : Nat) : bt 0 i = false := BitVec.getLsbD_zero
theorem s_l : ∀ n, n < 32 → ((nI n &&& 31).toBitVec.smod 32).toNat = n := by decide +kernel
theorem s_u : ∀ n, n < 32 → (((nI n).toUInt32 &&& Int32.toUInt32 31).toBitVec % 32).toNat = n := by decide +kernel
theorem b_shl (n : Nat) (hn : n < 32) (x : Int32) {i : Nat} (hi : i < 32) : bt (x <<< (nI n &&& 31)) i = (decide (n ≤ i) && bt x (i - n)) := by
  unfold bt
  rw [Int32.toBitVec_shiftLeft]
  show (x.toBitVec <<< ((nI n &&& 31).toBitVec.smod 32).toNat).getLsbD i = _
  rw [s_l n hn, BitVec.getLsbD_shiftLeft]
  rcases Nat.lt_or_ge i n with h | h
  · simp [h, Nat.not_le.mpr h]
  · simp [hi, h, Nat.not_lt.mpr h]
theorem b_ushr (n : Nat) (hn : n < 32) (x : Int32) (i : Nat) : bt ((x.toUInt32 >>> ((nI n).toUInt32 &&& Int32.toUInt32 31)).toInt32) i = bt x (n + i) := by
  show (x.toUInt32 >>> ((nI n).toUInt32 &&& Int32.toUInt32 31)).toBitVec.getLsbD i = x.toUInt32.toBitVec.getLsbD (n + i)
  rw [UInt32.toBitVec_shiftRight]
  show (x.toUInt32.toBitVec >>> (((nI n).toUInt32 &&& Int32.toUInt32 31).toBitVec % 32).toNat).getLsbD i = _
  rw [s_u n hn, BitVec.getLsbD_ushiftRight]
end
section
/-! the pure model: sums, maxima; the run of the program, one instruction after the other; the cycles by formulas -/
def sd_mx (f : Nat → Nat) : Nat → Nat
  | 0 => 0
  | n + 1 => max (sd_mx f n) (f n)
theorem sd_mx_lt {f : Nat → Nat} {n c : Nat} : c < sd_mx f n ↔ ∃ j, j < n ∧ c < f j := by
  induction n with
  | zero => exact ⟨fun h => absurd h (Nat.not_lt_zero _), fun ⟨j, h, _⟩ => absurd h (Nat.not_lt_zero _)⟩
  | succ n ih =>
    show c < max (sd_mx f n) (f n) ↔ _
    constructor
    · intro h
      rcases Nat.lt_or_ge c (sd_mx f n) with h1 | h1
      · obtain ⟨j, hj, h2⟩ := ih.mp h1; exact ⟨j, by omega, h2⟩
      · exact ⟨n, by omega, by omega⟩
    · intro ⟨j, hj, h⟩
      rcases Nat.lt_or_ge j n with h1 | h1
      · have := ih.mpr ⟨j, h1, h⟩; omega
      · have e : j = n := by omega
        subst e; omega
theorem sd_mx_ge {f : Nat → Nat} {n j : Nat} (h : j < n) : f j ≤ sd_mx f n := by
  rcases Nat.lt_or_ge (sd_mx f n) (f j) with h1 | h1
  · exact absurd (sd_mx_lt.mpr ⟨j, h, h1⟩) (Nat.lt_irrefl _)
  · exact h1
theorem sd_mx_le {f : Nat → Nat} {n b : Nat} (h : ∀ j, j < n → f j ≤ b) : sd_mx f n ≤ b := by
  rcases Nat.lt_or_ge b (sd_mx f n) with h1 | h1
  · obtain ⟨j, hj, h2⟩ := sd_mx_lt.mp h1
    have := h j hj; omega
  · exact h1
theorem sd_mx_congr {f g : Nat → Nat} {n : Nat} (h : ∀ j, j < n → f j = g j) : sd_mx f n = sd_mx g n := by
  induction n with
  | zero => rfl
  | succ n ih =>
    show max (sd_mx f n) (f n) = max (sd_mx g n) (g n)
    rw [ih (fun j hj => h j (by omega)), h n (by omega)]
theorem sd_mx_ex {f : Nat → Nat} {n : Nat} : sd_mx f n = 0 ∨ ∃ j, j < n ∧ sd_mx f n = f j := by
  rcases Nat.eq_zero_or_pos (sd_mx f n) with h | h
  · exact Or.inl h
  · obtain ⟨j, hj, h2⟩ := sd_mx_lt.mp (show sd_mx f n - 1 < sd_mx f n by omega)
    have := sd_mx_ge (f := f) hj
    exact Or.inr ⟨j, hj, by omega⟩
def sd_sm (f : Nat → Nat) : Nat → Nat
  | 0 => 0
  | n + 1 => sd_sm f n + f n
theorem sd_sm_s (f : Nat → Nat) (n : Nat) : sd_sm f (n + 1) = sd_sm f n + f n := rfl
theorem sd_sm_congr {f g : Nat → Nat} {n : Nat} (h : ∀ j, j < n → f j = g j) : sd_sm f n = sd_sm g n := by
  induction n with
  | zero => rfl
  | succ n ih => rw [sd_sm_s, sd_sm_s, ih (fun j hj => h j (by omega)), h n (by omega)]
theorem sd_sm_bump {f g : Nat → Nat} {n k : Nat} (hk : k < n) (h1 : g k = f k + 1) (h : ∀ j, j < n → j ≠ k → g j = f j) : sd_sm g n = sd_sm f n + 1 := by
  induction n with
  | zero => omega
  | succ n ih =>
    rw [sd_sm_s, sd_sm_s]
    rcases Nat.lt_or_ge k n with h2 | h2
    · rw [ih h2 (fun j hj => h j (by omega)), h n (by omega) (by omega)]; omega
    · have e : k = n := by omega
      subst e
      rw [sd_sm_congr (f := g) (g := f) (fun j hj => h j (by omega) (by omega)), h1]; omega
theorem sd_sm_le {f : Nat → Nat} {n b : Nat} (h : ∀ j, j < n → f j ≤ b) : sd_sm f n ≤ n * b := by
  induction n with
  | zero => exact Nat.zero_le _
  | succ n ih =>
    rw [sd_sm_s, Nat.succ_mul]
    exact Nat.add_le_add (ih (fun j hj => h j (by omega))) (h n (by omega))
theorem sd_sm_zero {f : Nat → Nat} {n : Nat} (h : sd_sm f n = 0) : ∀ j, j < n → f j = 0 := by
  induction n with
  | zero => intro j hj; omega
  | succ n ih =>
    rw [sd_sm_s] at h
    intro j hj
    rcases Nat.lt_or_ge j n with h2 | h2
    · exact ih (by omega) j h2
    · have e : j = n := by omega
      subst e; omega
def sd_ml (f : Nat → Nat) : Nat → Nat
  | 0 => f 0
  | n + 1 => min (sd_ml f n) (f n)
theorem sd_ml_le {f : Nat → Nat} {n u : Nat} (h : u < n) : sd_ml f n ≤ f u := by
  induction n with
  | zero => omega
  | succ n ih =>
    show min (sd_ml f n) (f n) ≤ f u
    rcases Nat.lt_or_ge u n with h2 | h2
    · have := ih h2; omega
    · have e : u = n := by omega
      subst e; omega
theorem sd_ml_ex0 {f : Nat → Nat} {n : Nat} : ∃ u, (u < n ∨ u = 0) ∧ sd_ml f n = f u := by
  induction n with
  | zero => exact ⟨0, Or.inr rfl, rfl⟩
  | succ n ih =>
    obtain ⟨u, hu, e⟩ := ih
    rcases Nat.lt_or_ge (f n) (sd_ml f n) with h | h
    · exact ⟨n, by omega, by show min (sd_ml f n) (f n) = f n; omega⟩
    · exact ⟨u, by omega, by show min (sd_ml f n) (f n) = f u; omega⟩
theorem sd_ml_ex {f : Nat → Nat} {n : Nat} (h : 0 < n) : ∃ u, u < n ∧ sd_ml f n = f u := by
  obtain ⟨u, hu, e⟩ := sd_ml_ex0 (f := f) (n := n)
  exact ⟨u, by omega, e⟩
theorem sd_ml_congr {f g : Nat → Nat} {n : Nat} (h : ∀ j, f j = g j) : sd_ml f n = sd_ml g n := by
  rw [show f = g from funext h]
/-- the first u below n with f u ≤ c, else n -/
def sd_fu (f : Nat → Nat) (c : Nat) : Nat → Nat
  | 0 => 0
  | n + 1 => if sd_fu f c n < n then sd_fu f c n else if f n ≤ c then n else n + 1
theorem sd_fu_s (f : Nat → Nat) (c n : Nat) : sd_fu f c (n + 1) = if sd_fu f c n < n then sd_fu f c n else if f n ≤ c then n else n + 1 := rfl
theorem sd_fu_le {f : Nat → Nat} {c n : Nat} : sd_fu f c n ≤ n := by
  induction n with
  | zero => exact Nat.le_refl _
  | succ n ih =>
    rw [sd_fu_s]
    split
    · omega
    · split <;> omega
theorem sd_fu_at {f : Nat → Nat} {c n : Nat} (h : sd_fu f c n < n) : f (sd_fu f c n) ≤ c := by
  induction n with
  | zero => omega
  | succ n ih =>
    rw [sd_fu_s] at h ⊢
    by_cases h1 : sd_fu f c n < n
    · rw [if_pos h1]; exact ih h1
    · rw [if_neg h1] at h ⊢
      by_cases h2 : f n ≤ c
      · rw [if_pos h2]; exact h2
      · rw [if_neg h2] at h; omega
theorem sd_fu_lt {f : Nat → Nat} {c n u : Nat} (h : u < sd_fu f c n) : c < f u := by
  induction n with
  | zero => exact absurd h (Nat.not_lt_zero _)
  | succ n ih =>
    rw [sd_fu_s] at h
    by_cases h1 : sd_fu f c n < n
    · rw [if_pos h1] at h; exact ih h
    · rw [if_neg h1] at h
      have e : sd_fu f c n = n := by have := sd_fu_le (f := f) (c := c) (n := n); omega
      by_cases h2 : f n ≤ c
      · rw [if_pos h2] at h; exact ih (by omega)
      · rw [if_neg h2] at h
        rcases Nat.lt_or_ge u n with h3 | h3
        · exact ih (by omega)
        · have e2 : u = n := by omega
          subst e2; omega
theorem sd_fu_ex {f : Nat → Nat} {c n u : Nat} (hu : u < n) (h : f u ≤ c) : sd_fu f c n < n := by
  rcases Nat.lt_or_ge (sd_fu f c n) n with h1 | h1
  · exact h1
  · have := sd_fu_lt (f := f) (c := c) (n := n) (u := u) (by omega); omega
/-- a number below N, or -1 -/
def sd_cn (N t : Nat) : Int32 := if t < N then nI t else -1
theorem sd_cn_lt {N t : Nat} (h : t < N) : sd_cn N t = nI t := if_pos h
theorem sd_cn_ge {N t : Nat} (h : N ≤ t) : sd_cn N t = -1 := if_neg (by omega)
theorem sd_m1n {n : Nat} (h : n < 2 ^ 31) : ¬ nI n = -1 := by
  intro e
  have h1 := nI_toInt h
  rw [e, show (-1 : Int32).toInt = -1 from by decide] at h1
  omega
theorem sd_m1lt : (-1 : Int32) < 0 := by decide
theorem sd_cn_m1 {N t : Nat} (hN : N < 2 ^ 31) : sd_cn N t = -1 ↔ N ≤ t := by
  by_cases h : t < N
  · rw [sd_cn_lt h]; exact ⟨fun e => absurd e (sd_m1n (by omega)), fun e => by omega⟩
  · rw [sd_cn_ge (by omega)]; exact ⟨fun _ => by omega, fun _ => rfl⟩
theorem sd_cn_neg {N t : Nat} (hN : N < 2 ^ 31) : sd_cn N t < 0 ↔ N ≤ t := by
  by_cases h : t < N
  · rw [sd_cn_lt h]; exact ⟨fun e => absurd e (nI_pos (by omega)), fun e => by omega⟩
  · rw [sd_cn_ge (by omega)]; exact ⟨fun _ => by omega, fun _ => sd_m1lt⟩
theorem sd_cn_eq {N s t : Nat} (hN : N < 2 ^ 31) (hs : s ≤ N) (ht : t ≤ N) : sd_cn N s = sd_cn N t ↔ s = t := by
  by_cases h : s < N
  · rw [sd_cn_lt h]
    by_cases h2 : t < N
    · rw [sd_cn_lt h2]; exact nI_eq (by omega) (by omega)
    · rw [sd_cn_ge (by omega)]; exact ⟨fun e => absurd e (sd_m1n (by omega)), fun e => by omega⟩
  · rw [sd_cn_ge (by omega)]
    exact ⟨fun e => by have := (sd_cn_m1 (t := t) hN).mp e.symm; omega, fun e => (sd_cn_ge (by omega)).symm⟩
/-- the program (op, d, a, b, size), the machine (many, latency, stack size, fetch time, bank time), registers and words ahead of the run -/
abbrev sd_Pg : Type := (Nat → Int32) × (Nat → Int32) × (Nat → Int32) × (Nat → Int32) × Nat × (Nat → Nat) × (Nat → Nat) × Nat × Nat × Nat × (Nat → Int32) × (Nat → Int32)
def sd_go (P : sd_Pg) (i : Nat) : Nat := (P.1 i).toNatClampNeg
def sd_gd (P : sd_Pg) (i : Nat) : Nat := (P.2.1 i).toNatClampNeg
def sd_gA (P : sd_Pg) (i : Nat) : Int32 := P.2.2.1 i
def sd_ga (P : sd_Pg) (i : Nat) : Nat := (P.2.2.1 i).toNatClampNeg
def sd_gB (P : sd_Pg) (i : Nat) : Int32 := P.2.2.2.1 i
def sd_gb (P : sd_Pg) (i : Nat) : Nat := (P.2.2.2.1 i).toNatClampNeg
def sd_gs (P : sd_Pg) : Nat := P.2.2.2.2.1
def sd_gm (P : sd_Pg) (k : Nat) : Nat := P.2.2.2.2.2.1 k
def sd_gl (P : sd_Pg) (k : Nat) : Nat := P.2.2.2.2.2.2.1 k
def sd_gS (P : sd_Pg) : Nat := P.2.2.2.2.2.2.2.1
def sd_gf (P : sd_Pg) : Nat := P.2.2.2.2.2.2.2.2.1
def sd_gt (P : sd_Pg) : Nat := P.2.2.2.2.2.2.2.2.2.1
def sd_gR (P : sd_Pg) : Nat → Int32 := P.2.2.2.2.2.2.2.2.2.2.1
def sd_gM (P : sd_Pg) : Nat → Int32 := P.2.2.2.2.2.2.2.2.2.2.2
/-- an instruction of the program is in form -/
def sd_VI (o d a b : Int32) : Prop := ∃ p : Nat, o = nI p ∧ p ≤ 10 ∧ (p < 8 → ∃ q, q < 8 ∧ d = nI q) ∧ (0 < p → p < 9 → ∃ q, q < 8 ∧ a = nI q) ∧ (0 < p → p < 6 → ∃ q, q < 8 ∧ b = nI q) ∧ (p = 8 ∨ p = 9 → ∃ q, q < 24 ∧ b = nI q)
def sd_VP (P : sd_Pg) : Prop := sd_gs P ≤ 24 ∧ (∀ i, i < sd_gs P → sd_VI (P.1 i) (P.2.1 i) (P.2.2.1 i) (P.2.2.2.1 i)) ∧ (∀ k, k < 6 → 1 ≤ sd_gm P k ∧ sd_gm P k ≤ 3 ∧ 1 ≤ sd_gl P k ∧ sd_gl P k ≤ 8) ∧ (1 ≤ sd_gS P ∧ sd_gS P ≤ 4) ∧ sd_gf P ≤ 6 ∧ (1 ≤ sd_gt P ∧ sd_gt P ≤ 8)
def sd_kn (o : Nat) : Nat := if o < 1 then 0 else if o < 4 then 1 else if o < 6 then o - 2 else if o < 8 then 4 else 5
def sd_tg1 (P : sd_Pg) (i : Nat) : Nat := if sd_go P i < 7 then sd_gd P i else 8
def sd_fs1 (P : sd_Pg) (i : Nat) : Nat := if 0 < sd_go P i ∧ sd_go P i < 9 then sd_ga P i else 8
def sd_sc1 (P : sd_Pg) (i : Nat) : Nat := if 0 < sd_go P i ∧ sd_go P i < 6 then sd_gb P i else if sd_go P i = 7 then sd_gd P i else 8
def sd_rs (o : Nat) (a p q : Int32) : Int32 := if o = 0 then a else if o = 1 then p + q else if o = 2 then p - q else if o = 3 then (if q ≤ p then 0 else 1) else if o = 4 then p * q else if o = 5 then (if q = 0 then 0 else p / q) else q
def sd_rv (R : Nat → Int32) (r : Nat) : Int32 := if r < 8 then R r else 0
def sd_w1 (P : sd_Pg) (i : Nat) (R : Nat → Int32) : Nat := ((sd_rv R (sd_fs1 P i) + sd_gB P i) &&& 31).toNatClampNeg
def sd_y1 (P : sd_Pg) (i : Nat) (R M : Nat → Int32) : Int32 := if sd_go P i = 6 then M (sd_w1 P i R) else sd_rv R (sd_sc1 P i)
def sd_v1 (P : sd_Pg) (i : Nat) (R M : Nat → Int32) : Int32 := sd_rs (sd_go P i) (sd_gA P i) (sd_rv R (sd_fs1 P i)) (sd_y1 P i R M)
def sd_n1 (P : sd_Pg) (i : Nat) (R : Nat → Int32) : Nat := if sd_go P i = 9 ∨ (sd_go P i = 8 ∧ sd_rv R (sd_fs1 P i) = 0) then sd_gb P i else i + 1
def sd_R1 (P : sd_Pg) (i : Nat) (R M : Nat → Int32) : Nat → Int32 := if sd_tg1 P i < 8 then upd R (sd_tg1 P i) (sd_v1 P i R M) else R
def sd_M1 (P : sd_Pg) (i : Nat) (R M : Nat → Int32) : Nat → Int32 := if sd_go P i = 7 then upd M (sd_w1 P i R) (sd_rv R (sd_sc1 P i)) else M
def sd_st (P : sd_Pg) : Nat → Nat × (Nat → Int32) × (Nat → Int32)
  | 0 => (0, sd_gR P, sd_gM P)
  | k + 1 => (sd_n1 P (sd_st P k).1 (sd_st P k).2.1, sd_R1 P (sd_st P k).1 (sd_st P k).2.1 (sd_st P k).2.2, sd_M1 P (sd_st P k).1 (sd_st P k).2.1 (sd_st P k).2.2)
def sd_num (P : sd_Pg) (k : Nat) : Nat := (sd_st P k).1
def sd_RG (P : sd_Pg) (k : Nat) : Nat → Int32 := (sd_st P k).2.1
def sd_WD (P : sd_Pg) (k : Nat) : Nat → Int32 := (sd_st P k).2.2
def sd_o (P : sd_Pg) (k : Nat) : Nat := sd_go P (sd_num P k)
def sd_kd (P : sd_Pg) (k : Nat) : Nat := sd_kn (sd_o P k)
def sd_tg (P : sd_Pg) (k : Nat) : Nat := sd_tg1 P (sd_num P k)
def sd_fs (P : sd_Pg) (k : Nat) : Nat := sd_fs1 P (sd_num P k)
def sd_sc (P : sd_Pg) (k : Nat) : Nat := sd_sc1 P (sd_num P k)
def sd_xs (P : sd_Pg) (k : Nat) : Int32 := sd_rv (sd_RG P k) (sd_fs P k)
def sd_ys (P : sd_Pg) (k : Nat) : Int32 := sd_rv (sd_RG P k) (sd_sc P k)
def sd_ww (P : sd_Pg) (k : Nat) : Nat := ((sd_xs P k + sd_gB P (sd_num P k)) &&& 31).toNatClampNeg
def sd_bk (P : sd_Pg) (k : Nat) : Nat := ((sd_xs P k + sd_gB P (sd_num P k)) &&& 3).toNatClampNeg
def sd_yv (P : sd_Pg) (k : Nat) : Int32 := if sd_o P k = 6 then sd_WD P k (sd_ww P k) else sd_ys P k
def sd_vv (P : sd_Pg) (k : Nat) : Int32 := sd_rs (sd_o P k) (sd_gA P (sd_num P k)) (sd_xs P k) (sd_yv P k)
theorem sd_num0 (P : sd_Pg) : sd_num P 0 = 0 := rfl
theorem sd_RG0 (P : sd_Pg) : sd_RG P 0 = sd_gR P := rfl
theorem sd_WD0 (P : sd_Pg) : sd_WD P 0 = sd_gM P := rfl
theorem sd_numS (P : sd_Pg) (k : Nat) : sd_num P (k + 1) = if sd_o P k = 9 ∨ (sd_o P k = 8 ∧ sd_xs P k = 0) then sd_gb P (sd_num P k) else sd_num P k + 1 := rfl
theorem sd_RGS (P : sd_Pg) (k : Nat) : sd_RG P (k + 1) = if sd_tg P k < 8 then upd (sd_RG P k) (sd_tg P k) (sd_vv P k) else sd_RG P k := rfl
theorem sd_WDS (P : sd_Pg) (k : Nat) : sd_WD P (k + 1) = if sd_o P k = 7 then upd (sd_WD P k) (sd_ww P k) (sd_ys P k) else sd_WD P k := rfl
/-- packs: whether p is among f (lo .. n-1) -/
def sd_in (f : Nat → Nat) (p lo : Nat) : Nat → Bool
  | 0 => false
  | n + 1 => if n < lo then false else if f n = p then true else sd_in f p lo n
theorem sd_in_iff {f : Nat → Nat} {p lo n : Nat} : sd_in f p lo n = true ↔ ∃ j, j < n ∧ lo ≤ j ∧ f j = p := by
  induction n with
  | zero => exact ⟨fun h => (nomatch h), fun ⟨j, h, _⟩ => absurd h (Nat.not_lt_zero _)⟩
  | succ n ih =>
    show (if n < lo then false else if f n = p then true else sd_in f p lo n) = true ↔ _
    by_cases h1 : n < lo
    · rw [if_pos h1]
      exact ⟨fun h => (nomatch h), fun ⟨j, h, h2, _⟩ => by omega⟩
    · rw [if_neg h1]
      by_cases h2 : f n = p
      · rw [if_pos h2]
        exact ⟨fun _ => ⟨n, by omega, by omega, h2⟩, fun _ => rfl⟩
      · rw [if_neg h2, ih]
        constructor
        · intro ⟨j, h, h3, h4⟩; exact ⟨j, by omega, h3, h4⟩
        · intro ⟨j, h, h3, h4⟩
          rcases Nat.lt_or_ge j n with h5 | h5
          · exact ⟨j, h5, h3, h4⟩
          · have e : j = n := by omega
            subst e; exact absurd h4 h2
def sd_fe (P : sd_Pg) : Nat → Nat × (Nat → Nat)
  | 0 => (0, fun _ => 0)
  | k + 1 => if sd_in (sd_fe P k).2 (sd_num P k / 2) ((sd_fe P k).1 - sd_gS P) (sd_fe P k).1 = true then sd_fe P k else ((sd_fe P k).1 + 1, fun j => if j = (sd_fe P k).1 then sd_num P k / 2 else (sd_fe P k).2 j)
def sd_fc (P : sd_Pg) (k : Nat) : Nat := (sd_fe P k).1
def sd_pk (P : sd_Pg) (k : Nat) : Nat → Nat := (sd_fe P k).2
def sd_th (P : sd_Pg) (k : Nat) : Bool := sd_in (sd_pk P k) (sd_num P k / 2) (sd_fc P k - sd_gS P) (sd_fc P k)
theorem sd_fe_t {P : sd_Pg} {k : Nat} (h : sd_th P k = true) : sd_fc P (k + 1) = sd_fc P k ∧ sd_pk P (k + 1) = sd_pk P k := by
  have e : sd_fe P (k + 1) = sd_fe P k := if_pos h
  exact ⟨congrArg Prod.fst e, congrArg Prod.snd e⟩
theorem sd_fe_f {P : sd_Pg} {k : Nat} (h : ¬ sd_th P k = true) : sd_fc P (k + 1) = sd_fc P k + 1 ∧ sd_pk P (k + 1) = fun j => if j = sd_fc P k then sd_num P k / 2 else sd_pk P k j := by
  have e : sd_fe P (k + 1) = _ := if_neg h
  exact ⟨congrArg Prod.fst e, congrArg Prod.snd e⟩
theorem sd_fc_le (P : sd_Pg) (k : Nat) : sd_fc P k ≤ k := by
  induction k with
  | zero => exact Nat.le_refl _
  | succ k ih =>
    by_cases h : sd_th P k = true
    · rw [(sd_fe_t h).1]; omega
    · rw [(sd_fe_f h).1]; omega
/-- the cycles of one instruction: issue, unit, read, access, write -/
abbrev sd_Tm : Type := Nat → Nat × Nat × Nat × Nat × Nat
def sd_hnx (P : sd_Pg) (h : sd_Tm) (k : Nat) : Nat := if k = 0 then 1 else (if sd_kd P (k - 1) = 5 then (h (k - 1)).2.2.2.2 else (h (k - 1)).1) + 1
def sd_hco (P : sd_Pg) (h : sd_Tm) (k : Nat) : Nat := sd_hnx P h k + (if sd_th P k = true then 0 else sd_gf P)
def sd_hhw (P : sd_Pg) (h : sd_Tm) (k : Nat) : Nat := sd_mx (fun j => if sd_tg P k < 8 ∧ sd_tg P j = sd_tg P k then (h j).2.2.2.2 + 1 else 0) k
def sd_hub (P : sd_Pg) (h : sd_Tm) (k u : Nat) : Nat := sd_mx (fun j => if sd_kd P j = sd_kd P k ∧ (h j).2.1 = u then (h j).2.2.2.2 + 1 else 0) k
def sd_his (P : sd_Pg) (h : sd_Tm) (k : Nat) : Nat := max (max (sd_hco P h k) (sd_hhw P h k)) (sd_ml (sd_hub P h k) (sd_gm P (sd_kd P k)))
def sd_hun (P : sd_Pg) (h : sd_Tm) (k : Nat) : Nat := sd_fu (sd_hub P h k) (sd_his P h k) (sd_gm P (sd_kd P k))
def sd_hrd (P : sd_Pg) (h : sd_Tm) (k : Nat) : Nat := max (sd_his P h k + 1) (sd_mx (fun j => if sd_tg P j < 8 ∧ (sd_tg P j = sd_fs P k ∨ sd_tg P j = sd_sc P k) then (h j).2.2.2.2 + 1 else 0) k)
def sd_hac (P : sd_Pg) (h : sd_Tm) (k : Nat) : Nat := max (sd_hrd P h k + 1) (sd_mx (fun j => if sd_kd P j = 4 then max ((h j).2.2.2.1 + 1) (if sd_bk P j = sd_bk P k then (h j).2.2.2.1 + sd_gt P else 0) else 0) k)
def sd_hry (P : sd_Pg) (h : sd_Tm) (k : Nat) : Nat := (if sd_kd P k = 4 then sd_hac P h k else sd_hrd P h k) + sd_gl P (sd_kd P k)
def sd_hmw (P : sd_Pg) (h : sd_Tm) (k : Nat) : Nat := sd_mx (fun j => if sd_tg P k < 8 ∧ (sd_fs P j = sd_tg P k ∨ sd_sc P j = sd_tg P k) then (h j).2.2.1 + 1 else 0) k
def sd_hwr (P : sd_Pg) (h : sd_Tm) (k : Nat) : Nat := max (sd_hry P h k) (sd_hmw P h k)
def sd_F (P : sd_Pg) (h : sd_Tm) (k : Nat) : Nat × Nat × Nat × Nat × Nat := (sd_his P h k, sd_hun P h k, sd_hrd P h k, sd_hac P h k, sd_hwr P h k)
theorem sd_F_congr {P : sd_Pg} {h g : sd_Tm} {k : Nat} (e : ∀ j, j < k → h j = g j) : sd_F P h k = sd_F P g k := by
  have e1 : sd_hnx P h k = sd_hnx P g k := by
    unfold sd_hnx
    by_cases z : k = 0
    · rw [if_pos z, if_pos z]
    · rw [if_neg z, if_neg z, e (k - 1) (by omega)]
  have e2 : sd_hco P h k = sd_hco P g k := by unfold sd_hco; rw [e1]
  have e3 : sd_hhw P h k = sd_hhw P g k := sd_mx_congr (fun j hj => by rw [e j hj])
  have e4 : sd_hub P h k = sd_hub P g k := funext fun u => sd_mx_congr (fun j hj => by rw [e j hj])
  have e5 : sd_his P h k = sd_his P g k := by unfold sd_his; rw [e2, e3, e4]
  have e6 : sd_hun P h k = sd_hun P g k := by unfold sd_hun; rw [e4, e5]
  have e7 : sd_hrd P h k = sd_hrd P g k := by
    unfold sd_hrd; rw [e5]
    exact congrArg _ (sd_mx_congr (fun j hj => by rw [e j hj]))
  have e8 : sd_hac P h k = sd_hac P g k := by
    unfold sd_hac; rw [e7]
    exact congrArg _ (sd_mx_congr (fun j hj => by rw [e j hj]))
  have e9 : sd_hry P h k = sd_hry P g k := by unfold sd_hry; rw [e7, e8]
  have e10 : sd_hmw P h k = sd_hmw P g k := sd_mx_congr (fun j hj => by rw [e j hj])
  have e11 : sd_hwr P h k = sd_hwr P g k := by unfold sd_hwr; rw [e9, e10]
  unfold sd_F
  rw [e5, e6, e7, e8, e11]
def sd_hs (P : sd_Pg) : Nat → sd_Tm
  | 0 => fun _ => (0, 0, 0, 0, 0)
  | k + 1 => fun j => if j = k then sd_F P (sd_hs P k) k else sd_hs P k j
def sd_tm (P : sd_Pg) : sd_Tm := fun k => sd_hs P (k + 1) k
theorem sd_hs_lt (P : sd_Pg) : ∀ n j, j < n → sd_hs P n j = sd_tm P j := by
  intro n
  induction n with
  | zero => intro j hj; omega
  | succ n ih =>
    intro j hj
    by_cases e : j = n
    · subst e; rfl
    · have e2 : sd_hs P (n + 1) j = sd_hs P n j := if_neg e
      rw [e2]; exact ih j (by omega)
theorem sd_tm_F (P : sd_Pg) (k : Nat) : sd_tm P k = sd_F P (sd_tm P) k := by
  have e : sd_tm P k = sd_F P (sd_hs P k) k := if_pos rfl
  rw [e]
  exact sd_F_congr (fun j hj => sd_hs_lt P k j hj)
def sd_is (P : sd_Pg) (k : Nat) : Nat := (sd_tm P k).1
def sd_un (P : sd_Pg) (k : Nat) : Nat := (sd_tm P k).2.1
def sd_rd (P : sd_Pg) (k : Nat) : Nat := (sd_tm P k).2.2.1
def sd_ac (P : sd_Pg) (k : Nat) : Nat := (sd_tm P k).2.2.2.1
def sd_wr (P : sd_Pg) (k : Nat) : Nat := (sd_tm P k).2.2.2.2
def sd_nx (P : sd_Pg) (k : Nat) : Nat := if k = 0 then 1 else (if sd_kd P (k - 1) = 5 then sd_wr P (k - 1) else sd_is P (k - 1)) + 1
def sd_co (P : sd_Pg) (k : Nat) : Nat := sd_nx P k + (if sd_th P k = true then 0 else sd_gf P)
def sd_hw (P : sd_Pg) (k : Nat) : Nat := sd_mx (fun j => if sd_tg P k < 8 ∧ sd_tg P j = sd_tg P k then sd_wr P j + 1 else 0) k
def sd_ub (P : sd_Pg) (k u : Nat) : Nat := sd_mx (fun j => if sd_kd P j = sd_kd P k ∧ sd_un P j = u then sd_wr P j + 1 else 0) k
def sd_rx (P : sd_Pg) (k : Nat) : Nat := sd_mx (fun j => if sd_tg P j < 8 ∧ (sd_tg P j = sd_fs P k ∨ sd_tg P j = sd_sc P k) then sd_wr P j + 1 else 0) k
def sd_ax (P : sd_Pg) (k : Nat) : Nat := sd_mx (fun j => if sd_kd P j = 4 then max (sd_ac P j + 1) (if sd_bk P j = sd_bk P k then sd_ac P j + sd_gt P else 0) else 0) k
def sd_mw (P : sd_Pg) (k : Nat) : Nat := sd_mx (fun j => if sd_tg P k < 8 ∧ (sd_fs P j = sd_tg P k ∨ sd_sc P j = sd_tg P k) then sd_rd P j + 1 else 0) k
def sd_ry (P : sd_Pg) (k : Nat) : Nat := (if sd_kd P k = 4 then sd_ac P k else sd_rd P k) + sd_gl P (sd_kd P k)
theorem sd_is_e (P : sd_Pg) (k : Nat) : sd_is P k = max (max (sd_co P k) (sd_hw P k)) (sd_ml (sd_ub P k) (sd_gm P (sd_kd P k))) := congrArg (fun t : Nat × Nat × Nat × Nat × Nat => t.1) (sd_tm_F P k)
theorem sd_un_e (P : sd_Pg) (k : Nat) : sd_un P k = sd_fu (sd_ub P k) (sd_is P k) (sd_gm P (sd_kd P k)) := by
  rw [sd_is_e]
  exact congrArg (fun t : Nat × Nat × Nat × Nat × Nat => t.2.1) (sd_tm_F P k)
theorem sd_rd_e (P : sd_Pg) (k : Nat) : sd_rd P k = max (sd_is P k + 1) (sd_rx P k) := by
  rw [sd_is_e]
  exact congrArg (fun t : Nat × Nat × Nat × Nat × Nat => t.2.2.1) (sd_tm_F P k)
theorem sd_ac_e (P : sd_Pg) (k : Nat) : sd_ac P k = max (sd_rd P k + 1) (sd_ax P k) := by
  rw [sd_rd_e, sd_is_e]
  exact congrArg (fun t : Nat × Nat × Nat × Nat × Nat => t.2.2.2.1) (sd_tm_F P k)
theorem sd_wr_e (P : sd_Pg) (k : Nat) : sd_wr P k = max (sd_ry P k) (sd_mw P k) := by
  have e : sd_wr P k = sd_hwr P (sd_tm P) k := congrArg (fun t : Nat × Nat × Nat × Nat × Nat => t.2.2.2.2) (sd_tm_F P k)
  have e3 : sd_hrd P (sd_tm P) k = sd_rd P k := (congrArg (fun t : Nat × Nat × Nat × Nat × Nat => t.2.2.1) (sd_tm_F P k)).symm
  have e4 : sd_hac P (sd_tm P) k = sd_ac P k := (congrArg (fun t : Nat × Nat × Nat × Nat × Nat => t.2.2.2.1) (sd_tm_F P k)).symm
  rw [e]
  unfold sd_hwr sd_hry sd_ry
  rw [e3, e4]
  rfl
end
section
/-! laws of the pure model -/
section
variable {P : sd_Pg} {D : Nat}
def sd_LV (P : sd_Pg) (k : Nat) : Prop := sd_num P k < sd_gs P ∧ sd_o P k ≠ 10
def sd_OK (P : sd_Pg) (D : Nat) : Prop := sd_VP P ∧ D ≤ 60 ∧ ∀ k, k < D → sd_LV P k
def sd_pos (P : sd_Pg) (k : Nat) : Nat := 3 * sd_kd P k + sd_un P k
theorem ls_vi (V : sd_VP P) {i : Nat} (hi : i < sd_gs P) : P.1 i = nI (sd_go P i) ∧ sd_go P i ≤ 10 ∧ (sd_go P i < 8 → sd_gd P i < 8 ∧ P.2.1 i = nI (sd_gd P i)) ∧ (0 < sd_go P i → sd_go P i < 9 → sd_ga P i < 8 ∧ P.2.2.1 i = nI (sd_ga P i)) ∧ (0 < sd_go P i → sd_go P i < 6 → sd_gb P i < 8 ∧ P.2.2.2.1 i = nI (sd_gb P i)) ∧ (sd_go P i = 8 ∨ sd_go P i = 9 → sd_gb P i < 24 ∧ P.2.2.2.1 i = nI (sd_gb P i)) := by
  obtain ⟨p, e, h, h1, h2, h3, h4⟩ := V.2.1 i hi
  have ep : sd_go P i = p := by show (P.1 i).toNatClampNeg = p; rw [e]; exact nI_clamp (by omega)
  rw [ep]
  have cl : ∀ {x : Int32} {q b : Nat}, q < b → b ≤ 24 → x = nI q → x.toNatClampNeg < b ∧ x = nI x.toNatClampNeg := by
    intro x q b hq hb ex
    have := nI_clamp (n := q) (by omega)
    rw [ex, this]; exact ⟨hq, rfl⟩
  refine ⟨e, h, ?_, ?_, ?_, ?_⟩
  · intro z; obtain ⟨q, hq, eq⟩ := h1 z; exact cl hq (by omega) eq
  · intro z z2; obtain ⟨q, hq, eq⟩ := h2 z z2; exact cl hq (by omega) eq
  · intro z z2; obtain ⟨q, hq, eq⟩ := h3 z z2; exact cl hq (by omega) eq
  · intro z; obtain ⟨q, hq, eq⟩ := h4 z; exact cl hq (by omega) eq
theorem ls_kn (o : Nat) : sd_kn o < 6 := by
  unfold sd_kn
  split
  · omega
  · split
    · omega
    · split
      · omega
      · split <;> omega
theorem ls_kd (P : sd_Pg) (k : Nat) : sd_kd P k < 6 := ls_kn _
theorem ls_kn4 (o : Nat) : sd_kn o = 4 ↔ o = 6 ∨ o = 7 := by
  unfold sd_kn
  split
  · omega
  · split
    · omega
    · split
      · omega
      · split <;> omega
theorem ls_kn5 (o : Nat) : sd_kn o = 5 ↔ 8 ≤ o := by
  unfold sd_kn
  split
  · omega
  · split
    · omega
    · split
      · omega
      · split <;> omega
theorem ls_kd4 {k : Nat} : sd_kd P k = 4 ↔ sd_o P k = 6 ∨ sd_o P k = 7 := ls_kn4 _
theorem ls_kd5 {k : Nat} : sd_kd P k = 5 ↔ 8 ≤ sd_o P k := ls_kn5 _
theorem ls_o {k : Nat} (V : sd_VP P) (L : sd_LV P k) : sd_o P k < 10 := by
  have h := (ls_vi V L.1).2.1
  have h2 := L.2
  unfold sd_o at h2 ⊢
  omega
theorem ls_tg1 {i : Nat} (V : sd_VP P) (hi : i < sd_gs P) : sd_tg1 P i ≤ 8 ∧ sd_fs1 P i ≤ 8 ∧ sd_sc1 P i ≤ 8 := by
  obtain ⟨_, h, h1, h2, h3, h4⟩ := ls_vi V hi
  unfold sd_tg1 sd_fs1 sd_sc1
  refine ⟨?_, ?_, ?_⟩
  · split
    · have := (h1 (by omega)).1; omega
    · omega
  · split
    · rename_i z; have := (h2 z.1 z.2).1; omega
    · omega
  · split
    · rename_i z; have := (h3 z.1 z.2).1; omega
    · split
      · have := (h1 (by omega)).1; omega
      · omega
theorem ls_tg {k : Nat} (V : sd_VP P) (L : sd_LV P k) : sd_tg P k ≤ 8 := (ls_tg1 V L.1).1
theorem ls_fs {k : Nat} (V : sd_VP P) (L : sd_LV P k) : sd_fs P k ≤ 8 := (ls_tg1 V L.1).2.1
theorem ls_sc {k : Nat} (V : sd_VP P) (L : sd_LV P k) : sd_sc P k ≤ 8 := (ls_tg1 V L.1).2.2
theorem ls_tg8 {k : Nat} (h : 7 ≤ sd_o P k) : sd_tg P k = 8 := if_neg (by unfold sd_o at h; omega)
theorem ls_if {p : Prop} {hp : Decidable p} {c x : Nat} : c < (if p then x + 1 else 0) ↔ p ∧ c ≤ x := by
  by_cases h : p
  · rw [if_pos h]; exact ⟨fun z => ⟨h, by omega⟩, fun z => by omega⟩
  · rw [if_neg h]; exact ⟨fun z => by omega, fun z => absurd z.1 h⟩
theorem ls_hw {k c : Nat} : c < sd_hw P k ↔ ∃ j, j < k ∧ (sd_tg P k < 8 ∧ sd_tg P j = sd_tg P k) ∧ c ≤ sd_wr P j := by
  unfold sd_hw; rw [sd_mx_lt]
  exact exists_congr fun j => and_congr Iff.rfl ls_if
theorem ls_ub {k u c : Nat} : c < sd_ub P k u ↔ ∃ j, j < k ∧ (sd_kd P j = sd_kd P k ∧ sd_un P j = u) ∧ c ≤ sd_wr P j := by
  unfold sd_ub; rw [sd_mx_lt]
  exact exists_congr fun j => and_congr Iff.rfl ls_if
theorem ls_rx {k c : Nat} : c < sd_rx P k ↔ ∃ j, j < k ∧ (sd_tg P j < 8 ∧ (sd_tg P j = sd_fs P k ∨ sd_tg P j = sd_sc P k)) ∧ c ≤ sd_wr P j := by
  unfold sd_rx; rw [sd_mx_lt]
  exact exists_congr fun j => and_congr Iff.rfl ls_if
theorem ls_mw {k c : Nat} : c < sd_mw P k ↔ ∃ j, j < k ∧ (sd_tg P k < 8 ∧ (sd_fs P j = sd_tg P k ∨ sd_sc P j = sd_tg P k)) ∧ c ≤ sd_rd P j := by
  unfold sd_mw; rw [sd_mx_lt]
  exact exists_congr fun j => and_congr Iff.rfl ls_if
theorem ls_ax {k c : Nat} : c < sd_ax P k ↔ ∃ j, j < k ∧ sd_kd P j = 4 ∧ (c ≤ sd_ac P j ∨ (sd_bk P j = sd_bk P k ∧ c < sd_ac P j + sd_gt P)) := by
  unfold sd_ax; rw [sd_mx_lt]
  refine exists_congr fun j => and_congr Iff.rfl ?_
  by_cases h : sd_kd P j = 4
  · rw [if_pos h]
    by_cases h2 : sd_bk P j = sd_bk P k
    · rw [if_pos h2]; omega
    · rw [if_neg h2]; omega
  · rw [if_neg h]; omega
theorem ls_rd {k : Nat} : sd_is P k < sd_rd P k := by rw [sd_rd_e]; omega
theorem ls_rdx {k : Nat} : sd_rx P k ≤ sd_rd P k := by rw [sd_rd_e]; omega
theorem ls_acr {k : Nat} : sd_rd P k < sd_ac P k := by rw [sd_ac_e]; omega
theorem ls_acx {k : Nat} : sd_ax P k ≤ sd_ac P k := by rw [sd_ac_e]; omega
theorem ls_gl {k : Nat} (V : sd_VP P) : 1 ≤ sd_gl P (sd_kd P k) ∧ sd_gl P (sd_kd P k) ≤ 8 := (V.2.2.1 _ (ls_kd P k)).2.2
theorem ls_gm {k : Nat} (V : sd_VP P) : 1 ≤ sd_gm P (sd_kd P k) ∧ sd_gm P (sd_kd P k) ≤ 3 := ⟨(V.2.2.1 _ (ls_kd P k)).1, (V.2.2.1 _ (ls_kd P k)).2.1⟩
theorem ls_ry4 {k : Nat} (h : sd_kd P k = 4) : sd_ry P k = sd_ac P k + sd_gl P 4 := by unfold sd_ry; rw [if_pos h, h]
theorem ls_ryn {k : Nat} (h : ¬ sd_kd P k = 4) : sd_ry P k = sd_rd P k + sd_gl P (sd_kd P k) := by unfold sd_ry; rw [if_neg h]
theorem ls_ry {k : Nat} (V : sd_VP P) : sd_rd P k < sd_ry P k := by
  have h := ls_gl (k := k) V
  by_cases z : sd_kd P k = 4
  · have := ls_acr (P := P) (k := k)
    unfold sd_ry; rw [if_pos z]; omega
  · rw [ls_ryn z]; omega
theorem ls_rya {k : Nat} (V : sd_VP P) (z : sd_kd P k = 4) : sd_ac P k < sd_ry P k := by
  have h := ls_gl (k := k) V
  unfold sd_ry; rw [if_pos z]; omega
theorem ls_wry {k : Nat} : sd_ry P k ≤ sd_wr P k := by rw [sd_wr_e]; omega
theorem ls_wmw {k : Nat} : sd_mw P k ≤ sd_wr P k := by rw [sd_wr_e]; omega
theorem ls_rw {k : Nat} (V : sd_VP P) : sd_rd P k < sd_wr P k := by
  have := ls_ry (k := k) V
  have := ls_wry (P := P) (k := k)
  omega
theorem ls_iw {k : Nat} (V : sd_VP P) : sd_is P k < sd_wr P k := by
  have := ls_rw (k := k) V
  have := ls_rd (P := P) (k := k)
  omega
theorem ls_aw {k : Nat} (V : sd_VP P) (z : sd_kd P k = 4) : sd_ac P k < sd_wr P k := by
  have := ls_rya V z
  have := ls_wry (P := P) (k := k)
  omega
theorem ls_co {k : Nat} : sd_co P k ≤ sd_is P k := by rw [sd_is_e]; omega
theorem ls_hwi {k : Nat} : sd_hw P k ≤ sd_is P k := by rw [sd_is_e]; omega
theorem ls_nxco {k : Nat} : sd_nx P k ≤ sd_co P k := by unfold sd_co; omega
theorem ls_nx0 : sd_nx P 0 = 1 := rfl
theorem ls_nxS {k : Nat} : sd_nx P (k + 1) = (if sd_kd P k = 5 then sd_wr P k else sd_is P k) + 1 := by
  unfold sd_nx; rw [if_neg (by omega), Nat.add_sub_cancel]
theorem ls_nx5 {k : Nat} (h : sd_kd P k = 5) : sd_nx P (k + 1) = sd_wr P k + 1 := by rw [ls_nxS, if_pos h]
theorem ls_nxn {k : Nat} (h : ¬ sd_kd P k = 5) : sd_nx P (k + 1) = sd_is P k + 1 := by rw [ls_nxS, if_neg h]
theorem ls_nxi {k : Nat} (V : sd_VP P) : sd_is P k + 1 ≤ sd_nx P (k + 1) := by
  have := ls_iw (k := k) V
  rw [ls_nxS]; split <;> omega
theorem ls_isS {k : Nat} (V : sd_VP P) : sd_is P k < sd_is P (k + 1) := by
  have := ls_nxi (k := k) V
  have := ls_nxco (P := P) (k := k + 1)
  have := ls_co (P := P) (k := k + 1)
  omega
theorem ls_is {j k : Nat} (V : sd_VP P) (h : j < k) : sd_is P j < sd_is P k := by
  induction k with
  | zero => omega
  | succ k ih =>
    have := ls_isS (k := k) V
    by_cases e : j = k
    · rw [e]; exact this
    · have := ih (by omega); omega
theorem ls_isle {j k : Nat} (V : sd_VP P) (h : j ≤ k) : sd_is P j ≤ sd_is P k := by
  by_cases e : j = k
  · rw [e]; exact Nat.le_refl _
  · exact Nat.le_of_lt (ls_is V (by omega))
theorem ls_is1 {k : Nat} (V : sd_VP P) : 1 ≤ sd_is P k := by
  cases k with
  | zero =>
    have := ls_nxco (P := P) (k := 0)
    have := ls_co (P := P) (k := 0)
    have := ls_nx0 (P := P)
    omega
  | succ k => have := ls_isS (k := k) V; omega
theorem ls_ml {k : Nat} : sd_ml (sd_ub P k) (sd_gm P (sd_kd P k)) ≤ sd_is P k := by rw [sd_is_e]; omega
theorem ls_un {k : Nat} (V : sd_VP P) : sd_un P k < sd_gm P (sd_kd P k) := by
  obtain ⟨u, hu, e⟩ := sd_ml_ex (f := sd_ub P k) (n := sd_gm P (sd_kd P k)) (ls_gm V).1
  have := ls_ml (P := P) (k := k)
  rw [sd_un_e]
  exact sd_fu_ex hu (by omega)
theorem ls_un3 {k : Nat} (V : sd_VP P) : sd_un P k < 3 := by
  have := ls_un (k := k) V
  have := (ls_gm (k := k) V).2
  omega
theorem ls_unf {k : Nat} (V : sd_VP P) : sd_ub P k (sd_un P k) ≤ sd_is P k := by
  have h := ls_un (k := k) V
  rw [sd_un_e] at h
  have := sd_fu_at h
  rw [← sd_un_e] at this
  exact this
theorem ls_unl {k u : Nat} (h : u < sd_un P k) : sd_is P k < sd_ub P k u := by
  rw [sd_un_e] at h
  exact sd_fu_lt h
theorem ls_pos {k : Nat} (V : sd_VP P) : sd_pos P k < 18 := by
  have := ls_un3 (k := k) V
  have := ls_kd P k
  unfold sd_pos; omega
theorem ls_pos_eq {j k : Nat} (V : sd_VP P) (h : sd_pos P j = sd_pos P k) : sd_kd P j = sd_kd P k ∧ sd_un P j = sd_un P k := by
  have := ls_un3 (k := k) V
  have := ls_un3 (k := j) V
  unfold sd_pos at h; omega
/-- the wait for the destination -/
theorem ls_waw {j k : Nat} (h : j < k) (e : sd_tg P j = sd_tg P k) (h8 : sd_tg P k < 8) : sd_wr P j < sd_is P k := by
  have h1 := ls_hwi (P := P) (k := k)
  rcases Nat.lt_or_ge (sd_wr P j) (sd_is P k) with z | z
  · exact z
  · have := ls_hw.mpr ⟨j, h, ⟨h8, e⟩, z⟩; omega
theorem ls_pw {j k : Nat} (V : sd_VP P) (h : j < k) (e : sd_pos P j = sd_pos P k) : sd_wr P j < sd_is P k := by
  have h1 := ls_unf (k := k) V
  rcases Nat.lt_or_ge (sd_wr P j) (sd_is P k) with z | z
  · exact z
  · have := ls_ub.mpr ⟨j, h, ls_pos_eq V e, z⟩; omega
theorem ls_raw {j k : Nat} (h : j < k) (h8 : sd_tg P j < 8) (e : sd_tg P j = sd_fs P k ∨ sd_tg P j = sd_sc P k) : sd_wr P j < sd_rd P k := by
  have h1 := ls_rdx (P := P) (k := k)
  rcases Nat.lt_or_ge (sd_wr P j) (sd_rd P k) with z | z
  · exact z
  · have := ls_rx.mpr ⟨j, h, ⟨h8, e⟩, z⟩; omega
theorem ls_rawx {c k : Nat} (h1 : sd_is P k < c) (h2 : c < sd_rd P k) : ∃ j, j < k ∧ (sd_tg P j < 8 ∧ (sd_tg P j = sd_fs P k ∨ sd_tg P j = sd_sc P k)) ∧ c ≤ sd_wr P j := by
  rw [sd_rd_e] at h2
  exact ls_rx.mp (by omega)
theorem ls_war {j k : Nat} (h : j < k) (h8 : sd_tg P k < 8) (e : sd_fs P j = sd_tg P k ∨ sd_sc P j = sd_tg P k) : sd_rd P j < sd_wr P k := by
  have h1 := ls_wmw (P := P) (k := k)
  rcases Nat.lt_or_ge (sd_rd P j) (sd_wr P k) with z | z
  · exact z
  · have := ls_mw.mpr ⟨j, h, ⟨h8, e⟩, z⟩; omega
theorem ls_warx {c k : Nat} (h1 : sd_ry P k ≤ c) (h2 : c < sd_wr P k) : ∃ j, j < k ∧ (sd_tg P k < 8 ∧ (sd_fs P j = sd_tg P k ∨ sd_sc P j = sd_tg P k)) ∧ c ≤ sd_rd P j := by
  rw [sd_wr_e] at h2
  exact ls_mw.mp (by omega)
theorem ls_ord {j k : Nat} (h : j < k) (h4 : sd_kd P j = 4) : sd_ac P j < sd_ac P k := by
  have h1 := ls_acx (P := P) (k := k)
  rcases Nat.lt_or_ge (sd_ac P j) (sd_ac P k) with z | z
  · exact z
  · have := ls_ax.mpr ⟨j, h, h4, Or.inl z⟩; omega
theorem ls_bank {j k : Nat} (h : j < k) (h4 : sd_kd P j = 4) (hb : sd_bk P j = sd_bk P k) : sd_ac P j + sd_gt P ≤ sd_ac P k := by
  have h1 := ls_acx (P := P) (k := k)
  rcases Nat.lt_or_ge (sd_ac P k) (sd_ac P j + sd_gt P) with z | z
  · have := ls_ax.mpr ⟨j, h, h4, Or.inr ⟨hb, z⟩⟩; omega
  · exact z
theorem ls_accx {c k : Nat} (h1 : sd_rd P k < c) (h2 : c < sd_ac P k) : ∃ j, j < k ∧ sd_kd P j = 4 ∧ (c ≤ sd_ac P j ∨ (sd_bk P j = sd_bk P k ∧ c < sd_ac P j + sd_gt P)) := by
  rw [sd_ac_e] at h2
  exact ls_ax.mp (by omega)
/-- all cycles are small -/
theorem ls_bnd (V : sd_VP P) : ∀ n k, k < n → sd_wr P k ≤ 24 * (k + 1) := by
  intro n
  induction n with
  | zero => intro k h; omega
  | succ n ih =>
    intro k hk
    by_cases e : k < n
    · exact ih k e
    · have hb : ∀ j, j < k → sd_wr P j ≤ 24 * k := fun j hj => by have := ih j (by omega); omega
      have hnx : sd_nx P k ≤ 24 * k + 1 := by
        cases k with
        | zero => rw [ls_nx0]; omega
        | succ k =>
          have h1 := hb k (by omega)
          have h2 := ls_iw (k := k) V
          rw [ls_nxS]; split <;> omega
      have hco : sd_co P k ≤ 24 * k + 7 := by
        have := V.2.2.2.2.1
        unfold sd_co; split <;> omega
      have hhw : sd_hw P k ≤ 24 * k + 1 := by
        rcases Nat.lt_or_ge (24 * k + 1) (sd_hw P k) with z | z
        · obtain ⟨j, hj, _, h⟩ := ls_hw.mp z
          have := hb j hj; omega
        · exact z
      have hub : ∀ u, sd_ub P k u ≤ 24 * k + 1 := by
        intro u
        rcases Nat.lt_or_ge (24 * k + 1) (sd_ub P k u) with z | z
        · obtain ⟨j, hj, _, h⟩ := ls_ub.mp z
          have := hb j hj; omega
        · exact z
      have his : sd_is P k ≤ 24 * k + 7 := by
        obtain ⟨u, hu, e⟩ := sd_ml_ex (f := sd_ub P k) (n := sd_gm P (sd_kd P k)) (ls_gm V).1
        have := hub u
        rw [sd_is_e]; omega
      have hrd : sd_rd P k ≤ 24 * k + 8 := by
        have : sd_rx P k ≤ 24 * k + 1 := by
          rcases Nat.lt_or_ge (24 * k + 1) (sd_rx P k) with z | z
          · obtain ⟨j, hj, _, h⟩ := ls_rx.mp z
            have := hb j hj; omega
          · exact z
        rw [sd_rd_e]; omega
      have hac : sd_ac P k ≤ 24 * k + 9 := by
        have : sd_ax P k ≤ 24 * k + 9 := by
          rcases Nat.lt_or_ge (24 * k + 9) (sd_ax P k) with z | z
          · obtain ⟨j, hj, h4, h⟩ := ls_ax.mp z
            have h1 := hb j hj
            have h2 := ls_aw V h4
            have h3 := V.2.2.2.2.2.2
            omega
          · exact z
        rw [sd_ac_e]; omega
      have hry : sd_ry P k ≤ 24 * k + 17 := by
        have := ls_gl (k := k) V
        unfold sd_ry; split <;> omega
      have hmw : sd_mw P k ≤ 24 * k + 1 := by
        rcases Nat.lt_or_ge (24 * k + 1) (sd_mw P k) with z | z
        · obtain ⟨j, hj, _, h⟩ := ls_mw.mp z
          have h1 := hb j hj
          have h2 := ls_rw (k := j) V
          omega
        · exact z
      rw [sd_wr_e]; omega
theorem ls_w {k : Nat} (H : sd_OK P D) (hk : k < D) : sd_wr P k ≤ 1440 := by
  have h1 := ls_bnd H.1 (k + 1) k (by omega)
  have h2 := H.2.1
  omega
end
end
section
/-! the component's state at a clock, said by the history -/
section
variable {P : sd_Pg} {D c m T : Nat}
def xx_wt (P : sd_Pg) (k : Nat) : Nat := 18 * sd_wr P k + sd_pos P k
def xx_rt (P : sd_Pg) (k : Nat) : Nat := 18 * sd_rd P k + sd_pos P k
def xx_st (P : sd_Pg) (k : Nat) : Nat := 18 * sd_ry P k + sd_pos P k
def xx_at (P : sd_Pg) (k : Nat) : Nat := 3 * sd_ac P k + sd_un P k
/-- m have been issued, all of them up to cycle c, the others behind it -/
def xx_B (P : sd_Pg) (D c m : Nat) : Prop := sd_OK P D ∧ m ≤ D ∧ (∀ k, k < m → sd_is P k ≤ c) ∧ (∀ k, m ≤ k → k < D → c < sd_is P k)
/-- issued, and not yet gone at clock T -/
def xx_L (P : sd_Pg) (m T k : Nat) : Prop := k < m ∧ T ≤ xx_wt P k
theorem xx_uq {j k : Nat} (H : xx_B P D c m) (hT : 18 * c ≤ T) (hj : xx_L P m T j) (hk : xx_L P m T k) (e : sd_pos P j = sd_pos P k) : j = k := by
  have V := H.1.1
  have pj := ls_pos (k := j) V
  have pk := ls_pos (k := k) V
  have h1 := H.2.2.1 j hj.1
  have h2 := H.2.2.1 k hk.1
  have h3 := hj.2
  have h4 := hk.2
  unfold xx_wt at h3 h4
  rcases Nat.lt_trichotomy j k with z | z | z
  · have := ls_pw V z e; omega
  · exact z
  · have := ls_pw V z e.symm; omega
theorem xx_Lm {T' k : Nat} (h : T ≤ T') (l : xx_L P m T' k) : xx_L P m T k := ⟨l.1, Nat.le_trans h l.2⟩
/-- memory instructions ahead of k -/
def xx_mc (P : sd_Pg) (k : Nat) : Nat := sd_sm (fun j => if sd_kd P j = 4 then 1 else 0) k
def xx_ca (P : sd_Pg) (D A : Nat) : Nat := sd_sm (fun j => if sd_kd P j = 4 ∧ xx_at P j < A then 1 else 0) D
def xx_nw (P : sd_Pg) (m T : Nat) : Nat := sd_sm (fun j => if T ≤ xx_wt P j then 1 else 0) m
/-- the program and the machine in the component -/
def xx_ST (P : sd_Pg) (op into left right many lat : Nat → Int32) : Prop := (∀ i, i < sd_gs P → op i = nI (sd_go P i) ∧ (sd_go P i < 8 → into i = nI (sd_gd P i)) ∧ left i = sd_gA P i ∧ right i = sd_gB P i) ∧ ∀ k, k < 6 → many k = nI (sd_gm P k) ∧ lat k = nI (sd_gl P k)
def xx_Wk (P : sd_Pg) (m T : Nat) (w : Nat → Int32) : Prop := ∀ u, u < 18 → (w u = -1 ∧ ∀ k, xx_L P m T k → sd_pos P k ≠ u) ∨ ∃ k, xx_L P m T k ∧ sd_pos P k = u ∧ w u = nI k
def xx_Un (P : sd_Pg) (m T : Nat) (place first second turn : Nat → Int32) : Prop := ∀ k, xx_L P m T k → place (sd_pos P k) = nI (sd_num P k) ∧ first (sd_pos P k) = sd_cn 8 (sd_fs P k) ∧ second (sd_pos P k) = sd_cn 8 (sd_sc P k) ∧ (sd_kd P k = 4 → turn (sd_pos P k) = nI (xx_mc P k))
/-- v is the unit that will write r, of the first n -/
def xx_AW (P : sd_Pg) (T n r : Nat) (v : Int32) : Prop := (∃ j, j < n ∧ sd_tg P j = r ∧ r < 8 ∧ T ≤ xx_wt P j ∧ v = nI (sd_pos P j)) ∨ (v = -1 ∧ ∀ j, j < n → sd_tg P j = r → r < 8 → xx_wt P j < T)
def xx_Aw (P : sd_Pg) (m T : Nat) (aF aS : Nat → Int32) : Prop := ∀ k, xx_L P m T k → xx_AW P T k (sd_fs P k) (aF (sd_pos P k)) ∧ xx_AW P T k (sd_sc P k) (aS (sd_pos P k))
def xx_Wr (P : sd_Pg) (m T : Nat) (wr : Nat → Int32) : Prop := ∀ r, r < 8 → xx_AW P T m r (wr r)
def xx_HR (P : sd_Pg) (m T R : Nat) (hr : Nat → Int32) : Prop := ∀ k, xx_L P m T k → hr (sd_pos P k) = if xx_rt P k < R then 1 else 0
def xx_AC (P : sd_Pg) (m T A : Nat) (acc : Nat → Int32) : Prop := ∀ k, xx_L P m T k → acc (sd_pos P k) = if sd_kd P k = 4 ∧ A ≤ xx_at P k then 0 else 1
def xx_XX (P : sd_Pg) (m T R : Nat) (x : Nat → Int32) : Prop := ∀ k, xx_L P m T k → xx_rt P k < R → x (sd_pos P k) = sd_xs P k
def xx_YY (P : sd_Pg) (m T R A : Nat) (y : Nat → Int32) : Prop := ∀ k, xx_L P m T k → xx_rt P k < R → y (sd_pos P k) = if xx_at P k < A then sd_yv P k else sd_ys P k
def xx_DU (P : sd_Pg) (m T R A : Nat) (due : Nat → Int32) : Prop := ∀ k, xx_L P m T k → xx_rt P k < R → (sd_kd P k = 4 → xx_at P k < A) → due (sd_pos P k) = nI (sd_ry P k)
def xx_TM (P : sd_Pg) (m T R W : Nat) (tm : Nat → Int32) : Prop := ∀ k, k < m → tm (4 * k) = nI (sd_is P k) ∧ (xx_rt P k < R → tm (4 * k + 1) = nI (sd_rd P k)) ∧ (xx_st P k < W → tm (4 * k + 2) = nI (sd_ry P k)) ∧ (xx_wt P k < T → tm (4 * k + 3) = nI (sd_wr P k))
def xx_RG (P : sd_Pg) (D T : Nat) (reg : Nat → Int32) : Prop := ∀ k r, k ≤ D → (∀ j, j < D → sd_tg P j = r → r < 8 → (j < k ↔ xx_wt P j < T)) → reg r = sd_RG P k r
def xx_WD (P : sd_Pg) (D A : Nat) (word : Nat → Int32) : Prop := ∀ k, k ≤ D → (∀ j, j < D → sd_kd P j = 4 → (j < k ↔ xx_at P j < A)) → word = sd_WD P k
def xx_BF (P : sd_Pg) (D A : Nat) (bf : Nat → Int32) : Prop := ∀ b, b < 4 → ∃ q, bf b = nI q ∧ q ≤ 2000 ∧ (∀ j, j < D → sd_kd P j = 4 → xx_at P j < A → sd_bk P j = b → sd_ac P j + sd_gt P ≤ q) ∧ (q = 0 ∨ ∃ j, j < D ∧ sd_kd P j = 4 ∧ xx_at P j < A ∧ sd_bk P j = b ∧ q = sd_ac P j + sd_gt P)
def xx_WH (P : sd_Pg) (m : Nat) (which kinds unit : Nat → Int32) : Prop := ∀ k, k < m → which k = nI (sd_num P k) ∧ kinds k = nI (sd_kd P k) ∧ unit k = nI (sd_un P k)
def xx_CY (P : sd_Pg) (m T : Nat) (cy : Int32) : Prop := ∃ q, cy = nI q ∧ q ≤ 2000 ∧ (∀ k, k < m → xx_wt P k < T → sd_wr P k ≤ q) ∧ (q = 0 ∨ ∃ k, k < m ∧ xx_wt P k < T ∧ sd_wr P k = q)
def xx_s4 (P : sd_Pg) (D R : Nat) : Nat := sd_sm (fun k => min (sd_rd P k) ((R + 17 - sd_pos P k) / 18) - (sd_is P k + 1)) D
def xx_s5 (P : sd_Pg) (D A : Nat) : Nat := sd_sm (fun k => if sd_kd P k = 4 then min (sd_ac P k) ((A + 2 - sd_un P k) / 3) - (sd_rd P k + 1) else 0) D
def xx_s6 (P : sd_Pg) (D W : Nat) : Nat := sd_sm (fun k => min (sd_wr P k) ((W + 17 - sd_pos P k) / 18) - sd_ry P k) D
def xx_LO (l : Nat → Int32) (s0 s1 s2 s3 s4 s5 s6 : Nat) : Prop := l 0 = nI s0 ∧ l 1 = nI s1 ∧ l 2 = nI s2 ∧ l 3 = nI s3 ∧ l 4 = nI s4 ∧ l 5 = nI s5 ∧ l 6 = nI s6
theorem xx_LO0 {l : Nat → Int32} {s0 s1 s2 s3 s4 s5 s6 t : Nat} {v : Int32} (h : xx_LO l s0 s1 s2 s3 s4 s5 s6) (e : v = nI t) : xx_LO (upd l 0 v) t s1 s2 s3 s4 s5 s6 := ⟨pk_us.trans e, (pk_un (by decide)).trans h.2.1, (pk_un (by decide)).trans h.2.2.1, (pk_un (by decide)).trans h.2.2.2.1, (pk_un (by decide)).trans h.2.2.2.2.1, (pk_un (by decide)).trans h.2.2.2.2.2.1, (pk_un (by decide)).trans h.2.2.2.2.2.2⟩
theorem xx_LO1 {l : Nat → Int32} {s0 s1 s2 s3 s4 s5 s6 t : Nat} {v : Int32} (h : xx_LO l s0 s1 s2 s3 s4 s5 s6) (e : v = nI t) : xx_LO (upd l 1 v) s0 t s2 s3 s4 s5 s6 := ⟨(pk_un (by decide)).trans h.1, pk_us.trans e, (pk_un (by decide)).trans h.2.2.1, (pk_un (by decide)).trans h.2.2.2.1, (pk_un (by decide)).trans h.2.2.2.2.1, (pk_un (by decide)).trans h.2.2.2.2.2.1, (pk_un (by decide)).trans h.2.2.2.2.2.2⟩
theorem xx_LO2 {l : Nat → Int32} {s0 s1 s2 s3 s4 s5 s6 t : Nat} {v : Int32} (h : xx_LO l s0 s1 s2 s3 s4 s5 s6) (e : v = nI t) : xx_LO (upd l 2 v) s0 s1 t s3 s4 s5 s6 := ⟨(pk_un (by decide)).trans h.1, (pk_un (by decide)).trans h.2.1, pk_us.trans e, (pk_un (by decide)).trans h.2.2.2.1, (pk_un (by decide)).trans h.2.2.2.2.1, (pk_un (by decide)).trans h.2.2.2.2.2.1, (pk_un (by decide)).trans h.2.2.2.2.2.2⟩
theorem xx_LO3 {l : Nat → Int32} {s0 s1 s2 s3 s4 s5 s6 t : Nat} {v : Int32} (h : xx_LO l s0 s1 s2 s3 s4 s5 s6) (e : v = nI t) : xx_LO (upd l 3 v) s0 s1 s2 t s4 s5 s6 := ⟨(pk_un (by decide)).trans h.1, (pk_un (by decide)).trans h.2.1, (pk_un (by decide)).trans h.2.2.1, pk_us.trans e, (pk_un (by decide)).trans h.2.2.2.2.1, (pk_un (by decide)).trans h.2.2.2.2.2.1, (pk_un (by decide)).trans h.2.2.2.2.2.2⟩
theorem xx_LO4 {l : Nat → Int32} {s0 s1 s2 s3 s4 s5 s6 t : Nat} {v : Int32} (h : xx_LO l s0 s1 s2 s3 s4 s5 s6) (e : v = nI t) : xx_LO (upd l 4 v) s0 s1 s2 s3 t s5 s6 := ⟨(pk_un (by decide)).trans h.1, (pk_un (by decide)).trans h.2.1, (pk_un (by decide)).trans h.2.2.1, (pk_un (by decide)).trans h.2.2.2.1, pk_us.trans e, (pk_un (by decide)).trans h.2.2.2.2.2.1, (pk_un (by decide)).trans h.2.2.2.2.2.2⟩
theorem xx_LO5 {l : Nat → Int32} {s0 s1 s2 s3 s4 s5 s6 t : Nat} {v : Int32} (h : xx_LO l s0 s1 s2 s3 s4 s5 s6) (e : v = nI t) : xx_LO (upd l 5 v) s0 s1 s2 s3 s4 t s6 := ⟨(pk_un (by decide)).trans h.1, (pk_un (by decide)).trans h.2.1, (pk_un (by decide)).trans h.2.2.1, (pk_un (by decide)).trans h.2.2.2.1, (pk_un (by decide)).trans h.2.2.2.2.1, pk_us.trans e, (pk_un (by decide)).trans h.2.2.2.2.2.2⟩
theorem xx_LO6 {l : Nat → Int32} {s0 s1 s2 s3 s4 s5 s6 t : Nat} {v : Int32} (h : xx_LO l s0 s1 s2 s3 s4 s5 s6) (e : v = nI t) : xx_LO (upd l 6 v) s0 s1 s2 s3 s4 s5 t := ⟨(pk_un (by decide)).trans h.1, (pk_un (by decide)).trans h.2.1, (pk_un (by decide)).trans h.2.2.1, (pk_un (by decide)).trans h.2.2.2.1, (pk_un (by decide)).trans h.2.2.2.2.1, (pk_un (by decide)).trans h.2.2.2.2.2.1, pk_us.trans e⟩
theorem xx_yvs {k : Nat} (h : sd_o P k ≠ 6) : sd_yv P k = sd_ys P k := if_neg h
theorem xx_yvn {k : Nat} (h : sd_kd P k ≠ 4) : sd_yv P k = sd_ys P k := if_neg (fun e => h (ls_kd4.mpr (Or.inl e)))
/-! reading -/
def xr_I (P : sd_Pg) (D m T R A W s0 s1 s2 s3 s5 s6 : Nat) (x y hr due tm lost : Nat → Int32) : Prop := xx_HR P m T R hr ∧ xx_XX P m T R x ∧ xx_YY P m T R A y ∧ xx_DU P m T R A due ∧ xx_TM P m T R W tm ∧ xx_LO lost s0 s1 s2 s3 (xx_s4 P D R) s5 s6
/-- the clock goes on at unit i, and nothing changes but perhaps the count -/
theorem xr_clk {i A W s0 s1 s2 s3 s5 s6 : Nat} {x y hr due tm lost lost' : Nat → Int32} (H : xx_B P D c m) (hi : i < 18)
    (no : ∀ k, xx_L P m (18 * c) k → sd_pos P k = i → sd_rd P k ≠ c)
    (I : xr_I P D m (18 * c) (18 * c + i) A W s0 s1 s2 s3 s5 s6 x y hr due tm lost)
    (hl : xx_LO lost' s0 s1 s2 s3 (xx_s4 P D (18 * c + (i + 1))) s5 s6) :
    xr_I P D m (18 * c) (18 * c + (i + 1)) A W s0 s1 s2 s3 s5 s6 x y hr due tm lost' := by
  have V := H.1.1
  have key : ∀ k, k < m → (xx_rt P k < 18 * c + (i + 1) ↔ xx_rt P k < 18 * c + i) := by
    intro k hk
    have hp := ls_pos (k := k) V
    have hw := ls_rw (k := k) V
    constructor
    · intro h
      rcases Nat.lt_or_ge (xx_rt P k) (18 * c + i) with z | z
      · exact z
      · have hl : xx_L P m (18 * c) k := by
          refine ⟨hk, ?_⟩
          unfold xx_rt at h z; unfold xx_wt; omega
        have := no k hl
        unfold xx_rt at h z
        omega
    · intro h; omega
  obtain ⟨h1, h2, h3, h4, h5, h6⟩ := I
  refine ⟨?_, ?_, ?_, ?_, ?_, hl⟩
  · intro k hk
    rw [h1 k hk]
    by_cases z : xx_rt P k < 18 * c + i
    · rw [if_pos z, if_pos ((key k hk.1).mpr z)]
    · rw [if_neg z, if_neg (fun z2 => z ((key k hk.1).mp z2))]
  · exact fun k hk z => h2 k hk ((key k hk.1).mp z)
  · exact fun k hk z => h3 k hk ((key k hk.1).mp z)
  · exact fun k hk z => h4 k hk ((key k hk.1).mp z)
  · exact fun k hk => ⟨(h5 k hk).1, fun z => (h5 k hk).2.1 ((key k hk).mp z), (h5 k hk).2.2⟩
theorem xr_s4 {i : Nat} (H : xx_B P D c m) (hi : i < 18) (no : ∀ k, xx_L P m (18 * c) k → sd_pos P k = i → ¬ (sd_is P k < c ∧ c < sd_rd P k)) : xx_s4 P D (18 * c + (i + 1)) = xx_s4 P D (18 * c + i) := by
  have V := H.1.1
  refine sd_sm_congr ?_
  intro k hk
  have hp := ls_pos (k := k) V
  have hw := ls_rw (k := k) V
  skip
  by_cases e : sd_pos P k = i
  · by_cases hm : k < m
    · by_cases z : sd_is P k < c ∧ c < sd_rd P k
      · exact absurd z (no k ⟨hm, by unfold xx_wt; omega⟩ e)
      · omega
    · have := H.2.2.2 k (by omega) hk
      omega
  · omega
theorem xr_s4b {i k : Nat} (H : xx_B P D c m) (hi : i < 18) (hk : xx_L P m (18 * c) k) (e : sd_pos P k = i) (h1 : sd_is P k < c) (h2 : c < sd_rd P k) : xx_s4 P D (18 * c + (i + 1)) = xx_s4 P D (18 * c + i) + 1 := by
  have V := H.1.1
  refine sd_sm_bump (k := k) (Nat.lt_of_lt_of_le hk.1 H.2.1) ?_ ?_
  · omega
  · intro j hj hne
    have hp := ls_pos (k := j) V
    have hw := ls_rw (k := j) V
    skip
    by_cases e2 : sd_pos P j = i
    · by_cases hm : j < m
      · by_cases z : sd_is P j < c ∧ c < sd_rd P j
        · exact absurd (xx_uq H (Nat.le_refl _) ⟨hm, by unfold xx_wt; omega⟩ hk (e2.trans e.symm)) hne
        · omega
      · have := H.2.2.2 j (by omega) hj
        omega
    · omega
/-- unit i reads -/
theorem xr_do {i k W s0 s1 s2 s3 s5 s6 : Nat} {x y hr due tm lost : Nat → Int32} {dv : Int32} (H : xx_B P D c m) (hi : i < 18)
    (hk : xx_L P m (18 * c) k) (e : sd_pos P k = i) (hc : sd_rd P k = c) (hd : ¬ sd_kd P k = 4 → dv = nI (sd_ry P k))
    (I : xr_I P D m (18 * c) (18 * c + i) (3 * c) W s0 s1 s2 s3 s5 s6 x y hr due tm lost) :
    xr_I P D m (18 * c) (18 * c + (i + 1)) (3 * c) W s0 s1 s2 s3 s5 s6 (upd x i (sd_xs P k)) (upd y i (sd_ys P k)) (upd hr i 1) (upd due i dv) (upd tm (4 * k + 1) (nI c)) lost := by
  have V := H.1.1
  have key : ∀ j, j < m → j ≠ k → (xx_rt P j < 18 * c + (i + 1) → xx_rt P j < 18 * c + i) := by
    intro j hj hne h
    have hp := ls_pos (k := j) V
    have hw := ls_rw (k := j) V
    rcases Nat.lt_or_ge (xx_rt P j) (18 * c + i) with z | z
    · exact z
    · unfold xx_rt at h z
      have hl : xx_L P m (18 * c) j := ⟨hj, by unfold xx_wt; omega⟩
      exact absurd (xx_uq H (Nat.le_refl _) hl hk (by omega)) hne
  have kk : xx_rt P k < 18 * c + (i + 1) := by unfold xx_rt; omega
  have nc : ∀ j, xx_L P m (18 * c) j → j ≠ k → sd_pos P j ≠ i := fun j hj hne z => hne (xx_uq H (Nat.le_refl _) hj hk (z.trans e.symm))
  obtain ⟨h1, h2, h3, h4, h5, h6⟩ := I
  refine ⟨?_, ?_, ?_, ?_, ?_, ?_⟩
  · intro j hj
    by_cases z : j = k
    · rw [z, e, pk_us, if_pos kk]
    · rw [pk_un (nc j hj z), h1 j hj]
      by_cases z2 : xx_rt P j < 18 * c + i
      · rw [if_pos z2, if_pos (by omega)]
      · rw [if_neg z2, if_neg (fun z3 => z2 (key j hj.1 z z3))]
  · intro j hj h
    by_cases z : j = k
    · rw [z, e, pk_us]
    · rw [pk_un (nc j hj z)]; exact h2 j hj (key j hj.1 z h)
  · intro j hj h
    by_cases z : j = k
    · rw [z, e, pk_us]
      by_cases z4 : sd_kd P k = 4
      · have := ls_acr (P := P) (k := k)
        rw [if_neg (by unfold xx_at; omega)]
      · rw [xx_yvn z4]; split <;> rfl
    · rw [pk_un (nc j hj z)]; exact h3 j hj (key j hj.1 z h)
  · intro j hj h h'
    by_cases z : j = k
    · subst z
      rw [e, pk_us]
      refine hd (fun z4 => ?_)
      have h7 := h' z4
      have := ls_acr (P := P) (k := j)
      unfold xx_at at h7
      omega
    · rw [pk_un (nc j hj z)]; exact h4 j hj (key j hj.1 z h) h'
  · intro j hj
    obtain ⟨t1, t2, t3, t4⟩ := h5 j hj
    refine ⟨?_, ?_, ?_, ?_⟩
    · rw [pk_un (by omega)]; exact t1
    · intro h
      by_cases z : j = k
      · rw [z, pk_us, hc]
      · rw [pk_un (by omega)]; exact t2 (key j hj z h)
    · intro h; rw [pk_un (by omega)]; exact t3 h
    · intro h; rw [pk_un (by omega)]; exact t4 h
  · rw [xr_s4 H hi]
    · exact h6
    · intro j hj z z2
      have : j = k := xx_uq H (Nat.le_refl _) hj hk (z.trans e.symm)
      subst this; omega
end
end
section
/-! small stores; the walk of read -/
theorem sh_s {n : Nat} (h : n < 32768) : vp_nar .short (nI n).toInt16.toInt32 = nI n := by
  have := nI_toInt (n := n) (by omega)
  rw [pk_vs, lg_i2s_small (by omega) (by omega)]
theorem sh_s0 {n : Nat} (h : n < 32768) : vp_nar .short (nI n) = nI n := by
  have := nI_toInt (n := n) (by omega)
  rw [vp_nar_short, lg_i2s_small (by omega) (by omega)]
theorem sh_b {n : Nat} (h : n < 128) : vp_nar .byte (nI n).toInt8.toInt32 = nI n := by
  have := nI_toInt (n := n) (by omega)
  rw [pk_vb, lg_i2b_small (by omega) (by omega)]
theorem sh_b0 {n : Nat} (h : n < 128) : vp_nar .byte (nI n) = nI n := by
  have := nI_toInt (n := n) (by omega)
  rw [vp_nar_byte, lg_i2b_small (by omega) (by omega)]
theorem sh_bm0 : vp_nar .byte (-1) = -1 := by rw [vp_nar_byte]; decide
theorem sh_bm : vp_nar .byte (-1 : Int32).toInt8.toInt32 = -1 := by rw [vp_nar_byte]; decide
theorem sh_sm : vp_nar .short (-1 : Int32).toInt16.toInt32 = -1 := by rw [vp_nar_short]; decide
theorem sh_cn {N t : Nat} (h : N ≤ 128) : vp_nar .byte (sd_cn N t).toInt8.toInt32 = sd_cn N t := by
  by_cases z : t < N
  · rw [sd_cn_lt z]; exact sh_b (by omega)
  · rw [sd_cn_ge (by omega)]; exact sh_bm
theorem sh_cn0 {N t : Nat} (h : N ≤ 128) : vp_nar .byte (sd_cn N t) = sd_cn N t := by
  by_cases z : t < N
  · rw [sd_cn_lt z]; exact sh_b0 (by omega)
  · rw [sd_cn_ge (by omega)]; exact sh_bm0
theorem sh_10 : ¬ (1 : Int32) = 0 := by decide
theorem sh_20 : ¬ (2 : Int32) = 0 := by decide
theorem sh_30 : ¬ (3 : Int32) = 0 := by decide
theorem sh_m1 : ¬ (0 : Int32) ≤ -1 := by decide
section
variable {P : sd_Pg} {D c m W s0 s1 s2 s3 s5 s6 : Nat} {post : SX → Prop} {tk : Int32}
variable {f_length f_bankTime f_size f_fetchTime f_atWork f_pc f_ready f_branching f_ended f_outcome f_accesses f_memories f_done f_cycles : Int32}
variable {a_op a_into a_left a_right a_register a_word a_many a_latency a_work a_place a_first a_second a_awaitsFirst a_awaitsSecond a_accessed a_writer a_bankFree a_packs a_turn a_which a_kinds a_unit : Nat → Int32}
/-- the registers that k reads at its cycle -/
theorem xr_reg {k r : Nat} (H : xx_B P D c m) (hG : xx_RG P D (18 * c) a_register) (hk : xx_L P m (18 * c) k) (hc : sd_rd P k = c) (hr : r = sd_fs P k ∨ r = sd_sc P k) (h8 : r < 8) : a_register r = sd_RG P k r := by
  have V := H.1.1
  refine hG k r (Nat.le_of_lt (Nat.lt_of_lt_of_le hk.1 H.2.1)) ?_
  intro j hj ej _
  have pj := ls_pos (k := j) V
  constructor
  · intro h
    have := ls_raw (P := P) h (by omega) (by omega)
    unfold xx_wt; omega
  · intro h
    rcases Nat.lt_trichotomy j k with z | z | z
    · exact z
    · have := ls_rw (k := j) V
      subst z; unfold xx_wt at h; omega
    · have := ls_war (P := P) z (by omega) (by omega)
      unfold xx_wt at h; omega
theorem xr_loop (H : xx_B P D c m) (hW : xx_Wk P m (18 * c) a_work) (hU : xx_Un P m (18 * c) a_place a_first a_second a_turn)
    (hA : xx_Aw P m (18 * c) a_awaitsFirst a_awaitsSecond) (hC : xx_AC P m (18 * c) (3 * c) a_accessed) (hG : xx_RG P D (18 * c) a_register)
    (hS : xx_ST P a_op a_into a_left a_right a_many a_latency) (hT : ∀ k, xx_L P m (18 * c) k → (nI (sd_pos P k) = tk ↔ sd_is P k = c))
    (K : ∀ a_x a_y a_hasRead a_due a_times a_lost, xr_I P D m (18 * c) (18 * c + 18) (3 * c) W s0 s1 s2 s3 s5 s6 a_x a_y a_hasRead a_due a_times a_lost → post (f_length, f_bankTime, f_size, f_fetchTime, f_atWork, f_pc, f_ready, f_branching, f_ended, f_outcome, nI c, f_accesses, f_memories, f_done, f_cycles, a_op, a_into, a_left, a_right, a_register, a_word, a_many, a_latency, a_work, a_place, a_first, a_second, a_awaitsFirst, a_awaitsSecond, a_x, a_y, a_hasRead, a_accessed, a_due, a_writer, a_bankFree, a_packs, a_turn, a_which, a_kinds, a_times, a_unit, a_lost)) :
    ∀ n i (a_x a_y a_hasRead a_due a_times a_lost : Nat → Int32), i ≤ 18 → 18 < n + i → xr_I P D m (18 * c) (18 * c + i) (3 * c) W s0 s1 s2 s3 s5 s6 a_x a_y a_hasRead a_due a_times a_lost → wX_read_2 post tk f_length f_bankTime f_size f_fetchTime f_atWork f_pc f_ready f_branching f_ended f_outcome (nI c) f_accesses f_memories f_done f_cycles n (nI i) a_op a_into a_left a_right a_register a_word a_many a_latency a_work a_place a_first a_second a_awaitsFirst a_awaitsSecond a_x a_y a_hasRead a_accessed a_due a_writer a_bankFree a_packs a_turn a_which a_kinds a_times a_unit a_lost := by
  have V := H.1.1
  intro n
  induction n with
  | zero => intro i _ _ _ _ _ _ h1 h2; omega
  | succ n ih =>
    intro i a_x a_y a_hasRead a_due a_times a_lost h1 h2 I
    rw [wX_read_2]
    dsimp only
    by_cases hi : 18 ≤ i
    · have e : i = 18 := by omega
      subst e
      exact br_t (nI_le (a := 18) (b := 18) (by decide) (by decide)) (K _ _ _ _ _ _ I)
    have ei := nI_clamp (n := i) (by omega)
    have ii : vp_in (nI i) 18 := vp_in_nI (by omega) (by decide)
    rw [ei]
    refine br_f (nI_ge (b := 18) (by omega) (by decide)) ⟨ii, ?_⟩
    rcases hW i (by omega) with ⟨w1, w2⟩ | ⟨k, hk, hp, w1⟩
    · rw [w1]
      refine br_t sd_m1lt (nm_r (nI_1 i) (ih (i + 1) _ _ _ _ _ _ (by omega) (by omega) ?_))
      refine xr_clk H (by omega) (fun k hk z => absurd z (w2 k hk)) I ?_
      rw [xr_s4 H (by omega) (fun k hk z => absurd z (w2 k hk))]; exact I.2.2.2.2.2
    have hD : k < D := Nat.lt_of_lt_of_le hk.1 H.2.1
    have k60 : k < 60 := Nat.lt_of_lt_of_le hD H.1.2.1
    have L := H.1.2.2 k hD
    have uq : ∀ j, xx_L P m (18 * c) j → sd_pos P j = i → j = k := fun j hj z => xx_uq H (Nat.le_refl _) hj hk (z.trans hp.symm)
    have pl := ls_pos (k := k) V
    rw [w1]
    refine br_f (nI_pos (by omega)) ⟨ii, ?_⟩
    have hr := I.1 k hk
    rw [hp] at hr
    rw [hr]
    by_cases hread : xx_rt P k < 18 * c + i
    · rw [if_pos hread]
      have hlt : sd_rd P k < c := by unfold xx_rt at hread; omega
      refine br_f sh_10 (nm_r (nI_1 i) (ih (i + 1) _ _ _ _ _ _ (by omega) (by omega) ?_))
      refine xr_clk H (by omega) (fun j hj z => by have := uq j hj z; subst this; omega) I ?_
      rw [xr_s4 H (by omega) (fun j hj z => by have := uq j hj z; subst this; omega)]; exact I.2.2.2.2.2
    rw [if_neg hread]
    have hge : c ≤ sd_rd P k := by unfold xx_rt at hread; omega
    refine br_t rfl ?_
    by_cases ht : nI i = tk
    · have hic : sd_is P k = c := (hT k hk).mp (by rw [hp]; exact ht)
      have := ls_rd (P := P) (k := k)
      refine br_t ht (nm_r (nI_1 i) (ih (i + 1) _ _ _ _ _ _ (by omega) (by omega) ?_))
      refine xr_clk H (by omega) (fun j hj z => by have := uq j hj z; subst this; omega) I ?_
      rw [xr_s4 H (by omega) (fun j hj z => by have := uq j hj z; subst this; omega)]; exact I.2.2.2.2.2
    have hic : sd_is P k < c := by
      have h3 : ¬ sd_is P k = c := fun z => ht (by rw [← hp]; exact (hT k hk).mpr z)
      have := H.2.2.1 k hk.1
      omega
    refine br_f ht ⟨ii, ?_⟩
    obtain ⟨af, as⟩ := hA k hk
    rw [hp] at af as
    have lose : c < sd_rd P k → wX_read_52 post (wX_read_2 post tk f_length f_bankTime f_size f_fetchTime f_atWork f_pc f_ready f_branching f_ended f_outcome (nI c) f_accesses f_memories f_done f_cycles n) tk (nI i) f_length f_bankTime f_size f_fetchTime f_atWork f_pc f_ready f_branching f_ended f_outcome (nI c) f_accesses f_memories f_done f_cycles a_op a_into a_left a_right a_register a_word a_many a_latency a_work a_place a_first a_second a_awaitsFirst a_awaitsSecond a_x a_y a_hasRead a_accessed a_due a_writer a_bankFree a_packs a_turn a_which a_kinds a_times a_unit a_lost := by
      intro hlt
      unfold wX_read_52
      refine nm_e (nm_r (nI_1 i) (ih (i + 1) _ _ _ _ _ _ (by omega) (by omega) ?_))
      refine xr_clk H (by omega) (fun j hj z => by have := uq j hj z; subst this; omega) I ?_
      rw [xr_s4b H (by omega) hk hp hic hlt]
      exact xx_LO4 I.2.2.2.2.2 (by rw [I.2.2.2.2.2.2.2.2.2.1, nI_1])
    have waits : ∀ j, j < k → sd_tg P j < 8 → (sd_tg P j = sd_fs P k ∨ sd_tg P j = sd_sc P k) → 18 * c ≤ xx_wt P j → c < sd_rd P k := by
      intro j hj h8 he hw
      have pj := ls_pos (k := j) V
      have := ls_raw (P := P) hj h8 he
      unfold xx_wt at hw; omega
    rcases af with ⟨j, j1, j2, j3, j4, j5⟩ | ⟨a1, a2⟩
    · have pj := ls_pos (k := j) V
      rw [j5]
      exact br_t (nI_pos' (by omega)) (lose (waits j j1 (by omega) (by omega) j4))
    rw [a1]
    refine br_f sh_m1 ⟨ii, ?_⟩
    rcases as with ⟨j, j1, j2, j3, j4, j5⟩ | ⟨b1, b2⟩
    · have pj := ls_pos (k := j) V
      rw [j5]
      exact br_f (nI_pos (by omega)) (lose (waits j j1 (by omega) (by omega) j4))
    rw [b1]
    refine br_t sd_m1lt ⟨ii, ?_⟩
    have hc : sd_rd P k = c := by
      rcases Nat.lt_or_ge c (sd_rd P k) with z | z
      · obtain ⟨j, hj, ⟨h8, he⟩, hw⟩ := ls_rawx hic z
        have pj := ls_pos (k := j) V
        rcases he with he | he
        · have := a2 j hj he (by omega); unfold xx_wt at this; omega
        · have := b2 j hj he (by omega); unfold xx_wt at this; omega
      · omega
    obtain ⟨u1, u2, u3, u4⟩ := hU k hk
    rw [hp] at u1 u2 u3 u4
    have hacc := hC k hk
    rw [hp] at hacc
    have hwk := ls_w H.1 hD
    have hrw := ls_rw (k := k) V
    have hryw := ls_wry (P := P) (k := k)
    have k124 : wX_read_124 post (wX_read_2 post tk f_length f_bankTime f_size f_fetchTime f_atWork f_pc f_ready f_branching f_ended f_outcome (nI c) f_accesses f_memories f_done f_cycles n) tk (nI i) (sd_ys P k) (nI i) f_length f_bankTime f_size f_fetchTime f_atWork f_pc f_ready f_branching f_ended f_outcome (nI c) f_accesses f_memories f_done f_cycles a_op a_into a_left a_right a_register a_word a_many a_latency a_work a_place a_first a_second a_awaitsFirst a_awaitsSecond (upd a_x i (sd_xs P k)) a_y a_hasRead a_accessed a_due a_writer a_bankFree a_packs a_turn a_which a_kinds a_times a_unit a_lost := by
      unfold wX_read_124
      rw [ei, w1, show (4 : Int32) * nI k + 1 = nI (4 * k + 1) from (congrArg (· + 1) (pk_mul 4 k)).trans (nI_1 _), nI_clamp (n := 4 * k + 1) (by omega), sh_s (n := c) (by omega)]
      refine ⟨ii, nm_e ⟨ii, nm_r (e' := upd a_hasRead i 1) rfl ⟨ii, vp_in_nI (by omega) (by decide), nm_e ⟨ii, ?_⟩⟩⟩⟩
      rw [hacc]
      by_cases z4 : sd_kd P k = 4
      · have := ls_acr (P := P) (k := k)
        rw [if_pos ⟨z4, by unfold xx_at; omega⟩]
        refine br_t rfl ⟨ii, nm_e (nm_r (nI_1 i) (ih (i + 1) _ _ _ _ _ _ (by omega) (by omega) ?_))⟩
        exact xr_do H (by omega) hk hp hc (fun z => absurd z4 z) I
      · rw [if_neg (fun z => z4 z.1)]
        have e3 : nI i / 3 = nI (sd_kd P k) := by
          have h3 := ls_un3 (k := k) V
          have : i / 3 = sd_kd P k := by unfold sd_pos at hp; omega
          rw [← this]; exact pk_div (d := 3) (by omega) (by decide) (by decide)
        have hl := (hS.2 _ (ls_kd P k)).2
        have hk6 := ls_kd P k
        rw [e3, nI_clamp (n := sd_kd P k) (by omega), hl, nI_add, ← hc, ← ls_ryn z4, sh_s (n := sd_ry P k) (by omega), hc]
        refine br_f sh_10 ⟨sh_30, vp_in_nI hk6 (by decide), ii, nm_e (nm_r (nI_1 i) (ih (i + 1) _ _ _ _ _ _ (by omega) (by omega) ?_))⟩
        exact xr_do H (by omega) hk hp hc (fun _ => rfl) I
    have k94 : wX_read_94 post (wX_read_2 post tk f_length f_bankTime f_size f_fetchTime f_atWork f_pc f_ready f_branching f_ended f_outcome (nI c) f_accesses f_memories f_done f_cycles n) tk (nI i) (sd_xs P k) (nI i) f_length f_bankTime f_size f_fetchTime f_atWork f_pc f_ready f_branching f_ended f_outcome (nI c) f_accesses f_memories f_done f_cycles a_op a_into a_left a_right a_register a_word a_many a_latency a_work a_place a_first a_second a_awaitsFirst a_awaitsSecond a_x a_y a_hasRead a_accessed a_due a_writer a_bankFree a_packs a_turn a_which a_kinds a_times a_unit a_lost := by
      unfold wX_read_94
      rw [ei, u3]
      refine ⟨ii, nm_e ⟨ii, ?_⟩⟩
      by_cases z : sd_sc P k < 8
      · have e8 : a_register (sd_sc P k) = sd_ys P k := by
          rw [xr_reg H hG hk hc (Or.inr rfl) z]; exact (if_pos z).symm
        rw [sd_cn_lt z, nI_clamp (n := sd_sc P k) (by omega), e8]
        exact br_t (nI_pos' (by omega)) ⟨ii, vp_in_nI z (by decide), k124⟩
      · have e8 : sd_ys P k = 0 := if_neg z
        rw [sd_cn_ge (by omega)]
        rw [e8] at k124
        exact br_f sh_m1 k124
    rw [u2]
    by_cases z : sd_fs P k < 8
    · have e8 : a_register (sd_fs P k) = sd_xs P k := by
        rw [xr_reg H hG hk hc (Or.inl rfl) z]; exact (if_pos z).symm
      rw [sd_cn_lt z, nI_clamp (n := sd_fs P k) (by omega), e8]
      exact br_t (nI_pos' (by omega)) ⟨ii, vp_in_nI z (by decide), k94⟩
    · have e8 : sd_xs P k = 0 := if_neg z
      rw [sd_cn_ge (by omega)]
      rw [e8] at k94
      exact br_f sh_m1 k94
end
section
variable {P : sd_Pg} {D c m W s0 s1 s2 s3 s5 s6 : Nat} {post : SX → Prop} {tk : Int32}
variable {f_length f_bankTime f_size f_fetchTime f_atWork f_pc f_ready f_branching f_ended f_outcome f_accesses f_memories f_done f_cycles : Int32}
variable {a_op a_into a_left a_right a_register a_word a_many a_latency a_work a_place a_first a_second a_awaitsFirst a_awaitsSecond a_x a_y a_hasRead a_accessed a_due a_writer a_bankFree a_packs a_turn a_which a_kinds a_times a_unit a_lost : Nat → Int32}
theorem xr_read (H : xx_B P D c m) (hW : xx_Wk P m (18 * c) a_work) (hU : xx_Un P m (18 * c) a_place a_first a_second a_turn)
    (hA : xx_Aw P m (18 * c) a_awaitsFirst a_awaitsSecond) (hC : xx_AC P m (18 * c) (3 * c) a_accessed) (hG : xx_RG P D (18 * c) a_register)
    (hS : xx_ST P a_op a_into a_left a_right a_many a_latency) (hT : ∀ k, xx_L P m (18 * c) k → (nI (sd_pos P k) = tk ↔ sd_is P k = c))
    (I : xr_I P D m (18 * c) (18 * c) (3 * c) W s0 s1 s2 s3 s5 s6 a_x a_y a_hasRead a_due a_times a_lost)
    (K : ∀ a_x a_y a_hasRead a_due a_times a_lost, xr_I P D m (18 * c) (18 * c + 18) (3 * c) W s0 s1 s2 s3 s5 s6 a_x a_y a_hasRead a_due a_times a_lost → post (f_length, f_bankTime, f_size, f_fetchTime, f_atWork, f_pc, f_ready, f_branching, f_ended, f_outcome, nI c, f_accesses, f_memories, f_done, f_cycles, a_op, a_into, a_left, a_right, a_register, a_word, a_many, a_latency, a_work, a_place, a_first, a_second, a_awaitsFirst, a_awaitsSecond, a_x, a_y, a_hasRead, a_accessed, a_due, a_writer, a_bankFree, a_packs, a_turn, a_which, a_kinds, a_times, a_unit, a_lost)) :
    wpX_read post (f_length, f_bankTime, f_size, f_fetchTime, f_atWork, f_pc, f_ready, f_branching, f_ended, f_outcome, nI c, f_accesses, f_memories, f_done, f_cycles, a_op, a_into, a_left, a_right, a_register, a_word, a_many, a_latency, a_work, a_place, a_first, a_second, a_awaitsFirst, a_awaitsSecond, a_x, a_y, a_hasRead, a_accessed, a_due, a_writer, a_bankFree, a_packs, a_turn, a_which, a_kinds, a_times, a_unit, a_lost) tk :=
  ⟨19, xr_loop H hW hU hA hC hG hS hT K 19 0 a_x a_y a_hasRead a_due a_times a_lost (by decide) (by decide) I⟩
end
end
section
/-! access: the pure part -/
theorem sd_sm_tail {f : Nat → Nat} {k n : Nat} (hk : k ≤ n) (h : ∀ j, k ≤ j → j < n → f j = 0) : sd_sm f n = sd_sm f k := by
  induction n with
  | zero => have e : k = 0 := by omega
            rw [e]
  | succ n ih =>
    by_cases e : k = n + 1
    · rw [e]
    · rw [sd_sm_s, h n (by omega) (by omega), ih (by omega) (fun j h1 h2 => h j h1 (by omega))]; rfl
theorem sd_sm_mono {f : Nat → Nat} {k n : Nat} (hk : k ≤ n) : sd_sm f k ≤ sd_sm f n := by
  induction n with
  | zero => have e : k = 0 := by omega
            rw [e]; exact Nat.le_refl _
  | succ n ih =>
    by_cases e : k = n + 1
    · rw [e]; exact Nat.le_refl _
    · rw [sd_sm_s]; have := ih (by omega); omega
theorem sd_sm_lep {f g : Nat → Nat} {n : Nat} (h : ∀ j, j < n → f j ≤ g j) : sd_sm f n ≤ sd_sm g n := by
  induction n with
  | zero => exact Nat.le_refl _
  | succ n ih => rw [sd_sm_s, sd_sm_s]; have := ih (fun j hj => h j (by omega)); have := h n (by omega); omega
theorem sd_sm_eqp {f g : Nat → Nat} {n : Nat} (h : ∀ j, j < n → f j ≤ g j) (e : sd_sm f n = sd_sm g n) : ∀ j, j < n → f j = g j := by
  induction n with
  | zero => intro j hj; omega
  | succ n ih =>
    rw [sd_sm_s, sd_sm_s] at e
    have h1 := sd_sm_lep (f := f) (g := g) (n := n) (fun j hj => h j (by omega))
    have h2 := h n (by omega)
    intro j hj
    by_cases z : j = n
    · rw [z]; omega
    · exact ih (fun j hj => h j (by omega)) (by omega) j (by omega)
section
variable {P : sd_Pg} {D c m : Nat}
theorem xa_at {j k : Nat} (V : sd_VP P) (h : j < k) (h4 : sd_kd P j = 4) : xx_at P j < xx_at P k := by
  have := ls_ord (P := P) h h4
  have := ls_un3 (k := j) V
  unfold xx_at; omega
theorem xa_ca {k B : Nat} (V : sd_VP P) (hk : k < D) (h4 : sd_kd P k = 4) (hB : B ≤ xx_at P k) : xx_ca P D B = xx_mc P k ↔ ∀ j, j < k → sd_kd P j = 4 → xx_at P j < B := by
  have e1 : xx_ca P D B = sd_sm (fun j => if sd_kd P j = 4 ∧ xx_at P j < B then 1 else 0) k := by
    refine sd_sm_tail (Nat.le_of_lt hk) ?_
    intro j h1 h2
    refine if_neg (fun z => ?_)
    by_cases e : j = k
    · subst e; omega
    · have := xa_at (P := P) V (show k < j by omega) h4; omega
  rw [e1]
  constructor
  · intro e j hj hj4
    have h := sd_sm_eqp (f := fun j => if sd_kd P j = 4 ∧ xx_at P j < B then 1 else 0) (g := fun j => if sd_kd P j = 4 then 1 else 0) (n := k) (fun j hj => by
      by_cases z : sd_kd P j = 4
      · rw [if_pos z]; split <;> omega
      · rw [if_neg z, if_neg (fun z2 => z z2.1)]; omega) e j hj
    rw [if_pos hj4] at h
    by_cases z : xx_at P j < B
    · exact z
    · rw [if_neg (fun z2 => z z2.2)] at h; omega
  · intro h
    refine sd_sm_congr ?_
    intro j hj
    by_cases z : sd_kd P j = 4
    · rw [if_pos z, if_pos ⟨z, h j hj z⟩]
    · rw [if_neg z, if_neg (fun z2 => z z2.1)]
theorem xa_cal {k B : Nat} (V : sd_VP P) (hk : k < D) (h4 : sd_kd P k = 4) (hB : xx_at P k < B) : xx_mc P k < xx_ca P D B := by
  have e1 : sd_sm (fun j => if sd_kd P j = 4 ∧ xx_at P j < B then 1 else 0) (k + 1) = xx_mc P k + 1 := by
    rw [sd_sm_s, if_pos ⟨h4, hB⟩]
    refine congrArg (· + 1) (sd_sm_congr ?_)
    intro j hj
    by_cases z : sd_kd P j = 4
    · have := xa_at (P := P) V hj z
      rw [if_pos z, if_pos ⟨z, by omega⟩]
    · rw [if_neg z, if_neg (fun z2 => z z2.1)]
  have e2 := sd_sm_mono (f := fun j => if sd_kd P j = 4 ∧ xx_at P j < B then 1 else 0) (k := k + 1) (n := D) hk
  unfold xx_ca; omega
theorem xa_live {k j : Nat} (H : xx_B P D c m) (hj : j < 3) (hk : k < D) (h4 : sd_kd P k = 4) (e : xx_at P k = 3 * c + j) : xx_L P m (18 * c) k ∧ sd_ac P k = c ∧ sd_un P k = j := by
  have V := H.1.1
  have h3 := ls_un3 (k := k) V
  have h1 := ls_rd (P := P) (k := k)
  have h2 := ls_acr (P := P) (k := k)
  have h5 := ls_aw V h4
  unfold xx_at at e
  refine ⟨⟨?_, ?_⟩, by omega, by omega⟩
  · rcases Nat.lt_or_ge k m with z | z
    · exact z
    · have := H.2.2.2 k z hk; omega
  · unfold xx_wt; omega
theorem xa_mem {k j : Nat} (V : sd_VP P) (hj : j < 3) (e : sd_pos P k = 12 + j) : sd_kd P k = 4 ∧ sd_un P k = j := by
  have h3 := ls_un3 (k := k) V
  unfold sd_pos at e; omega
theorem xa_pos {k : Nat} (h4 : sd_kd P k = 4) : sd_pos P k = 12 + sd_un P k := by unfold sd_pos; omega
theorem xa_cas {j : Nat} (H : xx_B P D c m) (hj : j < 3) (no : ∀ k, xx_L P m (18 * c) k → sd_kd P k = 4 → sd_un P k = j → sd_ac P k ≠ c) : xx_ca P D (3 * c + (j + 1)) = xx_ca P D (3 * c + j) := by
  refine sd_sm_congr ?_
  intro k hk
  by_cases h4 : sd_kd P k = 4
  · by_cases e : xx_at P k = 3 * c + j
    · obtain ⟨l, e1, e2⟩ := xa_live H hj hk h4 e
      exact absurd e1 (no k l h4 e2)
    · by_cases z : xx_at P k < 3 * c + j
      · rw [if_pos ⟨h4, by omega⟩, if_pos ⟨h4, z⟩]
      · rw [if_neg (fun z2 => by omega), if_neg (fun z2 => z z2.2)]
  · rw [if_neg (fun z2 => h4 z2.1), if_neg (fun z2 => h4 z2.1)]
theorem xa_cab {j k : Nat} (H : xx_B P D c m) (hj : j < 3) (hk : xx_L P m (18 * c) k) (h4 : sd_kd P k = 4) (hu : sd_un P k = j) (hc : sd_ac P k = c) : xx_ca P D (3 * c + (j + 1)) = xx_ca P D (3 * c + j) + 1 := by
  have e : xx_at P k = 3 * c + j := by unfold xx_at; omega
  refine sd_sm_bump (k := k) (Nat.lt_of_lt_of_le hk.1 H.2.1) ?_ ?_
  · rw [if_pos ⟨h4, by omega⟩, if_neg (fun z => by omega)]
  · intro i hi hne
    by_cases i4 : sd_kd P i = 4
    · have ne : xx_at P i ≠ 3 * c + j := by
        intro z
        obtain ⟨l, e1, e2⟩ := xa_live H hj hi i4 z
        exact hne (xx_uq H (Nat.le_refl _) l hk (by rw [xa_pos i4, xa_pos h4, e2, hu]))
      by_cases z : xx_at P i < 3 * c + j
      · rw [if_pos ⟨i4, by omega⟩, if_pos ⟨i4, z⟩]
      · rw [if_neg (fun z2 => by omega), if_neg (fun z2 => z z2.2)]
    · rw [if_neg (fun z2 => i4 z2.1), if_neg (fun z2 => i4 z2.1)]
def xa_I (P : sd_Pg) (D m T R A s0 s1 s2 s3 s4 s6 : Nat) (word y acc due bf lost : Nat → Int32) : Prop := xx_AC P m T A acc ∧ xx_YY P m T R A y ∧ xx_DU P m T R A due ∧ xx_WD P D A word ∧ xx_BF P D A bf ∧ xx_LO lost s0 s1 s2 s3 s4 (xx_s5 P D A) s6
theorem xa_clk {j R s0 s1 s2 s3 s4 s6 : Nat} {word y acc due bf lost lost' : Nat → Int32} (H : xx_B P D c m) (hj : j < 3)
    (no : ∀ k, xx_L P m (18 * c) k → sd_kd P k = 4 → sd_un P k = j → sd_ac P k ≠ c)
    (I : xa_I P D m (18 * c) R (3 * c + j) s0 s1 s2 s3 s4 s6 word y acc due bf lost)
    (hl : xx_LO lost' s0 s1 s2 s3 s4 (xx_s5 P D (3 * c + (j + 1))) s6) :
    xa_I P D m (18 * c) R (3 * c + (j + 1)) s0 s1 s2 s3 s4 s6 word y acc due bf lost' := by
  have V := H.1.1
  have key : ∀ k, k < D → sd_kd P k = 4 → (xx_at P k < 3 * c + (j + 1) ↔ xx_at P k < 3 * c + j) := by
    intro k hk h4
    constructor
    · intro h
      by_cases e : xx_at P k = 3 * c + j
      · obtain ⟨l, e1, e2⟩ := xa_live H hj hk h4 e
        exact absurd e1 (no k l h4 e2)
      · omega
    · intro h; omega
  have lD : ∀ k, xx_L P m (18 * c) k → k < D := fun k hk => Nat.lt_of_lt_of_le hk.1 H.2.1
  obtain ⟨h1, h2, h3, h4, h5, h6⟩ := I
  refine ⟨?_, ?_, ?_, ?_, ?_, hl⟩
  · intro k hk
    rw [h1 k hk]
    by_cases z : sd_kd P k = 4
    · have := key k (lD k hk) z
      by_cases z2 : 3 * c + j ≤ xx_at P k
      · rw [if_pos ⟨z, z2⟩, if_pos ⟨z, by omega⟩]
      · rw [if_neg (fun z3 => z2 z3.2), if_neg (fun z3 => by omega)]
    · rw [if_neg (fun z3 => z z3.1), if_neg (fun z3 => z z3.1)]
  · intro k hk hr
    rw [h2 k hk hr]
    by_cases z : sd_kd P k = 4
    · have := key k (lD k hk) z
      by_cases z2 : xx_at P k < 3 * c + j
      · rw [if_pos z2, if_pos (by omega)]
      · rw [if_neg z2, if_neg (by omega)]
    · rw [xx_yvn z]; split <;> split <;> rfl
  · exact fun k hk hr h => h3 k hk hr (fun z => (key k (lD k hk) z).mp (h z))
  · exact fun k hk h => h4 k hk (fun i hi i4 => (h i hi i4).trans (key i hi i4))
  · intro b hb
    obtain ⟨q, q1, q2, q3, q4⟩ := h5 b hb
    refine ⟨q, q1, q2, fun i hi i4 ia => q3 i hi i4 ((key i hi i4).mp ia), ?_⟩
    rcases q4 with z | ⟨i, hi, i4, ia, ib⟩
    · exact Or.inl z
    · exact Or.inr ⟨i, hi, i4, by omega, ib⟩
theorem xa_s5 {j : Nat} (H : xx_B P D c m) (hj : j < 3) (no : ∀ k, xx_L P m (18 * c) k → sd_kd P k = 4 → sd_un P k = j → ¬ (sd_rd P k < c ∧ c < sd_ac P k)) : xx_s5 P D (3 * c + (j + 1)) = xx_s5 P D (3 * c + j) := by
  have V := H.1.1
  refine sd_sm_congr ?_
  intro k hk
  have h3 := ls_un3 (k := k) V
  have h1 := ls_rd (P := P) (k := k)
  by_cases h4 : sd_kd P k = 4
  · have h5 := ls_aw V h4
    rw [if_pos h4, if_pos h4]
    by_cases e : sd_un P k = j
    · by_cases hm : k < m
      · by_cases z : sd_rd P k < c ∧ c < sd_ac P k
        · exact absurd z (no k ⟨hm, by unfold xx_wt; omega⟩ h4 e)
        · omega
      · have := H.2.2.2 k (by omega) hk
        omega
    · omega
  · rw [if_neg h4, if_neg h4]
theorem xa_s5b {j k : Nat} (H : xx_B P D c m) (hj : j < 3) (hk : xx_L P m (18 * c) k) (h4 : sd_kd P k = 4) (e : sd_un P k = j) (h1 : sd_rd P k < c) (h2 : c < sd_ac P k) : xx_s5 P D (3 * c + (j + 1)) = xx_s5 P D (3 * c + j) + 1 := by
  have V := H.1.1
  refine sd_sm_bump (k := k) (Nat.lt_of_lt_of_le hk.1 H.2.1) ?_ ?_
  · rw [if_pos h4, if_pos h4]; omega
  · intro i hi hne
    have h3 := ls_un3 (k := i) V
    have h1 := ls_rd (P := P) (k := i)
    by_cases i4 : sd_kd P i = 4
    · have h5 := ls_aw V i4
      rw [if_pos i4, if_pos i4]
      by_cases e2 : sd_un P i = j
      · by_cases hm : i < m
        · by_cases z : sd_rd P i < c ∧ c < sd_ac P i
          · exact absurd (xx_uq H (Nat.le_refl _) ⟨hm, by unfold xx_wt; omega⟩ hk (by rw [xa_pos i4, xa_pos h4, e2, e])) hne
          · omega
        · have := H.2.2.2 i (by omega) hi
          omega
      · omega
    · rw [if_neg i4, if_neg i4]
theorem xa_wdc {a b : Nat} (hab : a ≤ b) (h : ∀ j, a ≤ j → j < b → sd_kd P j ≠ 4) : sd_WD P b = sd_WD P a := by
  induction b with
  | zero => have e : a = 0 := by omega
            rw [e]
  | succ b ih =>
    by_cases e : a = b + 1
    · rw [e]
    · rw [sd_WDS, if_neg (fun z => h b (by omega) (by omega) (ls_kd4.mpr (Or.inr z)))]
      exact ih (by omega) (fun j h1 h2 => h j h1 (by omega))
/-- unit 12 + j has access -/
theorem xa_do {j k R s0 s1 s2 s3 s4 s6 : Nat} {word y acc due bf lost word' y' : Nat → Int32} (H : xx_B P D c m) (hj : j < 3)
    (hk : xx_L P m (18 * c) k) (h4 : sd_kd P k = 4) (hu : sd_un P k = j) (hc : sd_ac P k = c)
    (hy : (sd_o P k = 6 ∧ y' = upd y (12 + j) (sd_yv P k)) ∨ (sd_o P k = 7 ∧ y' = y)) (hw : word' = sd_WD P (k + 1))
    (I : xa_I P D m (18 * c) R (3 * c + j) s0 s1 s2 s3 s4 s6 word y acc due bf lost) :
    xa_I P D m (18 * c) R (3 * c + (j + 1)) s0 s1 s2 s3 s4 s6 word' y' (upd acc (12 + j) 1) (upd due (12 + j) (nI (sd_ry P k))) (upd bf (sd_bk P k) (nI (c + sd_gt P))) lost := by
  have V := H.1.1
  have hp : sd_pos P k = 12 + j := by rw [xa_pos h4, hu]
  have hkD := Nat.lt_of_lt_of_le hk.1 H.2.1
  have ek : xx_at P k = 3 * c + j := by unfold xx_at; omega
  have key : ∀ i, i < D → sd_kd P i = 4 → i ≠ k → (xx_at P i < 3 * c + (j + 1) ↔ xx_at P i < 3 * c + j) := by
    intro i hi i4 hne
    constructor
    · intro h
      by_cases e : xx_at P i = 3 * c + j
      · obtain ⟨l, e1, e2⟩ := xa_live H hj hi i4 e
        exact absurd (xx_uq H (Nat.le_refl _) l hk (by rw [xa_pos i4, xa_pos h4, e2, hu])) hne
      · omega
    · intro h; omega
  have lD : ∀ i, xx_L P m (18 * c) i → i < D := fun i hi => Nat.lt_of_lt_of_le hi.1 H.2.1
  have nc : ∀ i, xx_L P m (18 * c) i → i ≠ k → sd_pos P i ≠ 12 + j := fun i hi hne z => hne (xx_uq H (Nat.le_refl _) hi hk (z.trans hp.symm))
  obtain ⟨h1, h2, h3, h5, h6, h7⟩ := I
  refine ⟨?_, ?_, ?_, ?_, ?_, ?_⟩
  · intro i hi
    by_cases z : i = k
    · rw [z, hp, pk_us, if_neg (fun z2 => by omega)]
    · rw [pk_un (nc i hi z), h1 i hi]
      by_cases i4 : sd_kd P i = 4
      · have := key i (lD i hi) i4 z
        by_cases z2 : 3 * c + j ≤ xx_at P i
        · rw [if_pos ⟨i4, z2⟩, if_pos ⟨i4, by omega⟩]
        · rw [if_neg (fun z3 => z2 z3.2), if_neg (fun z3 => by omega)]
      · rw [if_neg (fun z3 => i4 z3.1), if_neg (fun z3 => i4 z3.1)]
  · intro i hi hr
    by_cases z : i = k
    · subst z
      rw [if_pos (by omega), hp]
      rcases hy with ⟨z6, e⟩ | ⟨z7, e⟩
      · rw [e, pk_us]
      · rw [e, ← hp, h2 i hi hr, if_neg (by omega), xx_yvs (by omega)]
    · have e : y' (sd_pos P i) = y (sd_pos P i) := by
        rcases hy with ⟨z6, e⟩ | ⟨z7, e⟩
        · rw [e, pk_un (nc i hi z)]
        · rw [e]
      rw [e, h2 i hi hr]
      by_cases i4 : sd_kd P i = 4
      · have := key i (lD i hi) i4 z
        by_cases z2 : xx_at P i < 3 * c + j
        · rw [if_pos z2, if_pos (by omega)]
        · rw [if_neg z2, if_neg (by omega)]
      · rw [xx_yvn i4]; split <;> split <;> rfl
  · intro i hi hr h
    by_cases z : i = k
    · rw [z, hp, pk_us]
    · rw [pk_un (nc i hi z)]
      exact h3 i hi hr (fun i4 => (key i (lD i hi) i4 z).mp (h i4))
  · intro k' hk' h
    have hlt : k < k' := (h k hkD h4).mpr (by omega)
    rw [hw]
    refine (xa_wdc hlt ?_).symm
    intro i h8 h9 i4
    have := (h i (by omega) i4).mp h9
    have := xa_at (P := P) V (show k < i by omega) h4
    omega
  · intro b hb
    by_cases z : b = sd_bk P k
    · have hwk := ls_w H.1 hkD
      have haw := ls_aw V h4
      have hgt := V.2.2.2.2.2.2
      refine ⟨c + sd_gt P, by rw [z, pk_us], by omega, ?_, Or.inr ⟨k, hkD, h4, by omega, z.symm, by omega⟩⟩
      intro i hi i4 ia ib
      unfold xx_at at ia
      omega
    · obtain ⟨q, q1, q2, q3, q4⟩ := h6 b hb
      refine ⟨q, by rw [pk_un z]; exact q1, q2, ?_, ?_⟩
      · intro i hi i4 ia ib
        refine q3 i hi i4 ((key i hi i4 (fun z3 => ?_)).mp ia) ib
        rw [z3] at ib; exact z ib.symm
      · rcases q4 with z3 | ⟨i, hi, i4, ia, ib⟩
        · exact Or.inl z3
        · exact Or.inr ⟨i, hi, i4, by omega, ib⟩
  · rw [xa_s5 H hj]
    · exact h7
    · intro i hi i4 iu z
      have : i = k := xx_uq H (Nat.le_refl _) hi hk (by rw [xa_pos i4, xa_pos h4, iu, hu])
      subst this; omega
/-- whether k may have access in this cycle -/
theorem xa_may {j k q : Nat} {bf : Nat → Int32} (H : xx_B P D c m) (hj : j < 3) (hk : xx_L P m (18 * c) k) (h4 : sd_kd P k = 4) (hu : sd_un P k = j) (hr : sd_rd P k < c) (hA : 3 * c + j ≤ xx_at P k)
    (ht : xx_ca P D (3 * c) = xx_mc P k) (q3 : ∀ i, i < D → sd_kd P i = 4 → xx_at P i < 3 * c + j → sd_bk P i = sd_bk P k → sd_ac P i + sd_gt P ≤ q)
    (hq : q ≤ c) : sd_ac P k = c := by
  have V := H.1.1
  have hkD := Nat.lt_of_lt_of_le hk.1 H.2.1
  have h9 := (xa_ca (D := D) V hkD h4 (show 3 * c ≤ xx_at P k by omega)).mp ht
  have hge : c ≤ sd_ac P k := by unfold xx_at at hA; omega
  rcases Nat.lt_or_ge c (sd_ac P k) with z | z
  · obtain ⟨i, hi, i4, h⟩ := ls_accx hr z
    have h10 := h9 i hi i4
    rcases h with h | ⟨hb, h⟩
    · unfold xx_at at h10; omega
    · have := q3 i (by omega) i4 (by omega) hb; omega
  · omega
theorem xa_mayq {j k q : Nat} (H : xx_B P D c m) (hj : j < 3) (hk : xx_L P m (18 * c) k) (h4 : sd_kd P k = 4) (hu : sd_un P k = j) (hA : 3 * c + j ≤ xx_at P k)
    (q4 : q = 0 ∨ ∃ i, i < D ∧ sd_kd P i = 4 ∧ xx_at P i < 3 * c + j ∧ sd_bk P i = sd_bk P k ∧ q = sd_ac P i + sd_gt P)
    (hq : c < q) : c < sd_ac P k := by
  have V := H.1.1
  rcases q4 with z | ⟨i, hi, i4, ia, ib, e⟩
  · omega
  · rcases Nat.lt_trichotomy i k with z | z | z
    · have := ls_bank (P := P) z i4 ib; omega
    · subst z; omega
    · have := xa_at (P := P) V z h4; omega
theorem xa_mayn {k : Nat} (H : xx_B P D c m) (hk : xx_L P m (18 * c) k) (h4 : sd_kd P k = 4) (hA : 3 * c ≤ xx_at P k)
    (ht : ¬ xx_ca P D (3 * c) = xx_mc P k) : c < sd_ac P k := by
  have V := H.1.1
  have hkD := Nat.lt_of_lt_of_le hk.1 H.2.1
  rcases Nat.lt_or_ge c (sd_ac P k) with z | z
  · exact z
  · refine absurd ((xa_ca (D := D) V hkD h4 hA).mpr ?_) ht
    intro i hi i4
    have := ls_ord (P := P) hi i4
    have := ls_un3 (k := i) V
    unfold xx_at; omega
theorem xa_mask (v : Int32) : ∃ w b : Nat, w < 32 ∧ b < 4 ∧ (v &&& 31) = nI w ∧ (v &&& 31).toNatClampNeg = w ∧ ((v &&& 31) &&& 3) = nI b ∧ (v &&& 3).toNatClampNeg = b := by
  obtain ⟨w, hw, ew⟩ := pk_andE v (m := 31) 5 (by decide)
  obtain ⟨b, hb, eb⟩ := pk_andE v (m := 3) 2 (by decide)
  have e3 : (v &&& 31) &&& 3 = v &&& 3 := by rw [Int32.and_assoc]; rfl
  refine ⟨w, b, hw, hb, ew, ?_, e3.trans eb, ?_⟩
  · rw [ew]; exact nI_clamp (by omega)
  · rw [eb]; exact nI_clamp (by omega)
end
end
section
/-! access: the walk -/
section
variable {P : sd_Pg} {D c m s0 s1 s2 s3 s4 s6 : Nat} {post : SX → Prop}
variable {f_length f_bankTime f_size f_fetchTime f_atWork f_pc f_ready f_branching f_ended f_outcome f_memories f_done f_cycles : Int32}
variable {a_op a_into a_left a_right a_register a_word a_many a_latency a_work a_place a_first a_second a_awaitsFirst a_awaitsSecond a_x a_y a_hasRead a_accessed a_due a_writer a_bankFree a_packs a_turn a_which a_kinds a_times a_unit a_lost : Nat → Int32}
/-- the count of those that have had access -/
theorem xa_cnt (H : xx_B P D c m) (hW : xx_Wk P m (18 * c) a_work) (hU : xx_Un P m (18 * c) a_place a_first a_second a_turn)
    (hC : xx_AC P m (18 * c) (3 * c + 3) a_accessed)
    (K : post (f_length, f_bankTime, f_size, f_fetchTime, f_atWork, f_pc, f_ready, f_branching, f_ended, f_outcome, nI c, nI (xx_ca P D (3 * c + 3)), f_memories, f_done, f_cycles, a_op, a_into, a_left, a_right, a_register, a_word, a_many, a_latency, a_work, a_place, a_first, a_second, a_awaitsFirst, a_awaitsSecond, a_x, a_y, a_hasRead, a_accessed, a_due, a_writer, a_bankFree, a_packs, a_turn, a_which, a_kinds, a_times, a_unit, a_lost)) :
    ∀ n j, j ≤ 3 → 3 < n + j → wX_access_229 post f_length f_bankTime f_size f_fetchTime f_atWork f_pc f_ready f_branching f_ended f_outcome (nI c) f_memories f_done f_cycles a_op a_into a_left a_right a_register a_word a_many a_latency a_work a_place a_first a_second a_awaitsFirst a_awaitsSecond a_x a_y a_hasRead a_accessed a_due a_writer a_bankFree a_packs a_turn a_which a_kinds a_times a_unit a_lost n (nI (12 + j)) (nI (xx_ca P D (3 * c + j))) := by
  have V := H.1.1
  intro n
  induction n with
  | zero => intro j h1 h2; omega
  | succ n ih =>
    intro j h1 h2
    rw [wX_access_229]
    dsimp only
    by_cases hj : 3 ≤ j
    · have e : j = 3 := by omega
      subst e
      exact br_t (nI_le (a := 15) (b := 12 + 3) (by decide) (by decide)) K
    have ei := nI_clamp (n := 12 + j) (by omega)
    have ii : vp_in (nI (12 + j)) 18 := vp_in_nI (by omega) (by decide)
    have go : (∀ k, xx_L P m (18 * c) k → sd_kd P k = 4 → sd_un P k = j → sd_ac P k ≠ c) → wX_access_229 post f_length f_bankTime f_size f_fetchTime f_atWork f_pc f_ready f_branching f_ended f_outcome (nI c) f_memories f_done f_cycles a_op a_into a_left a_right a_register a_word a_many a_latency a_work a_place a_first a_second a_awaitsFirst a_awaitsSecond a_x a_y a_hasRead a_accessed a_due a_writer a_bankFree a_packs a_turn a_which a_kinds a_times a_unit a_lost n (nI (12 + j + 1)) (nI (xx_ca P D (3 * c + j))) := by
      intro no
      rw [← xa_cas H (by omega) no]
      exact ih (j + 1) (by omega) (by omega)
    rw [ei]
    refine br_f (nI_ge (b := 15) (by omega) (by decide)) ⟨ii, ?_⟩
    rcases hW (12 + j) (by omega) with ⟨w1, w2⟩ | ⟨k, hk, hp, w1⟩
    · rw [w1]
      exact br_t sd_m1lt (nm_r (nI_1 _) (go (fun k hk k4 ku => absurd (by rw [xa_pos k4, ku]) (w2 k hk))))
    have hD : k < D := Nat.lt_of_lt_of_le hk.1 H.2.1
    have k60 : k < 60 := Nat.lt_of_lt_of_le hD H.1.2.1
    obtain ⟨h4, hu⟩ := xa_mem V (by omega) hp
    have uq : ∀ i, xx_L P m (18 * c) i → sd_kd P i = 4 → sd_un P i = j → i = k := fun i hi i4 iu => xx_uq H (Nat.le_refl _) hi hk (by rw [xa_pos i4, iu, hp])
    rw [w1]
    refine br_f (nI_pos (by omega)) ⟨ii, ?_⟩
    have hacc := hC k hk
    rw [hp] at hacc
    rw [hacc]
    by_cases za : 3 * c + 3 ≤ xx_at P k
    · rw [if_pos ⟨h4, za⟩]
      refine br_t rfl (nm_r (nI_1 _) (go (fun i hi i4 iu => ?_)))
      have := uq i hi i4 iu
      subst this; unfold xx_at at za; omega
    rw [if_neg (fun z => za z.2)]
    refine br_f sh_10 ⟨ii, ?_⟩
    have ht := (hU k hk).2.2.2 h4
    rw [hp] at ht
    rw [ht]
    have b1 : xx_mc P k ≤ 60 := by
      have := sd_sm_le (f := fun j => if sd_kd P j = 4 then 1 else 0) (n := k) (b := 1) (fun j _ => by split <;> omega)
      unfold xx_mc; omega
    have b2 : xx_ca P D (3 * c + j) ≤ 60 := by
      have := sd_sm_le (f := fun i => if sd_kd P i = 4 ∧ xx_at P i < 3 * c + j then 1 else 0) (n := D) (b := 1) (fun j _ => by split <;> omega)
      have := H.1.2.1
      unfold xx_ca; omega
    by_cases ze : xx_mc P k = xx_ca P D (3 * c + j)
    · have hge : 3 * c + j ≤ xx_at P k := by
        rcases Nat.lt_or_ge (xx_at P k) (3 * c + j) with z | z
        · have := xa_cal (D := D) V hD h4 z; omega
        · exact z
      have hc : sd_ac P k = c := by unfold xx_at at za hge; omega
      refine br_t (by rw [ze]) (nm_r (nI_1 _) (nm_r (nI_1 _) ?_))
      rw [← xa_cab H (by omega) hk h4 hu hc]
      exact ih (j + 1) (by omega) (by omega)
    · refine br_f (fun z => ze ((nI_eq (by omega) (by omega)).mp z)) (nm_r (nI_1 _) (go (fun i hi i4 iu => ?_)))
      have := uq i hi i4 iu
      subst this
      intro hc
      refine ze ((xa_ca V hD h4 (by unfold xx_at; omega)).mpr ?_).symm
      intro i2 hi2 i24
      have := ls_ord (P := P) hi2 i24
      have := ls_un3 (k := i2) V
      unfold xx_at; omega
end
section
variable {P : sd_Pg} {D c m s0 s1 s2 s3 s4 s6 : Nat} {post : SX → Prop}
variable {f_length f_bankTime f_size f_fetchTime f_atWork f_pc f_ready f_branching f_ended f_outcome f_memories f_done f_cycles : Int32}
variable {a_op a_into a_left a_right a_register a_many a_latency a_work a_place a_first a_second a_awaitsFirst a_awaitsSecond a_x a_hasRead a_writer a_packs a_turn a_which a_kinds a_times a_unit : Nat → Int32}
theorem xa_loop (H : xx_B P D c m) (hW : xx_Wk P m (18 * c) a_work) (hU : xx_Un P m (18 * c) a_place a_first a_second a_turn)
    (hR : xx_HR P m (18 * c) (18 * c + 18) a_hasRead) (hX : xx_XX P m (18 * c) (18 * c + 18) a_x) (hM : xx_TM P m (18 * c) (18 * c + 18) (18 * c) a_times)
    (hS : xx_ST P a_op a_into a_left a_right a_many a_latency) (hb : f_bankTime = nI (sd_gt P))
    (K : ∀ a_word a_y a_accessed a_due a_bankFree a_lost, xa_I P D m (18 * c) (18 * c + 18) (3 * c + 3) s0 s1 s2 s3 s4 s6 a_word a_y a_accessed a_due a_bankFree a_lost → post (f_length, f_bankTime, f_size, f_fetchTime, f_atWork, f_pc, f_ready, f_branching, f_ended, f_outcome, nI c, nI (xx_ca P D (3 * c + 3)), f_memories, f_done, f_cycles, a_op, a_into, a_left, a_right, a_register, a_word, a_many, a_latency, a_work, a_place, a_first, a_second, a_awaitsFirst, a_awaitsSecond, a_x, a_y, a_hasRead, a_accessed, a_due, a_writer, a_bankFree, a_packs, a_turn, a_which, a_kinds, a_times, a_unit, a_lost)) :
    ∀ n j (a_word a_y a_accessed a_due a_bankFree a_lost : Nat → Int32), j ≤ 3 → 3 < n + j → xa_I P D m (18 * c) (18 * c + 18) (3 * c + j) s0 s1 s2 s3 s4 s6 a_word a_y a_accessed a_due a_bankFree a_lost → wX_access_3 post f_length f_bankTime f_size f_fetchTime f_atWork f_pc f_ready f_branching f_ended f_outcome (nI c) (nI (xx_ca P D (3 * c))) f_memories f_done f_cycles n (nI (12 + j)) a_op a_into a_left a_right a_register a_word a_many a_latency a_work a_place a_first a_second a_awaitsFirst a_awaitsSecond a_x a_y a_hasRead a_accessed a_due a_writer a_bankFree a_packs a_turn a_which a_kinds a_times a_unit a_lost := by
  have V := H.1.1
  intro n
  induction n with
  | zero => intro j _ _ _ _ _ _ h1 h2; omega
  | succ n ih =>
    intro j a_word a_y a_accessed a_due a_bankFree a_lost h1 h2 I
    rw [wX_access_3]
    dsimp only
    by_cases hj : 3 ≤ j
    · have e : j = 3 := by omega
      subst e
      exact br_t (nI_le (a := 15) (b := 12 + 3) (by decide) (by decide)) ⟨4, xa_cnt H hW hU I.1 (K _ _ _ _ _ _ I) 4 0 (by decide) (by decide)⟩
    have ei := nI_clamp (n := 12 + j) (by omega)
    have ii : vp_in (nI (12 + j)) 18 := vp_in_nI (by omega) (by decide)
    rw [ei]
    refine br_f (nI_ge (b := 15) (by omega) (by decide)) ⟨ii, ?_⟩
    rcases hW (12 + j) (by omega) with ⟨w1, w2⟩ | ⟨k, hk, hp, w1⟩
    · rw [w1]
      have no : ∀ k, xx_L P m (18 * c) k → sd_kd P k = 4 → sd_un P k = j → False := fun k hk k4 ku => absurd (by rw [xa_pos k4, ku]) (w2 k hk)
      refine br_t sd_m1lt (nm_r (nI_1 _) (ih (j + 1) _ _ _ _ _ _ (by omega) (by omega) ?_))
      refine xa_clk H (by omega) (fun k hk k4 ku => (no k hk k4 ku).elim) I ?_
      rw [xa_s5 H (by omega) (fun k hk k4 ku => (no k hk k4 ku).elim)]; exact I.2.2.2.2.2
    have hD : k < D := Nat.lt_of_lt_of_le hk.1 H.2.1
    have k60 : k < 60 := Nat.lt_of_lt_of_le hD H.1.2.1
    obtain ⟨h4, hu⟩ := xa_mem V (by omega) hp
    have L := H.1.2.2 k hD
    have uq : ∀ i, xx_L P m (18 * c) i → sd_kd P i = 4 → sd_un P i = j → i = k := fun i hi i4 iu => xx_uq H (Nat.le_refl _) hi hk (by rw [xa_pos i4, iu, hp])
    -- nothing happens
    have skip : sd_ac P k ≠ c → ¬ (sd_rd P k < c ∧ c < sd_ac P k) → wX_access_3 post f_length f_bankTime f_size f_fetchTime f_atWork f_pc f_ready f_branching f_ended f_outcome (nI c) (nI (xx_ca P D (3 * c))) f_memories f_done f_cycles n (nI (12 + j + 1)) a_op a_into a_left a_right a_register a_word a_many a_latency a_work a_place a_first a_second a_awaitsFirst a_awaitsSecond a_x a_y a_hasRead a_accessed a_due a_writer a_bankFree a_packs a_turn a_which a_kinds a_times a_unit a_lost := by
      intro q1 q2
      refine ih (j + 1) _ _ _ _ _ _ (by omega) (by omega) ?_
      refine xa_clk H (by omega) (fun i hi i4 iu => by have := uq i hi i4 iu; subst this; exact q1) I ?_
      rw [xa_s5 H (by omega) (fun i hi i4 iu => by have := uq i hi i4 iu; subst this; exact q2)]; exact I.2.2.2.2.2
    rw [w1]
    refine br_f (nI_pos (by omega)) ⟨ii, ?_⟩
    have hacc := I.1 k hk
    rw [hp] at hacc
    rw [hacc]
    by_cases za : 3 * c + j ≤ xx_at P k
    case neg =>
      rw [if_neg (fun z => za z.2)]
      refine br_f sh_10 (nm_r (nI_1 _) (skip ?_ ?_)) <;> (unfold xx_at at za; omega)
    rw [if_pos ⟨h4, za⟩]
    have hge : c ≤ sd_ac P k := by unfold xx_at at za; omega
    refine br_t rfl ⟨ii, ?_⟩
    have hr := hR k hk
    rw [hp] at hr
    rw [hr]
    have har := ls_acr (P := P) (k := k)
    have pl := ls_pos (k := k) V
    by_cases zr : xx_rt P k < 18 * c + 18
    case neg =>
      rw [if_neg zr]
      refine br_t rfl (nm_r (nI_1 _) (skip ?_ ?_)) <;> (unfold xx_rt at zr; omega)
    rw [if_pos zr]
    have hrc : sd_rd P k ≤ c := by unfold xx_rt at zr; omega
    have htm := (hM k hk.1).2.1 zr
    have hwk := ls_w H.1 hD
    have haw := ls_aw V h4
    have hcw : c ≤ sd_wr P k := by have := hk.2; unfold xx_wt at this; omega
    rw [show (4 : Int32) * nI k + 1 = nI (4 * k + 1) from (congrArg (· + 1) (pk_mul 4 k)).trans (nI_1 _), nI_clamp (n := 4 * k + 1) (by omega), htm]
    refine br_f sh_10 ⟨ii, vp_in_nI (by omega) (by decide), ?_⟩
    by_cases zc : sd_rd P k = c
    · refine br_t (by rw [zc]) (nm_r (nI_1 _) (skip ?_ ?_)) <;> omega
    refine br_f (fun z => zc ((nI_eq (by omega) (by omega)).mp z)) ⟨ii, ii, ?_⟩
    have hrl : sd_rd P k < c := by omega
    obtain ⟨u1, u2, u3, u4⟩ := hU k hk
    rw [hp] at u1 u2 u3 u4
    have hgs : sd_num P k < 24 := Nat.lt_of_lt_of_le L.1 V.1
    have hst := hS.1 _ L.1
    have hx := hX k hk zr
    rw [hp] at hx
    have hlose : c < sd_ac P k → ∀ w b, wX_access_116 post (wX_access_3 post f_length f_bankTime f_size f_fetchTime f_atWork f_pc f_ready f_branching f_ended f_outcome (nI c) (nI (xx_ca P D (3 * c))) f_memories f_done f_cycles n) (nI (12 + j)) w b f_length f_bankTime f_size f_fetchTime f_atWork f_pc f_ready f_branching f_ended f_outcome (nI c) (nI (xx_ca P D (3 * c))) f_memories f_done f_cycles a_op a_into a_left a_right a_register a_word a_many a_latency a_work a_place a_first a_second a_awaitsFirst a_awaitsSecond a_x a_y a_hasRead a_accessed a_due a_writer a_bankFree a_packs a_turn a_which a_kinds a_times a_unit a_lost ∨ b ≠ 0 := by
      intro hlt w b
      by_cases zb : b = 0
      · subst zb
        refine Or.inl ?_
        unfold wX_access_116
        refine br_t rfl (nm_e (nm_r (nI_1 _) (ih (j + 1) _ _ _ _ _ _ (by omega) (by omega) ?_)))
        refine xa_clk H (by omega) (fun i hi i4 iu => by have := uq i hi i4 iu; subst this; omega) I ?_
        rw [xa_s5b H (by omega) hk h4 hu hrl hlt]
        exact xx_LO5 I.2.2.2.2.2 (by rw [I.2.2.2.2.2.2.2.2.2.2.1, nI_1])
      · exact Or.inr zb
    have lose : c < sd_ac P k → ∀ w, wX_access_116 post (wX_access_3 post f_length f_bankTime f_size f_fetchTime f_atWork f_pc f_ready f_branching f_ended f_outcome (nI c) (nI (xx_ca P D (3 * c))) f_memories f_done f_cycles n) (nI (12 + j)) w 0 f_length f_bankTime f_size f_fetchTime f_atWork f_pc f_ready f_branching f_ended f_outcome (nI c) (nI (xx_ca P D (3 * c))) f_memories f_done f_cycles a_op a_into a_left a_right a_register a_word a_many a_latency a_work a_place a_first a_second a_awaitsFirst a_awaitsSecond a_x a_y a_hasRead a_accessed a_due a_writer a_bankFree a_packs a_turn a_which a_kinds a_times a_unit a_lost := fun hlt w => (hlose hlt w 0).resolve_right (fun z => z rfl)
    obtain ⟨w, b, hw, hb4, ew, ewc, eb, ebc⟩ := xa_mask (sd_xs P k + sd_gB P (sd_num P k))
    have eww : sd_ww P k = w := ewc
    have ebk : sd_bk P k = b := ebc
    rw [u1, nI_clamp (n := sd_num P k) (by omega), hx, hst.2.2.2, ew, u4 h4]
    rw [ew] at eb
    refine ⟨vp_in_nI hgs (by decide), nm_e ⟨ii, ?_⟩⟩
    rw [eb, nI_clamp (n := b) (by omega)]
    have b1 : xx_mc P k ≤ 60 := by
      have := sd_sm_le (f := fun j => if sd_kd P j = 4 then 1 else 0) (n := k) (b := 1) (fun j _ => by split <;> omega)
      unfold xx_mc; omega
    have b2 : xx_ca P D (3 * c) ≤ 60 := by
      have := sd_sm_le (f := fun i => if sd_kd P i = 4 ∧ xx_at P i < 3 * c then 1 else 0) (n := D) (b := 1) (fun j _ => by split <;> omega)
      have := H.1.2.1
      unfold xx_ca; omega
    by_cases zt : xx_mc P k = xx_ca P D (3 * c)
    case neg =>
      exact br_f (fun z => zt ((nI_eq (by omega) (by omega)).mp z)) (lose (xa_mayn H hk h4 (by omega) (fun z => zt z.symm)) _)
    refine br_t (by rw [zt]) ⟨vp_in_nI hb4 (by decide), ?_⟩
    obtain ⟨q, q1, q2, q3, q4⟩ := I.2.2.2.2.1 b hb4
    rw [q1]
    by_cases zq : c < q
    · exact br_t (nI_lt zq (by omega)) (lose (xa_mayq H (by omega) hk h4 hu za (by rw [ebk]; exact q4) zq) _)
    refine br_f (nI_nlt (by omega) (by omega)) ?_
    have hc : sd_ac P k = c := xa_may (bf := a_bankFree) H (by omega) hk h4 hu hrl za zt.symm (by rw [ebk]; exact q3) (by omega)
    have hwd : a_word = sd_WD P k := by
      refine I.2.2.2.1 k (by omega) ?_
      intro i hi i4
      constructor
      · intro h
        have := ls_ord (P := P) h i4
        have := ls_un3 (k := i) V
        unfold xx_at; omega
      · intro h
        rcases Nat.lt_trichotomy i k with z | z | z
        · exact z
        · subst z; omega
        · have := xa_at (P := P) V z h4; omega
    have hgt := V.2.2.2.2.2.2
    have hlat := (hS.2 4 (by decide)).2
    have hyy := I.2.1 k hk zr
    rw [hp, if_neg (by omega)] at hyy
    have hry : sd_ry P k = c + sd_gl P 4 := by rw [ls_ry4 h4, hc]
    have hryw := ls_wry (P := P) (k := k)
    unfold wX_access_116
    rw [ei, eb, nI_clamp (n := b) (by omega), u1, nI_clamp (n := sd_num P k) (by omega), hst.1, show nI c + f_bankTime = nI (c + sd_gt P) from by rw [hb, nI_add], sh_s (n := c + sd_gt P) (by omega), hlat, nI_add, ← hry, sh_s (n := sd_ry P k) (by omega), nI_clamp (n := w) (by omega)]
    refine br_f sh_10 ⟨ii, nm_r (e' := upd a_accessed (12 + j) 1) rfl ⟨vp_in_nI hb4 (by decide), nm_e ⟨ii, nm_e ⟨ii, vp_in_nI hgs (by decide), ?_⟩⟩⟩⟩
    have h67 := ls_kd4.mp h4
    by_cases z7 : sd_o P k = 7
    · refine br_t (by show nI (sd_o P k) = 7; rw [z7]; rfl) ⟨ii, vp_in_nI hw (by decide), nm_e (nm_r (nI_1 _) (ih (j + 1) _ _ _ _ _ _ (by omega) (by omega) ?_))⟩
      rw [← ebk]
      refine xa_do H (by omega) hk h4 hu hc (Or.inr ⟨z7, rfl⟩) ?_ I
      rw [hyy, hwd, sd_WDS, if_pos z7, eww]
    · have z6 : sd_o P k = 6 := by omega
      refine br_f (by show ¬ nI (sd_o P k) = 7; rw [z6]; decide) ⟨vp_in_nI hw (by decide), ii, nm_e (nm_r (nI_1 _) (ih (j + 1) _ _ _ _ _ _ (by omega) (by omega) ?_))⟩
      rw [← ebk]
      refine xa_do H (by omega) hk h4 hu hc (Or.inl ⟨z6, ?_⟩) ?_ I
      · rw [hwd]; show _ = upd a_y (12 + j) (if sd_o P k = 6 then sd_WD P k (sd_ww P k) else sd_ys P k)
        rw [if_pos z6, eww]
      · rw [hwd, sd_WDS, if_neg z7]
end
section
variable {P : sd_Pg} {D c m s0 s1 s2 s3 s4 s6 : Nat} {post : SX → Prop}
variable {f_length f_bankTime f_size f_fetchTime f_atWork f_pc f_ready f_branching f_ended f_outcome f_memories f_done f_cycles : Int32}
variable {a_op a_into a_left a_right a_register a_word a_many a_latency a_work a_place a_first a_second a_awaitsFirst a_awaitsSecond a_x a_y a_hasRead a_accessed a_due a_writer a_bankFree a_packs a_turn a_which a_kinds a_times a_unit a_lost : Nat → Int32}
theorem xa_access (H : xx_B P D c m) (hW : xx_Wk P m (18 * c) a_work) (hU : xx_Un P m (18 * c) a_place a_first a_second a_turn)
    (hR : xx_HR P m (18 * c) (18 * c + 18) a_hasRead) (hX : xx_XX P m (18 * c) (18 * c + 18) a_x) (hM : xx_TM P m (18 * c) (18 * c + 18) (18 * c) a_times)
    (hS : xx_ST P a_op a_into a_left a_right a_many a_latency) (hb : f_bankTime = nI (sd_gt P))
    (I : xa_I P D m (18 * c) (18 * c + 18) (3 * c) s0 s1 s2 s3 s4 s6 a_word a_y a_accessed a_due a_bankFree a_lost)
    (K : ∀ a_word a_y a_accessed a_due a_bankFree a_lost, xa_I P D m (18 * c) (18 * c + 18) (3 * c + 3) s0 s1 s2 s3 s4 s6 a_word a_y a_accessed a_due a_bankFree a_lost → post (f_length, f_bankTime, f_size, f_fetchTime, f_atWork, f_pc, f_ready, f_branching, f_ended, f_outcome, nI c, nI (xx_ca P D (3 * c + 3)), f_memories, f_done, f_cycles, a_op, a_into, a_left, a_right, a_register, a_word, a_many, a_latency, a_work, a_place, a_first, a_second, a_awaitsFirst, a_awaitsSecond, a_x, a_y, a_hasRead, a_accessed, a_due, a_writer, a_bankFree, a_packs, a_turn, a_which, a_kinds, a_times, a_unit, a_lost)) :
    wpX_access post (f_length, f_bankTime, f_size, f_fetchTime, f_atWork, f_pc, f_ready, f_branching, f_ended, f_outcome, nI c, nI (xx_ca P D (3 * c)), f_memories, f_done, f_cycles, a_op, a_into, a_left, a_right, a_register, a_word, a_many, a_latency, a_work, a_place, a_first, a_second, a_awaitsFirst, a_awaitsSecond, a_x, a_y, a_hasRead, a_accessed, a_due, a_writer, a_bankFree, a_packs, a_turn, a_which, a_kinds, a_times, a_unit, a_lost) :=
  ⟨4, xa_loop H hW hU hR hX hM hS hb K 4 0 a_word a_y a_accessed a_due a_bankFree a_lost (by decide) (by decide) I⟩
end
end
section
/-! write: which units are done -/
theorem xw_one : ∀ i, i < 32 → ∀ u, u < 32 → bt ((1 : Int32) <<< (nI i &&& 31)) u = decide (u = i) := by decide +kernel
section
variable {P : sd_Pg} {D c m : Nat}
/-- the units that leave in this cycle, of the first i -/
def xw_MK (P : sd_Pg) (m c i : Nat) (x : Int32) : Prop := ∀ u, u < 32 → (bt x u = true ↔ (u < i ∧ ∃ k, k < m ∧ sd_pos P k = u ∧ sd_wr P k = c))
theorem xw_mk0 : xw_MK P m c 0 0 := fun u _ => ⟨fun h => by rw [b_0] at h; exact (nomatch h), fun h => absurd h.1 (Nat.not_lt_zero _)⟩
theorem xw_mks {i : Nat} {x : Int32} (no : ∀ k, k < m → sd_pos P k = i → sd_wr P k ≠ c) (h : xw_MK P m c i x) : xw_MK P m c (i + 1) x := by
  intro u hu
  rw [h u hu]
  constructor
  · intro ⟨h1, h2⟩; exact ⟨by omega, h2⟩
  · intro ⟨h1, k, hk, hp, hw⟩
    refine ⟨?_, k, hk, hp, hw⟩
    rcases Nat.lt_or_ge u i with z | z
    · exact z
    · exact absurd hw (no k hk (by omega))
theorem xw_mkb {i k : Nat} {x : Int32} (hi : i < 18) (hk : k < m) (hp : sd_pos P k = i) (hw : sd_wr P k = c) (h : xw_MK P m c i x) : xw_MK P m c (i + 1) (x ||| ((1 : Int32) <<< (nI i &&& 31))) := by
  intro u hu
  rw [b_or, Bool.or_eq_true, h u hu, xw_one i (by omega) u hu, decide_eq_true_iff]
  constructor
  · intro z
    rcases z with ⟨h1, h2⟩ | z
    · exact ⟨by omega, h2⟩
    · exact ⟨by omega, k, hk, by omega, hw⟩
  · intro ⟨h1, h2⟩
    by_cases z : u = i
    · exact Or.inr z
    · exact Or.inl ⟨by omega, h2⟩
def xw_I (P : sd_Pg) (D m T R W s0 s1 s2 s3 s4 s5 : Nat) (tm lost : Nat → Int32) : Prop := xx_TM P m T R W tm ∧ xx_LO lost s0 s1 s2 s3 s4 s5 (xx_s6 P D W)
theorem xw_clk {i R s0 s1 s2 s3 s4 s5 : Nat} {tm lost : Nat → Int32} (H : xx_B P D c m) (hi : i < 18)
    (no : ∀ k, xx_L P m (18 * c) k → sd_pos P k = i → c < sd_ry P k)
    (I : xw_I P D m (18 * c) R (18 * c + i) s0 s1 s2 s3 s4 s5 tm lost) :
    xw_I P D m (18 * c) R (18 * c + (i + 1)) s0 s1 s2 s3 s4 s5 tm lost := by
  have V := H.1.1
  refine ⟨?_, ?_⟩
  · intro k hk
    refine ⟨(I.1 k hk).1, (I.1 k hk).2.1, fun z => (I.1 k hk).2.2.1 ?_, (I.1 k hk).2.2.2⟩
    have hp := ls_pos (k := k) V
    have hw := ls_wry (P := P) (k := k)
    rcases Nat.lt_or_ge (xx_st P k) (18 * c + i) with z2 | z2
    · exact z2
    · unfold xx_st at z z2
      have := no k ⟨hk, by unfold xx_wt; omega⟩ (by omega)
      omega
  · have e : xx_s6 P D (18 * c + (i + 1)) = xx_s6 P D (18 * c + i) := by
      refine sd_sm_congr ?_
      intro k hk
      have hp := ls_pos (k := k) V
      have hw := ls_wry (P := P) (k := k)
      have h1 := ls_ry (k := k) V
      have h2 := ls_rd (P := P) (k := k)
      by_cases e : sd_pos P k = i
      · by_cases hm : k < m
        · by_cases hc : c ≤ sd_wr P k
          · have := no k ⟨hm, by unfold xx_wt; omega⟩ e
            omega
          · omega
        · have := H.2.2.2 k (by omega) hk
          omega
      · omega
    rw [e]; exact I.2
theorem xw_set {i k R s0 s1 s2 s3 s4 s5 : Nat} {tm lost lost' : Nat → Int32} (H : xx_B P D c m) (hi : i < 18)
    (hk : xx_L P m (18 * c) k) (hp : sd_pos P k = i) (hc : sd_ry P k ≤ c)
    (I : xw_I P D m (18 * c) R (18 * c + i) s0 s1 s2 s3 s4 s5 tm lost)
    (hl : (c < sd_wr P k ∧ xx_LO lost' s0 s1 s2 s3 s4 s5 (xx_s6 P D (18 * c + i) + 1)) ∨ (sd_wr P k = c ∧ lost' = lost)) :
    xw_I P D m (18 * c) R (18 * c + (i + 1)) s0 s1 s2 s3 s4 s5 (upd tm (4 * k + 2) (nI (sd_ry P k))) lost' := by
  have V := H.1.1
  refine ⟨?_, ?_⟩
  · intro j hj
    obtain ⟨t1, t2, t3, t4⟩ := I.1 j hj
    refine ⟨?_, ?_, ?_, ?_⟩
    · rw [pk_un (by omega)]; exact t1
    · intro h; rw [pk_un (by omega)]; exact t2 h
    · intro z
      by_cases e : j = k
      · rw [e, pk_us]
      · rw [pk_un (by omega)]
        refine t3 ?_
        have hpj := ls_pos (k := j) V
        have hw := ls_wry (P := P) (k := j)
        rcases Nat.lt_or_ge (xx_st P j) (18 * c + i) with z2 | z2
        · exact z2
        · unfold xx_st at z z2
          exact absurd (xx_uq H (Nat.le_refl _) ⟨hj, by unfold xx_wt; omega⟩ hk (by omega)) e
    · intro h; rw [pk_un (by omega)]; exact t4 h
  · have oth : ∀ j, j < D → j ≠ k → min (sd_wr P j) ((18 * c + (i + 1) + 17 - sd_pos P j) / 18) - sd_ry P j = min (sd_wr P j) ((18 * c + i + 17 - sd_pos P j) / 18) - sd_ry P j := by
      intro j hj hne
      have hpj := ls_pos (k := j) V
      have hw := ls_wry (P := P) (k := j)
      have h1 := ls_ry (k := j) V
      have h2 := ls_rd (P := P) (k := j)
      by_cases e : sd_pos P j = i
      · by_cases hm : j < m
        · by_cases hcw : c ≤ sd_wr P j
          · exact absurd (xx_uq H (Nat.le_refl _) ⟨hm, by unfold xx_wt; omega⟩ hk (e.trans hp.symm)) hne
          · omega
        · have := H.2.2.2 j (by omega) hj
          omega
      · omega
    have hkD := Nat.lt_of_lt_of_le hk.1 H.2.1
    rcases hl with ⟨h1, h2⟩ | ⟨h1, h2⟩
    · have e : xx_s6 P D (18 * c + (i + 1)) = xx_s6 P D (18 * c + i) + 1 := sd_sm_bump hkD (by omega) oth
      rw [e]; exact h2
    · have e : xx_s6 P D (18 * c + (i + 1)) = xx_s6 P D (18 * c + i) := by
        refine sd_sm_congr ?_
        intro j hj
        by_cases z : j = k
        · rw [z]; omega
        · exact oth j hj z
      rw [e, h2]; exact I.2
end
section
variable {P : sd_Pg} {D c m : Nat} {post : Int32 → Prop}
variable {f_length f_bankTime f_size f_fetchTime f_atWork f_pc f_ready f_branching f_ended f_outcome f_cycle f_accesses f_memories f_done f_cycles : Int32}
variable {a_op a_into a_left a_right a_register a_word a_many a_latency a_work a_place a_first a_second a_awaitsFirst a_awaitsSecond a_x a_y a_hasRead a_accessed a_due a_writer a_bankFree a_packs a_turn a_which a_kinds a_times a_unit a_lost : Nat → Int32}
theorem xt_target {i : Nat} (V : sd_VP P) (hi : i < sd_gs P) (hS : xx_ST P a_op a_into a_left a_right a_many a_latency) (K : post (sd_cn 8 (sd_tg1 P i))) : wpX_target post (f_length, f_bankTime, f_size, f_fetchTime, f_atWork, f_pc, f_ready, f_branching, f_ended, f_outcome, f_cycle, f_accesses, f_memories, f_done, f_cycles, a_op, a_into, a_left, a_right, a_register, a_word, a_many, a_latency, a_work, a_place, a_first, a_second, a_awaitsFirst, a_awaitsSecond, a_x, a_y, a_hasRead, a_accessed, a_due, a_writer, a_bankFree, a_packs, a_turn, a_which, a_kinds, a_times, a_unit, a_lost) (nI i) := by
  have h24 := V.1
  have hv := ls_vi V hi
  have hst := hS.1 i hi
  unfold wpX_target
  dsimp only
  rw [nI_clamp (n := i) (by omega), hst.1]
  refine ⟨vp_in_nI (by omega) (by decide), ?_⟩
  by_cases z : 7 ≤ sd_go P i
  · refine br_t (nI_le (a := 7) z (by omega)) ?_
    rw [show sd_tg1 P i = 8 from if_neg (by omega), sd_cn_ge (Nat.le_refl _)] at K
    exact K
  · have h8 := hv.2.2.1 (by omega)
    refine br_f (nI_ge (b := 7) (by omega) (by decide)) ⟨vp_in_nI (by omega) (by decide), ?_⟩
    rw [show sd_tg1 P i = sd_gd P i from if_pos (by omega), sd_cn_lt h8.1] at K
    rw [hst.2.1 (by omega)]
    exact K
end
section
variable {P : sd_Pg} {D c m : Nat} {post : Int32 → Prop}
variable {f_length f_bankTime f_size f_fetchTime f_atWork f_pc f_ready f_branching f_ended f_outcome f_accesses f_memories f_done f_cycles : Int32}
variable {a_op a_into a_left a_right a_register a_word a_many a_latency a_work a_place a_first a_second a_awaitsFirst a_awaitsSecond a_x a_y a_hasRead a_accessed a_due a_writer a_bankFree a_packs a_turn a_which a_kinds a_times a_unit a_lost : Nat → Int32}
theorem xi_loop {k : Nat} (H : xx_B P D c m) (hW : xx_Wk P m (18 * c) a_work) (hU : xx_Un P m (18 * c) a_place a_first a_second a_turn)
    (hR : xx_HR P m (18 * c) (18 * c + 18) a_hasRead) (hM : ∀ j, j < m → xx_rt P j < 18 * c + 18 → a_times (4 * j + 1) = nI (sd_rd P j)) (hk : k < m)
    (K1 : (∃ j, j < k ∧ (sd_tg P k < 8 ∧ (sd_fs P j = sd_tg P k ∨ sd_sc P j = sd_tg P k)) ∧ c ≤ sd_rd P j) → post 1)
    (K0 : (¬ ∃ j, j < k ∧ (sd_tg P k < 8 ∧ (sd_fs P j = sd_tg P k ∨ sd_sc P j = sd_tg P k)) ∧ c ≤ sd_rd P j) → post 0) :
    ∀ n i, i ≤ 18 → 18 < n + i → (∀ j, xx_L P m (18 * c) j → sd_pos P j < i → j < k → (sd_fs P j = sd_tg P k ∨ sd_sc P j = sd_tg P k) → sd_rd P j < c) → wX_isRead_2 post (nI k) (sd_cn 8 (sd_tg P k)) f_length f_bankTime f_size f_fetchTime f_atWork f_pc f_ready f_branching f_ended f_outcome (nI c) f_accesses f_memories f_done f_cycles a_op a_into a_left a_right a_register a_word a_many a_latency a_work a_place a_first a_second a_awaitsFirst a_awaitsSecond a_x a_y a_hasRead a_accessed a_due a_writer a_bankFree a_packs a_turn a_which a_kinds a_times a_unit a_lost n (nI i) := by
  have V := H.1.1
  have hkD := Nat.lt_of_lt_of_le hk H.2.1
  have L := H.1.2.2 k hkD
  have k60 : k < 60 := Nat.lt_of_lt_of_le hkD H.1.2.1
  intro n
  induction n with
  | zero => intro i h1 h2; omega
  | succ n ih =>
    intro i h1 h2 I
    rw [wX_isRead_2]
    dsimp only
    by_cases hi : 18 ≤ i
    · have e : i = 18 := by omega
      subst e
      refine br_t (nI_le (a := 18) (b := 18) (by decide) (by decide)) (K0 ?_)
      intro ⟨j, hj, ⟨h8, he⟩, hc⟩
      have hw := ls_rw (k := j) V
      have := I j ⟨by omega, by unfold xx_wt; omega⟩ (ls_pos V) hj he
      omega
    have ei := nI_clamp (n := i) (by omega)
    have ii : vp_in (nI i) 18 := vp_in_nI (by omega) (by decide)
    rw [ei]
    refine br_f (nI_ge (b := 18) (by omega) (by decide)) ?_
    by_cases h8 : sd_tg P k < 8
    case neg =>
      have : sd_tg P k ≤ 8 := ls_tg V L
      exact br_t ((sd_cn_neg (by decide)).mpr (by omega)) (K0 (fun ⟨j, hj, ⟨h8', he⟩, hc⟩ => h8 h8'))
    rw [sd_cn_lt h8]
    refine br_f (nI_pos (by omega)) ⟨ii, ?_⟩
    have go : (∀ j, xx_L P m (18 * c) j → sd_pos P j = i → j < k → (sd_fs P j = sd_tg P k ∨ sd_sc P j = sd_tg P k) → sd_rd P j < c) → wX_isRead_2 post (nI k) (nI (sd_tg P k)) f_length f_bankTime f_size f_fetchTime f_atWork f_pc f_ready f_branching f_ended f_outcome (nI c) f_accesses f_memories f_done f_cycles a_op a_into a_left a_right a_register a_word a_many a_latency a_work a_place a_first a_second a_awaitsFirst a_awaitsSecond a_x a_y a_hasRead a_accessed a_due a_writer a_bankFree a_packs a_turn a_which a_kinds a_times a_unit a_lost n (nI (i + 1)) := by
      intro h
      rw [← sd_cn_lt (N := 8) h8]
      refine ih (i + 1) (by omega) (by omega) ?_
      intro j hj hp hjk he
      by_cases e : sd_pos P j = i
      · exact h j hj e hjk he
      · exact I j hj (by omega) hjk he
    rcases hW i (by omega) with ⟨w1, w2⟩ | ⟨j, hj, hp, w1⟩
    · rw [w1]
      exact br_t sd_m1lt (nm_r (nI_1 i) (go (fun j hj z => absurd z (w2 j hj))))
    have hjD : j < D := Nat.lt_of_lt_of_le hj.1 H.2.1
    have j60 : j < 60 := Nat.lt_of_lt_of_le hjD H.1.2.1
    have Lj := H.1.2.2 j hjD
    have uq : ∀ j', xx_L P m (18 * c) j' → sd_pos P j' = i → j' = j := fun j' hj' z => xx_uq H (Nat.le_refl _) hj' hj (z.trans hp.symm)
    rw [w1]
    refine br_f (nI_pos (by omega)) ⟨ii, ?_⟩
    by_cases hjk : k ≤ j
    · refine br_t (nI_le hjk (by omega)) (nm_r (nI_1 i) (go (fun j' hj' z h => ?_)))
      have := uq j' hj' z
      omega
    refine br_f (nI_ge (by omega) (by omega)) ⟨ii, ?_⟩
    obtain ⟨u1, u2, u3, u4⟩ := hU j hj
    rw [hp] at u1 u2 u3 u4
    have hlf := ls_fs V Lj
    have hls := ls_sc V Lj
    have pl := ls_pos (k := j) V
    have sub : (sd_fs P j = sd_tg P k ∨ sd_sc P j = sd_tg P k) → wX_isRead_54 post (wX_isRead_2 post (nI k) (nI (sd_tg P k)) f_length f_bankTime f_size f_fetchTime f_atWork f_pc f_ready f_branching f_ended f_outcome (nI c) f_accesses f_memories f_done f_cycles a_op a_into a_left a_right a_register a_word a_many a_latency a_work a_place a_first a_second a_awaitsFirst a_awaitsSecond a_x a_y a_hasRead a_accessed a_due a_writer a_bankFree a_packs a_turn a_which a_kinds a_times a_unit a_lost n) (nI k) (nI (sd_tg P k)) (nI i) f_length f_bankTime f_size f_fetchTime f_atWork f_pc f_ready f_branching f_ended f_outcome (nI c) f_accesses f_memories f_done f_cycles a_op a_into a_left a_right a_register a_word a_many a_latency a_work a_place a_first a_second a_awaitsFirst a_awaitsSecond a_x a_y a_hasRead a_accessed a_due a_writer a_bankFree a_packs a_turn a_which a_kinds a_times a_unit a_lost := by
      intro he
      unfold wX_isRead_54
      rw [ei, w1]
      have hr := hR j hj
      rw [hp] at hr
      rw [hr]
      refine ⟨ii, ?_⟩
      by_cases zr : xx_rt P j < 18 * c + 18
      · rw [if_pos zr]
        have htm := hM j hj.1 zr
        have hwj := ls_w H.1 hjD
        have hrw := ls_rw (k := j) V
        have hcw : c ≤ sd_wr P j := by have := hj.2; unfold xx_wt at this; omega
        rw [show (4 : Int32) * nI j + 1 = nI (4 * j + 1) from (congrArg (· + 1) (pk_mul 4 j)).trans (nI_1 _), nI_clamp (n := 4 * j + 1) (by omega), htm]
        refine br_f sh_10 ⟨ii, vp_in_nI (by omega) (by decide), ?_⟩
        by_cases zc : sd_rd P j = c
        · exact br_t (by rw [zc]) (K1 ⟨j, by omega, ⟨h8, he⟩, by omega⟩)
        · refine br_f (fun z => zc ((nI_eq (by omega) (by omega)).mp z)) (nm_r (nI_1 i) (go (fun j' hj' z _ _ => ?_)))
          have := uq j' hj' z
          subst this
          unfold xx_rt at zr; omega
      · rw [if_neg zr]
        exact br_t rfl (K1 ⟨j, by omega, ⟨h8, he⟩, by unfold xx_rt at zr; omega⟩)
    have e1 : sd_cn 8 (sd_fs P j) = nI (sd_tg P k) ↔ sd_fs P j = sd_tg P k := by
      rw [← sd_cn_lt (N := 8) h8]; exact sd_cn_eq (by decide) (by omega) (by omega)
    have e2 : sd_cn 8 (sd_sc P j) = nI (sd_tg P k) ↔ sd_sc P j = sd_tg P k := by
      rw [← sd_cn_lt (N := 8) h8]; exact sd_cn_eq (by decide) (by omega) (by omega)
    rw [u2]
    by_cases z1 : sd_fs P j = sd_tg P k
    · exact br_t (e1.mpr z1) (sub (Or.inl z1))
    refine br_f (fun z => z1 (e1.mp z)) ⟨ii, ?_⟩
    rw [u3]
    by_cases z2 : sd_sc P j = sd_tg P k
    · exact br_t (e2.mpr z2) (sub (Or.inr z2))
    refine br_f (fun z => z2 (e2.mp z)) (nm_r (nI_1 i) (go (fun j' hj' z _ he => ?_)))
    have := uq j' hj' z
    subst this
    omega
end
section
variable {P : sd_Pg} {D c m s0 s1 s2 s3 s4 s5 : Nat} {post : SX → Prop}
variable {f_length f_bankTime f_size f_fetchTime f_atWork f_pc f_ready f_branching f_ended f_outcome f_accesses f_memories f_done f_cycles : Int32}
variable {a_op a_into a_left a_right a_register a_word a_many a_latency a_work a_place a_first a_second a_awaitsFirst a_awaitsSecond a_x a_y a_hasRead a_accessed a_due a_writer a_bankFree a_packs a_turn a_which a_kinds a_unit : Nat → Int32}
theorem xw_loop (H : xx_B P D c m) (hW : xx_Wk P m (18 * c) a_work) (hU : xx_Un P m (18 * c) a_place a_first a_second a_turn)
    (hR : xx_HR P m (18 * c) (18 * c + 18) a_hasRead) (hC : xx_AC P m (18 * c) (3 * c + 3) a_accessed) (hD : xx_DU P m (18 * c) (18 * c + 18) (3 * c + 3) a_due)
    (hS : xx_ST P a_op a_into a_left a_right a_many a_latency)
    (K : ∀ (x1 : Int32) a_times a_lost, xw_MK P m c 18 x1 → xw_I P D m (18 * c) (18 * c + 18) (18 * c + 18) s0 s1 s2 s3 s4 s5 a_times a_lost → ∃ n, wX_write_133 post n x1 0 f_length f_bankTime f_size f_fetchTime f_atWork f_pc f_ready f_branching f_ended f_outcome (nI c) f_accesses f_memories f_done f_cycles a_op a_into a_left a_right a_register a_word a_many a_latency a_work a_place a_first a_second a_awaitsFirst a_awaitsSecond a_x a_y a_hasRead a_accessed a_due a_writer a_bankFree a_packs a_turn a_which a_kinds a_times a_unit a_lost) :
    ∀ n i (x1 : Int32) (a_times a_lost : Nat → Int32), i ≤ 18 → 18 < n + i → xw_MK P m c i x1 → xw_I P D m (18 * c) (18 * c + 18) (18 * c + i) s0 s1 s2 s3 s4 s5 a_times a_lost → wX_write_4 post f_length f_bankTime f_size f_fetchTime f_atWork f_pc f_ready f_branching f_ended f_outcome (nI c) f_accesses f_memories f_done f_cycles n x1 (nI i) a_op a_into a_left a_right a_register a_word a_many a_latency a_work a_place a_first a_second a_awaitsFirst a_awaitsSecond a_x a_y a_hasRead a_accessed a_due a_writer a_bankFree a_packs a_turn a_which a_kinds a_times a_unit a_lost := by
  have V := H.1.1
  intro n
  induction n with
  | zero => intro i _ _ _ h1 h2; omega
  | succ n ih =>
    intro i x1 a_times a_lost h1 h2 MK I
    rw [wX_write_4]
    dsimp only
    by_cases hi : 18 ≤ i
    · have e : i = 18 := by omega
      subst e
      exact br_t (nI_le (a := 18) (b := 18) (by decide) (by decide)) (K _ _ _ MK I)
    have ei := nI_clamp (n := i) (by omega)
    have ii : vp_in (nI i) 18 := vp_in_nI (by omega) (by decide)
    rw [ei]
    refine br_f (nI_ge (b := 18) (by omega) (by decide)) ⟨ii, ?_⟩
    have skip : (∀ k, xx_L P m (18 * c) k → sd_pos P k = i → c < sd_ry P k) → wX_write_4 post f_length f_bankTime f_size f_fetchTime f_atWork f_pc f_ready f_branching f_ended f_outcome (nI c) f_accesses f_memories f_done f_cycles n x1 (nI (i + 1)) a_op a_into a_left a_right a_register a_word a_many a_latency a_work a_place a_first a_second a_awaitsFirst a_awaitsSecond a_x a_y a_hasRead a_accessed a_due a_writer a_bankFree a_packs a_turn a_which a_kinds a_times a_unit a_lost := by
      intro no
      refine ih (i + 1) _ _ _ (by omega) (by omega) (xw_mks (fun k hk hp hw => ?_) MK) (xw_clk H (by omega) no I)
      have h3 := ls_wry (P := P) (k := k)
      have := no k ⟨hk, by unfold xx_wt; omega⟩ hp
      omega
    rcases hW i (by omega) with ⟨w1, w2⟩ | ⟨k, hk, hp, w1⟩
    · rw [w1]
      exact br_t sd_m1lt (nm_r (nI_1 i) (skip (fun k hk z => absurd z (w2 k hk))))
    have hkD : k < D := Nat.lt_of_lt_of_le hk.1 H.2.1
    have k60 : k < 60 := Nat.lt_of_lt_of_le hkD H.1.2.1
    have L := H.1.2.2 k hkD
    have uq : ∀ j, xx_L P m (18 * c) j → sd_pos P j = i → j = k := fun j hj z => xx_uq H (Nat.le_refl _) hj hk (z.trans hp.symm)
    have pl := ls_pos (k := k) V
    have hry := ls_ry (k := k) V
    have hwk := ls_w H.1 hkD
    have hryw := ls_wry (P := P) (k := k)
    have hcw : c ≤ sd_wr P k := by have := hk.2; unfold xx_wt at this; omega
    rw [w1]
    refine br_f (nI_pos (by omega)) ⟨ii, ?_⟩
    have hr := hR k hk
    rw [hp] at hr
    rw [hr]
    by_cases zr : xx_rt P k < 18 * c + 18
    case neg =>
      rw [if_neg zr]
      refine br_t rfl (nm_r (nI_1 i) (skip (fun j hj z => ?_)))
      have := uq j hj z
      subst this; unfold xx_rt at zr; omega
    rw [if_pos zr]
    refine br_f sh_10 ⟨ii, ?_⟩
    have hacc := hC k hk
    rw [hp] at hacc
    rw [hacc]
    by_cases za : sd_kd P k = 4 ∧ 3 * c + 3 ≤ xx_at P k
    · rw [if_pos za]
      refine br_t rfl (nm_r (nI_1 i) (skip (fun j hj z => ?_)))
      have := uq j hj z
      subst this
      have h3 := ls_un3 (k := j) V
      have := ls_rya V za.1
      have h4 := za.2
      unfold xx_at at h4; omega
    rw [if_neg za]
    refine br_f sh_10 ⟨ii, ?_⟩
    have hdue := hD k hk zr (fun z4 => by omega)
    rw [hp] at hdue
    rw [hdue]
    by_cases zd : sd_ry P k ≤ c
    case neg =>
      refine br_f (nI_ge (by omega) (by omega)) (nm_r (nI_1 i) (skip (fun j hj z => ?_)))
      have := uq j hj z
      subst this; omega
    refine br_t (nI_le zd (by omega)) ⟨ii, nm_e ⟨ii, ?_⟩⟩
    obtain ⟨u1, u2, u3, u4⟩ := hU k hk
    rw [hp] at u1
    rw [u1]
    refine xt_target V L.1 hS ⟨ii, ?_⟩
    rw [show (4 : Int32) * nI k + 2 = nI (4 * k + 2) from (congrArg (· + 2) (pk_mul 4 k)).trans (nI_add _ 2), nI_clamp (n := 4 * k + 2) (by omega), sh_s0 (n := sd_ry P k) (by omega)]
    refine ⟨vp_in_nI (by omega) (by decide), nm_e ?_⟩
    refine ⟨19, xi_loop H hW hU hR ?_ hk.1 ?_ ?_ 19 0 (by decide) (by decide) (fun j _ h => absurd h (Nat.not_lt_zero _))⟩
    · intro j hj hrt
      rw [pk_un (by omega)]; exact (I.1 j hj).2.1 hrt
    · intro ⟨j, hj, ⟨h8, he⟩, hc⟩
      have hlt : c < sd_wr P k := by have := ls_war (P := P) hj h8 he; omega
      refine br_f sh_10 (nm_e (nm_r (nI_1 i) (ih (i + 1) _ _ _ (by omega) (by omega) (xw_mks (fun j2 hj2 hp2 hw2 => ?_) MK) (xw_set H (by omega) hk hp zd I (Or.inl ⟨hlt, xx_LO6 I.2 (by rw [I.2.2.2.2.2.2.2, nI_1])⟩)))))
      have := uq j2 ⟨hj2, by unfold xx_wt; omega⟩ hp2
      subst this; omega
    · intro hno
      have he : sd_wr P k = c := by
        rcases Nat.lt_or_ge c (sd_wr P k) with z | z
        · exact absurd (ls_warx zd z) hno
        · omega
      exact br_t rfl (nm_e (nm_r (nI_1 i) (ih (i + 1) _ _ _ (by omega) (by omega) (xw_mkb (by omega) hk.1 hp he MK) (xw_set H (by omega) hk hp zd I (Or.inr ⟨he, rfl⟩)))))
end
end
section
/-! the front: look -/
section
variable {P : sd_Pg} {D : Nat}
theorem ls_num {k : Nat} (H : sd_OK P D) (hk : k ≤ D) : sd_num P k ≤ 24 := by
  have h24 := H.1.1
  cases k with
  | zero => rw [sd_num0]; omega
  | succ k =>
    have L := H.2.2 k (by omega)
    have h1 := L.1
    rw [sd_numS]
    split
    · rename_i z
      have := (ls_vi H.1 L.1).2.2.2.2.2 (by unfold sd_o at z; omega)
      omega
    · omega
theorem ls_pk {n : Nat} (H : sd_OK P D) (hn : n ≤ D) : ∀ j, sd_pk P n j ≤ 12 := by
  induction n with
  | zero => intro j; exact Nat.zero_le _
  | succ n ih =>
    intro j
    by_cases z : sd_th P n = true
    · rw [(sd_fe_t z).2]; exact ih (by omega) j
    · rw [(sd_fe_f z).2]
      have := ls_num H (show n ≤ D by omega)
      have := ih (by omega) j
      dsimp only
      split <;> omega
/-- the packs in the stack are the last ones fetched -/
def xf_PK (P : sd_Pg) (n : Nat) (packs : Nat → Int32) : Prop := ∀ j, j < sd_gS P → packs j = if j < sd_fc P n then nI (sd_pk P n (sd_fc P n - 1 - j)) else -1
theorem xf_hit {m i : Nat} {packs : Nat → Int32} (H : sd_OK P D) (hm : m ≤ D) (h : xf_PK P m packs) (hi : i < sd_gS P) (e : packs i = nI (sd_num P m / 2)) : sd_th P m = true ∧ xf_PK P (m + 1) packs := by
  have h2 := ls_num H hm
  have ht : sd_th P m = true := by
    refine sd_in_iff.mpr ?_
    have h3 := h i hi
    by_cases z : i < sd_fc P m
    · rw [if_pos z, e] at h3
      have h4 := ls_pk H hm (sd_fc P m - 1 - i)
      exact ⟨sd_fc P m - 1 - i, by omega, by omega, ((nI_eq (by omega) (by omega)).mp h3).symm⟩
    · rw [if_neg z, e] at h3
      exact absurd h3 (sd_m1n (by omega))
  refine ⟨ht, ?_⟩
  unfold xf_PK
  rw [(sd_fe_t ht).1, (sd_fe_t ht).2]; exact h
theorem xf_miss {m : Nat} {packs packs' : Nat → Int32} (H : sd_OK P D) (hm : m ≤ D) (h : xf_PK P m packs) (no : ∀ j, j < sd_gS P → packs j ≠ nI (sd_num P m / 2))
    (h0 : packs' 0 = nI (sd_num P m / 2)) (h1 : ∀ j, 0 < j → j < sd_gS P → packs' j = packs (j - 1)) : ¬ sd_th P m = true ∧ xf_PK P (m + 1) packs' := by
  have ht : ¬ sd_th P m = true := by
    intro z
    obtain ⟨j, h3, h4, h5⟩ := sd_in_iff.mp z
    have h6 := h (sd_fc P m - 1 - j) (by omega)
    rw [if_pos (by omega), show sd_fc P m - 1 - (sd_fc P m - 1 - j) = j by omega, h5] at h6
    exact no _ (by omega) h6
  refine ⟨ht, ?_⟩
  unfold xf_PK
  rw [(sd_fe_f ht).1, (sd_fe_f ht).2]
  intro j hj
  dsimp only
  by_cases z : j = 0
  · rw [z, if_pos (by omega), if_pos (by omega)]; exact h0
  · rw [h1 j (by omega) hj, h (j - 1) (by omega)]
    by_cases z2 : j - 1 < sd_fc P m
    · rw [if_pos z2, if_pos (by omega), if_neg (by omega), show sd_fc P m + 1 - 1 - j = sd_fc P m - 1 - (j - 1) by omega]
    · rw [if_neg z2, if_neg (by omega)]
end
section
variable {P : sd_Pg} {D c m : Nat} {post : SX → Prop}
variable {f_length f_bankTime f_size f_fetchTime f_atWork f_pc f_ready f_branching f_ended f_outcome f_cycle f_accesses f_memories f_done f_cycles : Int32}
variable {a_op a_into a_left a_right a_register a_word a_many a_latency a_work a_place a_first a_second a_awaitsFirst a_awaitsSecond a_x a_y a_hasRead a_accessed a_due a_writer a_bankFree a_packs a_turn a_which a_kinds a_times a_unit a_lost : Nat → Int32}
theorem lk_br {p : Nat} (V : sd_VP P) (hl : f_length = nI (sd_gs P)) (hp : p < 2 ^ 31) (K : post (f_length, f_bankTime, f_size, f_fetchTime, f_atWork, nI p, f_ready, 1, 1, f_outcome, f_cycle, f_accesses, f_memories, f_done, f_cycles, a_op, a_into, a_left, a_right, a_register, a_word, a_many, a_latency, a_work, a_place, a_first, a_second, a_awaitsFirst, a_awaitsSecond, a_x, a_y, a_hasRead, a_accessed, a_due, a_writer, a_bankFree, a_packs, a_turn, a_which, a_kinds, a_times, a_unit, a_lost)) : wpX_look post (f_length, f_bankTime, f_size, f_fetchTime, f_atWork, nI p, f_ready, 1, f_ended, f_outcome, f_cycle, f_accesses, f_memories, f_done, f_cycles, a_op, a_into, a_left, a_right, a_register, a_word, a_many, a_latency, a_work, a_place, a_first, a_second, a_awaitsFirst, a_awaitsSecond, a_x, a_y, a_hasRead, a_accessed, a_due, a_writer, a_bankFree, a_packs, a_turn, a_which, a_kinds, a_times, a_unit, a_lost) := by
  have h24 := V.1
  have k57 : ∀ z, wX_look_57 post z 1 f_length f_bankTime f_size f_fetchTime f_atWork (nI p) f_ready 1 f_ended f_outcome f_cycle f_accesses f_memories f_done f_cycles a_op a_into a_left a_right a_register a_word a_many a_latency a_work a_place a_first a_second a_awaitsFirst a_awaitsSecond a_x a_y a_hasRead a_accessed a_due a_writer a_bankFree a_packs a_turn a_which a_kinds a_times a_unit a_lost := by
    intro z
    unfold wX_look_57
    refine ⟨rfl, rfl, br_f sh_10 (br_f sh_10 ?_)⟩
    unfold wX_look_83
    exact br_f sh_10 K
  have k30 : ∀ z, wX_look_30 post z f_length f_bankTime f_size f_fetchTime f_atWork (nI p) f_ready 1 f_ended f_outcome f_cycle f_accesses f_memories f_done f_cycles a_op a_into a_left a_right a_register a_word a_many a_latency a_work a_place a_first a_second a_awaitsFirst a_awaitsSecond a_x a_y a_hasRead a_accessed a_due a_writer a_bankFree a_packs a_turn a_which a_kinds a_times a_unit a_lost := fun z => br_f sh_10 (k57 z)
  unfold wpX_look
  dsimp only
  by_cases z : sd_gs P ≤ p
  · exact br_t (by rw [hl]; exact nI_le z hp) (k30 1)
  · refine br_f (by rw [hl]; exact nI_ge (by omega) (by omega)) ⟨vp_in_nI (by omega) (by decide), br_c (fun _ => k30 1) (fun _ => k30 0)⟩
theorem lk_stop {p : Nat} (V : sd_VP P) (hl : f_length = nI (sd_gs P)) (hp : p < 2 ^ 31) (hS : xx_ST P a_op a_into a_left a_right a_many a_latency)
    (h : sd_gs P ≤ p ∨ sd_go P p = 10) (K : post (f_length, f_bankTime, f_size, f_fetchTime, f_atWork, nI p, f_ready, 0, 1, f_outcome, f_cycle, f_accesses, f_memories, f_done, f_cycles, a_op, a_into, a_left, a_right, a_register, a_word, a_many, a_latency, a_work, a_place, a_first, a_second, a_awaitsFirst, a_awaitsSecond, a_x, a_y, a_hasRead, a_accessed, a_due, a_writer, a_bankFree, a_packs, a_turn, a_which, a_kinds, a_times, a_unit, a_lost)) : wpX_look post (f_length, f_bankTime, f_size, f_fetchTime, f_atWork, nI p, f_ready, 0, f_ended, f_outcome, f_cycle, f_accesses, f_memories, f_done, f_cycles, a_op, a_into, a_left, a_right, a_register, a_word, a_many, a_latency, a_work, a_place, a_first, a_second, a_awaitsFirst, a_awaitsSecond, a_x, a_y, a_hasRead, a_accessed, a_due, a_writer, a_bankFree, a_packs, a_turn, a_which, a_kinds, a_times, a_unit, a_lost) := by
  have h24 := V.1
  have k57 : wX_look_57 post 1 1 f_length f_bankTime f_size f_fetchTime f_atWork (nI p) f_ready 0 f_ended f_outcome f_cycle f_accesses f_memories f_done f_cycles a_op a_into a_left a_right a_register a_word a_many a_latency a_work a_place a_first a_second a_awaitsFirst a_awaitsSecond a_x a_y a_hasRead a_accessed a_due a_writer a_bankFree a_packs a_turn a_which a_kinds a_times a_unit a_lost := by
    unfold wX_look_57
    refine ⟨rfl, rfl, br_f sh_10 (br_t rfl (br_f sh_10 ?_))⟩
    unfold wX_look_83
    exact br_f sh_10 K
  have k30 : wX_look_30 post 1 f_length f_bankTime f_size f_fetchTime f_atWork (nI p) f_ready 0 f_ended f_outcome f_cycle f_accesses f_memories f_done f_cycles a_op a_into a_left a_right a_register a_word a_many a_latency a_work a_place a_first a_second a_awaitsFirst a_awaitsSecond a_x a_y a_hasRead a_accessed a_due a_writer a_bankFree a_packs a_turn a_which a_kinds a_times a_unit a_lost := br_t rfl (br_f sh_10 k57)
  unfold wpX_look
  dsimp only
  by_cases z : sd_gs P ≤ p
  · exact br_t (by rw [hl]; exact nI_le z hp) k30
  · refine br_f (by rw [hl]; exact nI_ge (by omega) (by omega)) ⟨vp_in_nI (by omega) (by decide), br_t ?_ k30⟩
    rw [nI_clamp (n := p) (by omega), (hS.1 p (by omega)).1]
    rcases h with h | h
    · omega
    · rw [h]; rfl
theorem lk_long {p : Nat} (V : sd_VP P) (hl : f_length = nI (sd_gs P)) (hS : xx_ST P a_op a_into a_left a_right a_many a_latency)
    (h : p < sd_gs P) (h10 : sd_go P p ≠ 10) (K : post (f_length, f_bankTime, f_size, f_fetchTime, f_atWork, nI p, f_ready, 0, 1, 1, f_cycle, f_accesses, f_memories, 60, f_cycles, a_op, a_into, a_left, a_right, a_register, a_word, a_many, a_latency, a_work, a_place, a_first, a_second, a_awaitsFirst, a_awaitsSecond, a_x, a_y, a_hasRead, a_accessed, a_due, a_writer, a_bankFree, a_packs, a_turn, a_which, a_kinds, a_times, a_unit, a_lost)) : wpX_look post (f_length, f_bankTime, f_size, f_fetchTime, f_atWork, nI p, f_ready, 0, f_ended, f_outcome, f_cycle, f_accesses, f_memories, 60, f_cycles, a_op, a_into, a_left, a_right, a_register, a_word, a_many, a_latency, a_work, a_place, a_first, a_second, a_awaitsFirst, a_awaitsSecond, a_x, a_y, a_hasRead, a_accessed, a_due, a_writer, a_bankFree, a_packs, a_turn, a_which, a_kinds, a_times, a_unit, a_lost) := by
  have h24 := V.1
  have hle := (ls_vi V h).2.1
  have k57 : wX_look_57 post 0 1 f_length f_bankTime f_size f_fetchTime f_atWork (nI p) f_ready 0 f_ended f_outcome f_cycle f_accesses f_memories 60 f_cycles a_op a_into a_left a_right a_register a_word a_many a_latency a_work a_place a_first a_second a_awaitsFirst a_awaitsSecond a_x a_y a_hasRead a_accessed a_due a_writer a_bankFree a_packs a_turn a_which a_kinds a_times a_unit a_lost := by
    unfold wX_look_57
    refine ⟨rfl, rfl, br_f sh_10 (br_t rfl (br_t rfl ?_))⟩
    unfold wX_look_83
    exact br_f sh_10 K
  have k30 : wX_look_30 post 0 f_length f_bankTime f_size f_fetchTime f_atWork (nI p) f_ready 0 f_ended f_outcome f_cycle f_accesses f_memories 60 f_cycles a_op a_into a_left a_right a_register a_word a_many a_latency a_work a_place a_first a_second a_awaitsFirst a_awaitsSecond a_x a_y a_hasRead a_accessed a_due a_writer a_bankFree a_packs a_turn a_which a_kinds a_times a_unit a_lost := br_t rfl (br_t rfl (br_t rfl k57))
  unfold wpX_look
  dsimp only
  refine br_f (by rw [hl]; exact nI_ge (by omega) (by omega)) ⟨vp_in_nI (by omega) (by decide), br_f ?_ k30⟩
  rw [nI_clamp (n := p) (by omega), (hS.1 p (by omega)).1]
  exact fun z => h10 ((nI_eq (b := 10) (by omega) (by decide)).mp z)
end
section
variable {P : sd_Pg} {D c m : Nat} {post : SX → Prop}
variable {f_length f_bankTime f_size f_fetchTime f_atWork f_pc f_ready f_branching f_ended f_outcome f_cycle f_accesses f_memories f_done f_cycles : Int32}
variable {a_op a_into a_left a_right a_register a_word a_many a_latency a_work a_place a_first a_second a_awaitsFirst a_awaitsSecond a_x a_y a_hasRead a_accessed a_due a_writer a_bankFree a_turn a_which a_kinds a_times a_unit a_lost : Nat → Int32}
/-- the packs go down by one -/
theorem lk_shift {p : Nat} {a0 : Nat → Int32} (hp : p < 200) {G : Nat} (hG : G < 4) (hb : ∀ j, j ≤ G → vp_nar .byte (a0 j) = a0 j)
    (K : ∀ a_packs : Nat → Int32, a_packs 0 = nI (p / 2) → (∀ j, 0 < j → j ≤ G → a_packs j = a0 (j - 1)) → post (f_length, f_bankTime, f_size, f_fetchTime, f_atWork, nI p, f_ready, f_branching, f_ended, f_outcome, f_cycle, f_accesses, f_memories, f_done, f_cycles, a_op, a_into, a_left, a_right, a_register, a_word, a_many, a_latency, a_work, a_place, a_first, a_second, a_awaitsFirst, a_awaitsSecond, a_x, a_y, a_hasRead, a_accessed, a_due, a_writer, a_bankFree, a_packs, a_turn, a_which, a_kinds, a_times, a_unit, a_lost)) :
    ∀ i n (a_packs : Nat → Int32), i ≤ G → i < n → (∀ j, j ≤ i → a_packs j = a0 j) → (∀ j, i < j → j ≤ G → a_packs j = a0 (j - 1)) → wX_look_161 post f_length f_bankTime f_size f_fetchTime f_atWork (nI p) f_ready f_branching f_ended f_outcome f_cycle f_accesses f_memories f_done f_cycles n (nI i) a_op a_into a_left a_right a_register a_word a_many a_latency a_work a_place a_first a_second a_awaitsFirst a_awaitsSecond a_x a_y a_hasRead a_accessed a_due a_writer a_bankFree a_packs a_turn a_which a_kinds a_times a_unit a_lost := by
  intro i
  induction i with
  | zero =>
    intro n a_packs h1 h2 h3 h4
    obtain ⟨n, rfl⟩ : ∃ n', n = n' + 1 := ⟨n - 1, by omega⟩
    rw [wX_look_161]
    dsimp only
    have e2 : nI p / 2 = nI (p / 2) := pk_div (d := 2) (by omega) (by decide) (by decide)
    rw [e2, sh_b (n := p / 2) (by omega)]
    refine br_t (nI_le (a := 0) (b := 0) (by decide) (by decide)) ⟨sh_20, nm_e (K _ pk_us ?_)⟩
    intro j hj hj2
    rw [pk_un (by omega)]; exact h4 j hj hj2
  | succ i ih =>
    intro n a_packs h1 h2 h3 h4
    obtain ⟨n, rfl⟩ : ∃ n', n = n' + 1 := ⟨n - 1, by omega⟩
    rw [wX_look_161]
    dsimp only
    rw [nI_pred, pk_m1, nI_clamp (n := i) (by omega), nI_clamp (n := i + 1) (by omega), h3 i (by omega), hb i (by omega)]
    refine br_f (nI_ge (a := 0) (by omega) (by omega)) ⟨vp_in_nI (by omega) (by decide), vp_in_nI (by omega) (by decide), nm_e (nm_e (ih n _ (by omega) (by omega) ?_ ?_))⟩
    · intro j hj; rw [pk_un (by omega)]; exact h3 j (by omega)
    · intro j hj hj2
      by_cases e : j = i + 1
      · rw [e, pk_us]; rfl
      · rw [pk_un e]; exact h4 j (by omega) hj2
end
section
variable {P : sd_Pg} {D c m : Nat} {post : SX → Prop}
variable {f_length f_bankTime f_size f_fetchTime f_atWork f_pc f_ready f_branching f_ended f_outcome f_cycle f_accesses f_memories f_done f_cycles : Int32}
variable {a_op a_into a_left a_right a_register a_word a_many a_latency a_work a_place a_first a_second a_awaitsFirst a_awaitsSecond a_x a_y a_hasRead a_accessed a_due a_writer a_bankFree a_packs a_turn a_which a_kinds a_times a_unit a_lost : Nat → Int32}
theorem lk_scan {p G : Nat} (hG : G ≤ 4) (hs : f_size = nI G) (hp : p < 200)
    (Kh : ∀ i, i < G → a_packs i = nI (p / 2) → wX_look_122 post (nI i) f_length f_bankTime f_size f_fetchTime f_atWork (nI p) f_ready f_branching f_ended f_outcome f_cycle f_accesses f_memories f_done f_cycles a_op a_into a_left a_right a_register a_word a_many a_latency a_work a_place a_first a_second a_awaitsFirst a_awaitsSecond a_x a_y a_hasRead a_accessed a_due a_writer a_bankFree a_packs a_turn a_which a_kinds a_times a_unit a_lost)
    (Km : (∀ j, j < G → a_packs j ≠ nI (p / 2)) → wX_look_122 post (nI G) f_length f_bankTime f_size f_fetchTime f_atWork (nI p) f_ready f_branching f_ended f_outcome f_cycle f_accesses f_memories f_done f_cycles a_op a_into a_left a_right a_register a_word a_many a_latency a_work a_place a_first a_second a_awaitsFirst a_awaitsSecond a_x a_y a_hasRead a_accessed a_due a_writer a_bankFree a_packs a_turn a_which a_kinds a_times a_unit a_lost) :
    ∀ n i, i ≤ G → G < n + i → (∀ j, j < i → a_packs j ≠ nI (p / 2)) → wX_look_93 post f_length f_bankTime f_size f_fetchTime f_atWork (nI p) f_ready f_branching f_ended f_outcome f_cycle f_accesses f_memories f_done f_cycles a_op a_into a_left a_right a_register a_word a_many a_latency a_work a_place a_first a_second a_awaitsFirst a_awaitsSecond a_x a_y a_hasRead a_accessed a_due a_writer a_bankFree a_packs a_turn a_which a_kinds a_times a_unit a_lost n (nI i) := by
  intro n
  induction n with
  | zero => intro i h1 h2; omega
  | succ n ih =>
    intro i h1 h2 h3
    rw [wX_look_93]
    dsimp only
    by_cases hi : G ≤ i
    · have e : i = G := by omega
      subst e
      exact br_t (by rw [hs]; exact nI_le (Nat.le_refl _) (by omega)) (Km h3)
    have e2 : nI p / 2 = nI (p / 2) := pk_div (d := 2) (by omega) (by decide) (by decide)
    rw [e2, nI_clamp (n := i) (by omega)]
    refine br_f (by rw [hs]; exact nI_ge (by omega) (by omega)) ⟨vp_in_nI (by omega) (by decide), sh_20, ?_⟩
    by_cases z : a_packs i = nI (p / 2)
    · exact br_t z (Kh i (by omega) z)
    · refine br_f z (nm_r (nI_1 i) (ih (i + 1) (by omega) (by omega) ?_))
      intro j hj
      by_cases e : j = i
      · rw [e]; exact z
      · exact h3 j (by omega)
/-- what look leaves -/
def xf_LK (P : sd_Pg) (D m : Nat) (out : Int32) (en rdy oc : Int32) (packs : Nat → Int32) : Prop := (m < D ∧ en = 0 ∧ rdy = nI (sd_co P m) ∧ oc = 0 ∧ xf_PK P (m + 1) packs) ∨ (m = D ∧ en = 1 ∧ oc = out)
def xf_OUT (P : sd_Pg) (D : Nat) (out : Int32) : Prop := (D = 60 ∧ sd_LV P D ∧ out = 1) ∨ (¬ sd_LV P D ∧ out = 0)
theorem lk_main {out : Int32} (H : sd_OK P D) (hm : m ≤ D) (hl : f_length = nI (sd_gs P)) (hs : f_size = nI (sd_gS P)) (hf : f_fetchTime = nI (sd_gf P))
    (hS : xx_ST P a_op a_into a_left a_right a_many a_latency) (hP : xf_PK P m a_packs) (hO : xf_OUT P D out) (hn : sd_nx P m = c + 1)
    (K : ∀ f_ended f_ready f_outcome a_packs, xf_LK P D m out f_ended f_ready f_outcome a_packs → post (f_length, f_bankTime, f_size, f_fetchTime, f_atWork, nI (sd_num P m), f_ready, 0, f_ended, f_outcome, nI c, f_accesses, f_memories, nI m, f_cycles, a_op, a_into, a_left, a_right, a_register, a_word, a_many, a_latency, a_work, a_place, a_first, a_second, a_awaitsFirst, a_awaitsSecond, a_x, a_y, a_hasRead, a_accessed, a_due, a_writer, a_bankFree, a_packs, a_turn, a_which, a_kinds, a_times, a_unit, a_lost)) :
    wpX_look post (f_length, f_bankTime, f_size, f_fetchTime, f_atWork, nI (sd_num P m), f_ready, 0, f_ended, 0, nI c, f_accesses, f_memories, nI m, f_cycles, a_op, a_into, a_left, a_right, a_register, a_word, a_many, a_latency, a_work, a_place, a_first, a_second, a_awaitsFirst, a_awaitsSecond, a_x, a_y, a_hasRead, a_accessed, a_due, a_writer, a_bankFree, a_packs, a_turn, a_which, a_kinds, a_times, a_unit, a_lost) := by
  have V := H.1
  have h24 := V.1
  have hnum := ls_num H hm
  by_cases hmD : m = D
  · rcases hO with ⟨h1, h2, h3⟩ | ⟨h1, h3⟩
    · have hm60 : m = 60 := by omega
      have e : nI m = 60 := by rw [hm60]; rfl
      rw [e] at K ⊢
      have h4 : sd_LV P m := by rw [hmD]; exact h2
      exact lk_long V hl hS h4.1 h4.2 (K _ _ _ _ (Or.inr ⟨hmD, rfl, h3.symm⟩))
    · refine lk_stop V hl (by omega) hS ?_ (K _ _ _ _ (Or.inr ⟨hmD, rfl, h3.symm⟩))
      rw [hmD]
      rcases Nat.lt_or_ge (sd_num P D) (sd_gs P) with z | z
      · refine Or.inr ?_
        rcases Nat.lt_or_ge (sd_go P (sd_num P D)) 10 with z2 | z2
        · exact absurd ⟨z, fun e => by unfold sd_o at e; omega⟩ h1
        · have := (ls_vi V z).2.1; omega
      · exact Or.inl z
  have L := H.2.2 m (by omega)
  have hop : sd_go P (sd_num P m) ≠ 10 := L.2
  have hle := (ls_vi V L.1).2.1
  have hD60 := H.2.1
  have hgS := V.2.2.2.1
  have hgf := V.2.2.2.2.1
  have hnp : sd_num P m < sd_gs P := L.1
  have hco1 : sd_co P m = c + 1 + (if sd_th P m = true then 0 else sd_gf P) := by unfold sd_co; rw [hn]
  have k83 : wX_look_83 post f_length f_bankTime f_size f_fetchTime f_atWork (nI (sd_num P m)) f_ready 0 0 0 (nI c) f_accesses f_memories (nI m) f_cycles a_op a_into a_left a_right a_register a_word a_many a_latency a_work a_place a_first a_second a_awaitsFirst a_awaitsSecond a_x a_y a_hasRead a_accessed a_due a_writer a_bankFree a_packs a_turn a_which a_kinds a_times a_unit a_lost := by
    unfold wX_look_83
    refine br_t rfl ⟨sd_gS P + 1, lk_scan (G := sd_gS P) (by omega) hs (by omega) ?_ ?_ (sd_gS P + 1) 0 (by omega) (by omega) (fun j hj => absurd hj (Nat.not_lt_zero _))⟩
    · intro i hi e
      obtain ⟨t1, t2⟩ := xf_hit H hm hP hi e
      unfold wX_look_122
      refine nm_r (nI_1 c) (br_f (by rw [hs]; exact nI_ge hi (by omega)) (K _ _ _ _ (Or.inl ⟨by omega, rfl, ?_, rfl, t2⟩)))
      rw [hco1, if_pos t1]
    · intro no
      unfold wX_look_122
      refine nm_r (nI_1 c) (br_t (by rw [hs]; exact nI_le (Nat.le_refl _) (by omega)) (nm_r (e' := nI (c + 1 + sd_gf P)) (by rw [hf, nI_add]) (nm_r (e' := nI (sd_gS P - 1)) (by rw [hs]; exact pk_sub (b := 1) (by omega)) ⟨sd_gS P, ?_⟩)))
      refine lk_shift (a0 := a_packs) (G := sd_gS P - 1) (by omega) (by omega) ?_ ?_ (sd_gS P - 1) (sd_gS P) a_packs (by omega) (by omega) (fun j _ => rfl) (fun j h1 h2 => by omega)
      · intro j hj
        rw [hP j (by omega)]
        split
        · have := ls_pk H hm (sd_fc P m - 1 - j)
          exact sh_b0 (by omega)
        · exact sh_bm0
      · intro packs' h0 h1
        obtain ⟨t1, t2⟩ := xf_miss H hm hP no h0 (fun j hj hj2 => h1 j hj (by omega))
        refine K _ _ _ _ (Or.inl ⟨by omega, rfl, ?_, rfl, t2⟩)
        rw [hco1, if_neg t1]
  have k57 : wX_look_57 post 0 0 f_length f_bankTime f_size f_fetchTime f_atWork (nI (sd_num P m)) f_ready 0 f_ended 0 (nI c) f_accesses f_memories (nI m) f_cycles a_op a_into a_left a_right a_register a_word a_many a_latency a_work a_place a_first a_second a_awaitsFirst a_awaitsSecond a_x a_y a_hasRead a_accessed a_due a_writer a_bankFree a_packs a_turn a_which a_kinds a_times a_unit a_lost := by
    unfold wX_look_57
    exact ⟨rfl, rfl, br_t rfl k83⟩
  have k30 : wX_look_30 post 0 f_length f_bankTime f_size f_fetchTime f_atWork (nI (sd_num P m)) f_ready 0 f_ended 0 (nI c) f_accesses f_memories (nI m) f_cycles a_op a_into a_left a_right a_register a_word a_many a_latency a_work a_place a_first a_second a_awaitsFirst a_awaitsSecond a_x a_y a_hasRead a_accessed a_due a_writer a_bankFree a_packs a_turn a_which a_kinds a_times a_unit a_lost := br_t rfl (br_t rfl (br_f (fun z => by have := (nI_eq (a := m) (b := 60) (by omega) (by decide)).mp z; omega) k57))
  unfold wpX_look
  dsimp only
  refine br_f (by rw [hl]; exact nI_ge (by omega) (by omega)) ⟨vp_in_nI (by omega) (by decide), br_f ?_ k30⟩
  rw [nI_clamp (n := sd_num P m) (by omega), (hS.1 _ L.1).1]
  exact fun z => hop ((nI_eq (b := 10) (by omega) (by decide)).mp z)
end
end
section
/-! leaving: the pure part -/
section
variable {P : sd_Pg} {D c m : Nat}
def xf_fr (P : sd_Pg) (k : Nat) : Nat := if k = 0 then 1 else sd_is P (k - 1) + 1
def xf_S0 (P : sd_Pg) (n : Nat) : Nat := sd_sm (fun j => sd_nx P j - xf_fr P j) n
theorem xf_frS {k : Nat} : xf_fr P (k + 1) = sd_is P k + 1 := by unfold xf_fr; rw [if_neg (by omega), Nat.add_sub_cancel]
theorem xf_S0S {n : Nat} : xf_S0 P (n + 1) = xf_S0 P n + (sd_nx P n - xf_fr P n) := rfl
/-- the front: waiting to issue m; a branch at work; all issued -/
def xf_F (P : sd_Pg) (D m T : Nat) (out pc ready br en oc : Int32) (packs : Nat → Int32) (s0 : Nat) : Prop :=
  (m < D ∧ (0 < m → sd_kd P (m - 1) = 5 → xx_wt P (m - 1) < T) ∧ pc = nI (sd_num P m) ∧ ready = nI (sd_co P m) ∧ br = 0 ∧ en = 0 ∧ oc = 0 ∧ xf_PK P (m + 1) packs ∧ s0 = xf_S0 P (m + 1))
  ∨ (0 < m ∧ sd_kd P (m - 1) = 5 ∧ T ≤ xx_wt P (m - 1) ∧ pc = nI (sd_num P (m - 1) + 1) ∧ br = 1 ∧ en = 1 ∧ oc = 0 ∧ xf_PK P m packs ∧ s0 = xf_S0 P m)
  ∨ (m = D ∧ (0 < m → sd_kd P (m - 1) = 5 → xx_wt P (m - 1) < T) ∧ br = 0 ∧ en = 1 ∧ oc = out ∧ s0 = xf_S0 P D)
def xl_I (P : sd_Pg) (D m T R W : Nat) (out : Int32) (s1 s2 s3 s4 s5 s6 : Nat) (f_atWork f_pc f_ready f_branching f_ended f_outcome f_cycles : Int32) (a_register a_work a_awaitsFirst a_awaitsSecond a_writer a_packs a_times a_lost : Nat → Int32) : Prop :=
  xx_Wk P m T a_work ∧ xx_Aw P m T a_awaitsFirst a_awaitsSecond ∧ xx_Wr P m T a_writer ∧ xx_TM P m T R W a_times ∧ xx_RG P D T a_register ∧ xx_CY P m T f_cycles ∧ f_atWork = nI (xx_nw P m T) ∧ ∃ s0, xf_F P D m T out f_pc f_ready f_branching f_ended f_outcome a_packs s0 ∧ xx_LO a_lost s0 s1 s2 s3 s4 s5 s6
/-- later clocks with nobody between -/
theorem xl_skip {T T' R W s1 s2 s3 s4 s5 s6 : Nat} {out f_atWork f_pc f_ready f_branching f_ended f_outcome f_cycles : Int32} {a_register a_work a_awaitsFirst a_awaitsSecond a_writer a_packs a_times a_lost : Nat → Int32} (H : xx_B P D c m)
    (E : ∀ j, j < D → (xx_wt P j < T ↔ xx_wt P j < T'))
    (I : xl_I P D m T R W out s1 s2 s3 s4 s5 s6 f_atWork f_pc f_ready f_branching f_ended f_outcome f_cycles a_register a_work a_awaitsFirst a_awaitsSecond a_writer a_packs a_times a_lost) :
    xl_I P D m T' R W out s1 s2 s3 s4 s5 s6 f_atWork f_pc f_ready f_branching f_ended f_outcome f_cycles a_register a_work a_awaitsFirst a_awaitsSecond a_writer a_packs a_times a_lost := by
  have mD := H.2.1
  have EL : ∀ j, xx_L P m T j ↔ xx_L P m T' j := by
    intro j
    unfold xx_L
    constructor
    · intro ⟨h1, h2⟩; have := E j (by omega); exact ⟨h1, by omega⟩
    · intro ⟨h1, h2⟩; have := E j (by omega); exact ⟨h1, by omega⟩
  have EA : ∀ n r v, n ≤ m → xx_AW P T n r v → xx_AW P T' n r v := by
    intro n r v hn h
    rcases h with ⟨j, j1, j2, j3, j4, j5⟩ | ⟨h1, h2⟩
    · have := E j (by omega); exact Or.inl ⟨j, j1, j2, j3, by omega, j5⟩
    · exact Or.inr ⟨h1, fun j hj e h8 => (E j (by omega)).mp (h2 j hj e h8)⟩
  obtain ⟨h1, h2, h3, h4, h5, h6, h7, s0, h8, h9⟩ := I
  refine ⟨?_, ?_, ?_, ?_, ?_, ?_, ?_, s0, ?_, h9⟩
  · intro u hu
    rcases h1 u hu with ⟨w1, w2⟩ | ⟨k, hk, w⟩
    · exact Or.inl ⟨w1, fun k hk => w2 k ((EL k).mpr hk)⟩
    · exact Or.inr ⟨k, (EL k).mp hk, w⟩
  · intro k hk
    have h := h2 k ((EL k).mpr hk)
    have := hk.1
    exact ⟨EA _ _ _ (by omega) h.1, EA _ _ _ (by omega) h.2⟩
  · exact fun r hr => EA _ _ _ (Nat.le_refl _) (h3 r hr)
  · intro k hk
    obtain ⟨t1, t2, t3, t4⟩ := h4 k hk
    exact ⟨t1, t2, t3, fun z => t4 ((E k (by omega)).mpr z)⟩
  · intro k r hk h
    exact h5 k r hk (fun j hj e h8 => (h j hj e h8).trans (E j hj).symm)
  · obtain ⟨q, q1, q2, q3, q4⟩ := h6
    refine ⟨q, q1, q2, fun k hk z => q3 k hk ((E k (by omega)).mpr z), ?_⟩
    rcases q4 with z | ⟨k, hk, z, e⟩
    · exact Or.inl z
    · exact Or.inr ⟨k, hk, (E k (by omega)).mp z, e⟩
  · rw [h7]
    refine congrArg nI (sd_sm_congr ?_)
    intro j hj
    have := E j (by omega)
    by_cases z : T ≤ xx_wt P j
    · rw [if_pos z, if_pos (by omega)]
    · rw [if_neg z, if_neg (by omega)]
  · rcases h8 with ⟨a1, a2, a3⟩ | ⟨b1, b2, b3, b4⟩ | ⟨c1, c2, c3⟩
    · exact Or.inl ⟨a1, fun z1 z2 => (E _ (by omega)).mp (a2 z1 z2), a3⟩
    · have := E (m - 1) (by omega)
      exact Or.inr (Or.inl ⟨b1, b2, by omega, b4⟩)
    · exact Or.inr (Or.inr ⟨c1, fun z1 z2 => (E _ (by omega)).mp (c2 z1 z2), c3⟩)
section
variable {u k : Nat}
theorem xl_E (H : xx_B P D c m) (hu : u < 18) (hk : k < m) (hp : sd_pos P k = u) (hw : sd_wr P k = c) {j : Nat} (hj : j < D) (hne : j ≠ k) : xx_wt P j < 18 * c + u ↔ xx_wt P j < 18 * c + (u + 1) := by
  have V := H.1.1
  have pj := ls_pos (k := j) V
  have hi := ls_iw (k := j) V
  constructor
  · intro h; omega
  · intro h
    rcases Nat.lt_or_ge (xx_wt P j) (18 * c + u) with z | z
    · exact z
    · unfold xx_wt at h z
      have hm : j < m := by
        rcases Nat.lt_or_ge j m with z2 | z2
        · exact z2
        · have := H.2.2.2 j z2 hj; omega
      exact absurd (xx_uq H (Nat.le_refl _) ⟨hm, by unfold xx_wt; omega⟩ ⟨hk, by unfold xx_wt; omega⟩ (by omega)) hne
theorem xl_waw (H : xx_B P D c m) (hk : k < m) (hw : sd_wr P k = c) (h8 : sd_tg P k < 8) {j : Nat} (hj : j < m) (hne : j ≠ k) (e : sd_tg P j = sd_tg P k) : xx_wt P j < 18 * c := by
  have V := H.1.1
  have pj := ls_pos (k := j) V
  have h1 := H.2.2.1 k hk
  have h2 := H.2.2.1 j hj
  rcases Nat.lt_trichotomy j k with z | z | z
  · have := ls_waw (P := P) z e h8; unfold xx_wt; omega
  · exact absurd z hne
  · have := ls_waw (P := P) z e.symm (by omega); omega
theorem xl_AW {n r : Nat} {v : Int32} (H : xx_B P D c m) (hu : u < 18) (hk : k < m) (hp : sd_pos P k = u) (hw : sd_wr P k = c) (hn : n ≤ m) (h : xx_AW P (18 * c + u) n r v) : xx_AW P (18 * c + (u + 1)) n r (if v = nI u then -1 else v) := by
  have V := H.1.1
  have mD := H.2.1
  rcases h with ⟨j, j1, j2, j3, j4, j5⟩ | ⟨h1, h2⟩
  · have pj := ls_pos (k := j) V
    by_cases z : j = k
    · subst z
      rw [if_pos (by rw [j5, hp])]
      refine Or.inr ⟨rfl, ?_⟩
      intro i hi e h8
      by_cases z2 : i = j
      · rw [z2]; unfold xx_wt; omega
      · have := xl_waw H hk hw (by omega) (show i < m by omega) z2 (by omega); omega
    · have hne : ¬ v = nI u := by
        intro e
        rw [j5] at e
        have e2 := (nI_eq (by omega) (by omega)).mp e
        exact z (xx_uq H (show 18 * c ≤ 18 * c + u by omega) ⟨by omega, j4⟩ ⟨hk, by unfold xx_wt; omega⟩ (by omega))
      rw [if_neg hne]
      have := xl_E H hu hk hp hw (show j < D by omega) z
      exact Or.inl ⟨j, j1, j2, j3, by omega, j5⟩
  · have hne : ¬ v = nI u := by rw [h1]; exact fun e => sd_m1n (by omega) e.symm
    rw [if_neg hne]
    exact Or.inr ⟨h1, fun j hj e h8 => by have := h2 j hj e h8; omega⟩
/-- the same where the one that leaves doesn't write r -/
theorem xl_AWn {n r : Nat} {v : Int32} (H : xx_B P D c m) (hu : u < 18) (hk : k < m) (hp : sd_pos P k = u) (hw : sd_wr P k = c) (hn : n ≤ m) (hr : r < 8 → sd_tg P k ≠ r) (h : xx_AW P (18 * c + u) n r v) : xx_AW P (18 * c + (u + 1)) n r v := by
  have mD := H.2.1
  rcases h with ⟨j, j1, j2, j3, j4, j5⟩ | ⟨h1, h2⟩
  · have z : j ≠ k := fun e => hr j3 (by rw [← e]; exact j2)
    have := xl_E H hu hk hp hw (show j < D by omega) z
    exact Or.inl ⟨j, j1, j2, j3, by omega, j5⟩
  · exact Or.inr ⟨h1, fun j hj e h8 => by have := h2 j hj e h8; omega⟩
theorem xl_rgc {a b r : Nat} (hab : a ≤ b) (h : ∀ j, a ≤ j → j < b → sd_tg P j < 8 → sd_tg P j ≠ r) : sd_RG P b r = sd_RG P a r := by
  induction b with
  | zero => have e : a = 0 := by omega
            rw [e]
  | succ b ih =>
    by_cases e : a = b + 1
    · rw [e]
    · have ih' := ih (by omega) (fun j h1 h2 => h j h1 (by omega))
      rw [sd_RGS]
      by_cases z : sd_tg P b < 8
      · rw [if_pos z, pk_un (fun e2 => h b (by omega) (by omega) z e2.symm)]; exact ih'
      · rw [if_neg z]; exact ih'
theorem xl_RG {reg reg' : Nat → Int32} (H : xx_B P D c m) (hu : u < 18) (hk : k < m) (hp : sd_pos P k = u) (hw : sd_wr P k = c)
    (hr : (sd_tg P k < 8 ∧ reg' = upd reg (sd_tg P k) (sd_vv P k)) ∨ (¬ sd_tg P k < 8 ∧ reg' = reg))
    (h : xx_RG P D (18 * c + u) reg) : xx_RG P D (18 * c + (u + 1)) reg' := by
  have V := H.1.1
  have mD := H.2.1
  intro k' r hk' hc
  by_cases z : r < 8 ∧ sd_tg P k = r
  · obtain ⟨r8, e⟩ := z
    have hlt : k < k' := (hc k (by omega) e r8).mpr (by unfold xx_wt; omega)
    rcases hr with ⟨_, e2⟩ | ⟨h8, _⟩
    · rw [e2, ← e, pk_us]
      rw [xl_rgc (a := k + 1) hlt, sd_RGS, if_pos (by omega), pk_us]
      intro j h1 h2 j8 je
      have h3 := (hc j (by omega) (by omega) r8).mp h2
      have h4 := ls_waw (P := P) (show k < j by omega) je.symm j8
      have h5 := ls_iw (k := j) V
      unfold xx_wt at h3; omega
    · omega
  · have e2 : reg' r = reg r := by
      rcases hr with ⟨h8, e2⟩ | ⟨h8, e2⟩
      · rw [e2, pk_un (fun e => z ⟨by omega, e.symm⟩)]
      · rw [e2]
    rw [e2]
    refine h k' r hk' ?_
    intro j hj ej r8
    rw [hc j hj ej r8]
    exact (xl_E H hu hk hp hw hj (fun e => z ⟨r8, by rw [← e]; exact ej⟩)).symm
theorem xl_nw (H : xx_B P D c m) (hu : u < 18) (hk : k < m) (hp : sd_pos P k = u) (hw : sd_wr P k = c) : xx_nw P m (18 * c + u) = xx_nw P m (18 * c + (u + 1)) + 1 := by
  have mD := H.2.1
  refine sd_sm_bump hk ?_ ?_
  · have e : xx_wt P k = 18 * c + u := by unfold xx_wt; omega
    rw [if_pos (by omega), if_neg (by omega)]
  · intro j hj hne
    have := xl_E H hu hk hp hw (show j < D by omega) hne
    by_cases z : 18 * c + u ≤ xx_wt P j
    · rw [if_pos z, if_pos (by omega)]
    · rw [if_neg z, if_neg (by omega)]
/-- a branch at work is the last one issued -/
theorem xl_last (H : xx_B P D c m) (hk : k < m) (hw : sd_wr P k = c) (h5 : sd_kd P k = 5) : k = m - 1 := by
  have V := H.1.1
  rcases Nat.lt_or_ge k (m - 1) with z | z
  · have h1 := ls_nx5 (P := P) h5
    have h2 := ls_nxco (P := P) (k := k + 1)
    have h3 := ls_co (P := P) (k := k + 1)
    have h4 := H.2.2.1 (k + 1) (by omega)
    omega
  · omega
/-- all but the front, when k leaves -/
theorem xl_do {R W : Nat} {a_register a_work aF aS a_writer a_times reg' wr' : Nat → Int32} {aF' aS' : Nat → Int32} (H : xx_B P D c m) (hu : u < 18) (hk : k < m) (hp : sd_pos P k = u) (hw : sd_wr P k = c)
    (h1 : xx_Wk P m (18 * c + u) a_work) (h2 : xx_Aw P m (18 * c + u) aF aS) (h3 : xx_Wr P m (18 * c + u) a_writer) (h4 : xx_TM P m (18 * c + u) R W a_times) (h5 : xx_RG P D (18 * c + u) a_register)
    (hr : (sd_tg P k < 8 ∧ reg' = upd a_register (sd_tg P k) (sd_vv P k) ∧ wr' = upd a_writer (sd_tg P k) (-1) ∧ ∀ v, v < 18 → 0 ≤ a_work v → aF' v = (if aF v = nI u then -1 else aF v) ∧ aS' v = (if aS v = nI u then -1 else aS v)) ∨ (¬ sd_tg P k < 8 ∧ reg' = a_register ∧ wr' = a_writer ∧ aF' = aF ∧ aS' = aS)) :
    xx_Wk P m (18 * c + (u + 1)) (upd a_work u (-1)) ∧ xx_Aw P m (18 * c + (u + 1)) aF' aS' ∧ xx_Wr P m (18 * c + (u + 1)) wr' ∧ xx_TM P m (18 * c + (u + 1)) R W (upd a_times (4 * k + 3) (nI c)) ∧ xx_RG P D (18 * c + (u + 1)) reg' ∧ xx_CY P m (18 * c + (u + 1)) (nI c) := by
  have V := H.1.1
  have mD := H.2.1
  have ek : xx_wt P k = 18 * c + u := by unfold xx_wt; omega
  have Lk : xx_L P m (18 * c + u) k := ⟨hk, by omega⟩
  refine ⟨?_, ?_, ?_, ?_, ?_, ?_⟩
  · intro v hv
    by_cases z : v = u
    · refine Or.inl ⟨by rw [z, pk_us], ?_⟩
      intro j hj e
      have e2 := xx_uq H (show 18 * c ≤ 18 * c + u by omega) (xx_Lm (by omega) hj) Lk (by omega)
      subst e2
      have := hj.2; omega
    · rw [pk_un z]
      rcases h1 v hv with ⟨w1, w2⟩ | ⟨j, hj, hpj, w⟩
      · exact Or.inl ⟨w1, fun j hj => w2 j (xx_Lm (by omega) hj)⟩
      · have hne : j ≠ k := fun e => z (by rw [← hpj, e, hp])
        have := xl_E H hu hk hp hw (show j < D by have := hj.1; omega) hne
        have h7 := hj.2
        exact Or.inr ⟨j, ⟨hj.1, by omega⟩, hpj, w⟩
  · intro j hj
    have hj' : xx_L P m (18 * c + u) j := xx_Lm (by omega) hj
    have pj := ls_pos (k := j) V
    have hjm := hj.1
    obtain ⟨g1, g2⟩ := h2 j hj'
    rcases hr with ⟨h8, _, _, hf⟩ | ⟨h8, _, _, e1, e2⟩
    · have hwk : 0 ≤ a_work (sd_pos P j) := by
        rcases h1 (sd_pos P j) pj with ⟨w1, w2⟩ | ⟨i, hi, hpi, w⟩
        · exact absurd rfl (w2 j hj')
        · have hD := H.1.2.1
          have := hi.1
          rw [w]; exact nI_pos' (by omega)
      obtain ⟨f1, f2⟩ := hf _ pj hwk
      rw [f1, f2]
      exact ⟨xl_AW H hu hk hp hw (by omega) g1, xl_AW H hu hk hp hw (by omega) g2⟩
    · rw [e1, e2]
      exact ⟨xl_AWn H hu hk hp hw (by omega) (by omega) g1, xl_AWn H hu hk hp hw (by omega) (by omega) g2⟩
  · intro r hr8
    rcases hr with ⟨h8, _, e1, _⟩ | ⟨h8, _, e1, _⟩
    · rw [e1]
      by_cases z : r = sd_tg P k
      · rw [z, pk_us]
        refine Or.inr ⟨rfl, ?_⟩
        intro j hj e _
        by_cases z2 : j = k
        · rw [z2]; omega
        · have := xl_waw H hk hw h8 hj z2 e; omega
      · rw [pk_un z]
        exact xl_AWn H hu hk hp hw (Nat.le_refl _) (fun _ e => z e.symm) (h3 r hr8)
    · rw [e1]
      exact xl_AWn H hu hk hp hw (Nat.le_refl _) (by omega) (h3 r hr8)
  · intro j hj
    obtain ⟨t1, t2, t3, t4⟩ := h4 j hj
    refine ⟨?_, ?_, ?_, ?_⟩
    · rw [pk_un (by omega)]; exact t1
    · intro h; rw [pk_un (by omega)]; exact t2 h
    · intro h; rw [pk_un (by omega)]; exact t3 h
    · intro h
      by_cases e : j = k
      · rw [e, pk_us, hw]
      · have := xl_E H hu hk hp hw (show j < D by omega) e
        rw [pk_un (by omega)]; exact t4 (by omega)
  · refine xl_RG H hu hk hp hw ?_ h5
    rcases hr with ⟨h8, e, _⟩ | ⟨h8, e, _⟩
    · exact Or.inl ⟨h8, e⟩
    · exact Or.inr ⟨h8, e⟩
  · have := ls_w H.1 (show k < D by omega)
    refine ⟨c, rfl, by omega, ?_, Or.inr ⟨k, hk, by omega, hw⟩⟩
    intro j hj h
    unfold xx_wt at h; omega
/-- the front, when k that isn't a branch leaves -/
theorem xl_Fn {out pc ready br en oc : Int32} {packs : Nat → Int32} {s0 : Nat} (H : xx_B P D c m) (hu : u < 18) (hk : k < m) (hp : sd_pos P k = u) (hw : sd_wr P k = c) (h5 : ¬ sd_kd P k = 5)
    (h : xf_F P D m (18 * c + u) out pc ready br en oc packs s0) : xf_F P D m (18 * c + (u + 1)) out pc ready br en oc packs s0 := by
  have mD := H.2.1
  rcases h with ⟨a1, a2, a3⟩ | ⟨b1, b2, b3, b4⟩ | ⟨c1, c2, c3⟩
  · exact Or.inl ⟨a1, fun z1 z2 => by have := a2 z1 z2; omega, a3⟩
  · have := xl_E H hu hk hp hw (show m - 1 < D by omega) (fun e => h5 (by rw [← e]; exact b2))
    exact Or.inr (Or.inl ⟨b1, b2, by omega, b4⟩)
  · exact Or.inr (Or.inr ⟨c1, fun z1 z2 => by have := c2 z1 z2; omega, c3⟩)
/-- when the branch leaves -/
theorem xl_Fb {out pc ready br en oc : Int32} {packs : Nat → Int32} {s0 : Nat} (H : xx_B P D c m) (hu : u < 18) (hk : k < m) (hp : sd_pos P k = u) (hw : sd_wr P k = c) (h5 : sd_kd P k = 5)
    (h : xf_F P D m (18 * c + u) out pc ready br en oc packs s0) : m = k + 1 ∧ pc = nI (sd_num P k + 1) ∧ br = 1 ∧ en = 1 ∧ oc = 0 ∧ xf_PK P m packs ∧ s0 = xf_S0 P m ∧ sd_nx P m = c + 1 := by
  have e := xl_last H hk hw h5
  have ek : xx_wt P k = 18 * c + u := by unfold xx_wt; omega
  have em : m = k + 1 := by omega
  unfold xf_F at h
  rw [← e] at h
  rcases h with ⟨a1, a2, a3⟩ | ⟨b1, b2, b3, b4, b5, b6, b7, b8, b9⟩ | ⟨c1, c2, c3⟩
  · have := a2 (by omega) h5; omega
  · refine ⟨em, b4, b5, b6, b7, b8, b9, ?_⟩
    rw [em, ls_nx5 h5, hw]
  · have := c2 (by omega) h5; omega
theorem xl_Fc {out rdy en oc : Int32} {packs : Nat → Int32} (H : xx_B P D c m) (hu : u < 18) (hk : k < m) (hp : sd_pos P k = u) (hw : sd_wr P k = c) (h5 : sd_kd P k = 5)
    (h : xf_LK P D m out en rdy oc packs) : xf_F P D m (18 * c + (u + 1)) out (nI (sd_num P m)) rdy 0 en oc packs (if en = 0 then xf_S0 P m + (c - sd_is P k) else xf_S0 P m) := by
  have V := H.1.1
  have ek : xx_wt P k = 18 * c + u := by unfold xx_wt; omega
  have e := xl_last H hk hw h5
  have em : m = k + 1 := by omega
  have hi := ls_iw (k := k) V
  rcases h with ⟨l1, l2, l3, l4, l5⟩ | ⟨l1, l2, l3⟩
  · refine Or.inl ⟨l1, fun _ _ => by rw [← e]; omega, rfl, l3, rfl, l2, l4, l5, ?_⟩
    rw [if_pos l2, xf_S0S, em, ls_nx5 h5, xf_frS]; omega
  · refine Or.inr (Or.inr ⟨l1, fun _ _ => by rw [← e]; omega, rfl, l2, l3, ?_⟩)
    rw [l2, if_neg sh_10, l1]
end
end
end
section
/-! leaving: the walk -/
theorem lv_result {post : Int32 → Prop} {o : Nat} {a p q : Int32} (ho : o ≤ 10) (K : post (sd_rs o a p q)) : wpX_result post (nI o) a p q := by
  unfold sd_rs at K
  unfold wpX_result
  refine br_f (nI_pos (by omega)) ?_
  by_cases h6 : 6 ≤ o
  · rw [if_neg (by omega), if_neg (by omega), if_neg (by omega), if_neg (by omega), if_neg (by omega), if_neg (by omega)] at K
    exact br_t (nI_lt (a := 5) (by omega) (by omega)) K
  refine br_f (nI_nlt (b := o) (a := 5) (by omega) (by decide)) ?_
  by_cases h0 : o = 0
  · subst h0; exact br_t rfl (by rw [if_pos rfl] at K; exact K)
  rw [if_neg h0] at K
  refine br_f (fun z => h0 ((nI_eq (b := 0) (by omega) (by decide)).mp z)) ?_
  by_cases h1 : o = 1
  · subst h1; exact br_t rfl (by rw [if_pos rfl] at K; exact K)
  rw [if_neg h1] at K
  refine br_f (fun z => h1 ((nI_eq (b := 1) (by omega) (by decide)).mp z)) ?_
  by_cases h2 : o = 2
  · subst h2; exact br_t rfl (by rw [if_pos rfl] at K; exact K)
  rw [if_neg h2] at K
  refine br_f (fun z => h2 ((nI_eq (b := 2) (by omega) (by decide)).mp z)) ?_
  by_cases h3 : o = 3
  · subst h3
    rw [if_pos rfl] at K
    exact br_t rfl (br_c (fun z => by rw [if_pos z] at K; exact K) (fun z => by rw [if_neg z] at K; exact K))
  rw [if_neg h3] at K
  refine br_f (fun z => h3 ((nI_eq (b := 3) (by omega) (by decide)).mp z)) ?_
  by_cases h4 : o = 4
  · subst h4; exact br_t rfl (by rw [if_pos rfl] at K; exact K)
  rw [if_neg h4] at K
  refine br_f (fun z => h4 ((nI_eq (b := 4) (by omega) (by decide)).mp z)) ?_
  have h5 : o = 5 := by omega
  subst h5
  rw [if_pos rfl] at K
  exact br_t rfl (br_c (fun z => by rw [if_pos z] at K; exact K) (fun z => ⟨z, by rw [if_neg z] at K; exact K⟩))
section
variable {u : Nat} {x2 : Int32} {post : SX → Prop}
variable {f_length f_bankTime f_size f_fetchTime f_atWork f_pc f_ready f_branching f_ended f_outcome f_cycle f_accesses f_memories f_done f_cycles : Int32}
variable {a_op a_into a_left a_right a_register a_word a_many a_latency a_work a_place a_first a_second a_x a_y a_hasRead a_accessed a_due a_writer a_bankFree a_packs a_turn a_which a_kinds a_times a_unit a_lost : Nat → Int32}
theorem lv_aw {aF aS : Nat → Int32} (hu : u < 18)
    (K : ∀ a_awaitsFirst a_awaitsSecond, (∀ v, v < 18 → 0 ≤ a_work v → a_awaitsFirst v = (if aF v = nI u then -1 else aF v) ∧ a_awaitsSecond v = (if aS v = nI u then -1 else aS v)) → wX_leave_152 post (nI u) x2 f_length f_bankTime f_size f_fetchTime f_atWork f_pc f_ready f_branching f_ended f_outcome f_cycle f_accesses f_memories f_done f_cycles a_op a_into a_left a_right a_register a_word a_many a_latency a_work a_place a_first a_second a_awaitsFirst a_awaitsSecond a_x a_y a_hasRead a_accessed a_due a_writer a_bankFree a_packs a_turn a_which a_kinds a_times a_unit a_lost) :
    ∀ n i (a_awaitsFirst a_awaitsSecond : Nat → Int32), i ≤ 18 → 18 < n + i → (∀ v, v < 18 → (v < i → 0 ≤ a_work v → a_awaitsFirst v = (if aF v = nI u then -1 else aF v) ∧ a_awaitsSecond v = (if aS v = nI u then -1 else aS v)) ∧ (i ≤ v → a_awaitsFirst v = aF v ∧ a_awaitsSecond v = aS v)) → wX_leave_88 post (nI u) x2 f_length f_bankTime f_size f_fetchTime f_atWork f_pc f_ready f_branching f_ended f_outcome f_cycle f_accesses f_memories f_done f_cycles n (nI i) a_op a_into a_left a_right a_register a_word a_many a_latency a_work a_place a_first a_second a_awaitsFirst a_awaitsSecond a_x a_y a_hasRead a_accessed a_due a_writer a_bankFree a_packs a_turn a_which a_kinds a_times a_unit a_lost := by
  intro n
  induction n with
  | zero => intro i _ _ h1 h2; omega
  | succ n ih =>
    intro i a_awaitsFirst a_awaitsSecond h1 h2 I
    rw [wX_leave_88]
    dsimp only
    by_cases hi : 18 ≤ i
    · have e : i = 18 := by omega
      subst e
      exact br_t (nI_le (a := 18) (b := 18) (by decide) (by decide)) (K _ _ (fun v hv h => (I v hv).1 hv h))
    have ei := nI_clamp (n := i) (by omega)
    have ii : vp_in (nI i) 18 := vp_in_nI (by omega) (by decide)
    rw [ei]
    refine br_f (nI_ge (b := 18) (by omega) (by decide)) ⟨ii, ?_⟩
    have step : ∀ (b1 b2 : Nat → Int32), (∀ v, v ≠ i → b1 v = a_awaitsFirst v ∧ b2 v = a_awaitsSecond v) → (0 ≤ a_work i → b1 i = (if aF i = nI u then -1 else aF i) ∧ b2 i = (if aS i = nI u then -1 else aS i)) → wX_leave_88 post (nI u) x2 f_length f_bankTime f_size f_fetchTime f_atWork f_pc f_ready f_branching f_ended f_outcome f_cycle f_accesses f_memories f_done f_cycles n (nI (i + 1)) a_op a_into a_left a_right a_register a_word a_many a_latency a_work a_place a_first a_second b1 b2 a_x a_y a_hasRead a_accessed a_due a_writer a_bankFree a_packs a_turn a_which a_kinds a_times a_unit a_lost := by
      intro b1 b2 g1 g2
      refine ih (i + 1) b1 b2 (by omega) (by omega) ?_
      intro v hv
      by_cases e : v = i
      · refine ⟨fun _ h => ?_, fun h => by omega⟩
        subst e; exact g2 h
      · rw [(g1 v e).1, (g1 v e).2]
        exact ⟨fun h => (I v hv).1 (by omega), fun h => (I v hv).2 (by omega)⟩
    obtain ⟨f1, f2⟩ := (I i (by omega)).2 (Nat.le_refl _)
    have second : ∀ (b1 : Nat → Int32), (∀ v, v ≠ i → b1 v = a_awaitsFirst v) → b1 i = (if aF i = nI u then -1 else aF i) → wX_leave_127 post (wX_leave_88 post (nI u) x2 f_length f_bankTime f_size f_fetchTime f_atWork f_pc f_ready f_branching f_ended f_outcome f_cycle f_accesses f_memories f_done f_cycles n) (nI u) x2 (nI i) f_length f_bankTime f_size f_fetchTime f_atWork f_pc f_ready f_branching f_ended f_outcome f_cycle f_accesses f_memories f_done f_cycles a_op a_into a_left a_right a_register a_word a_many a_latency a_work a_place a_first a_second b1 a_awaitsSecond a_x a_y a_hasRead a_accessed a_due a_writer a_bankFree a_packs a_turn a_which a_kinds a_times a_unit a_lost := by
      intro b1 g1 g2
      unfold wX_leave_127
      rw [ei, sh_bm0, f2]
      refine ⟨ii, ?_⟩
      by_cases z : aS i = nI u
      · refine br_t z ⟨ii, nm_e (nm_r (nI_1 i) (step b1 _ (fun v hv => ⟨g1 v hv, pk_un hv⟩) (fun _ => ⟨g2, ?_⟩)))⟩
        rw [pk_us, if_pos z]
      · refine br_f z (nm_r (nI_1 i) (step b1 a_awaitsSecond (fun v hv => ⟨g1 v hv, rfl⟩) (fun _ => ⟨g2, ?_⟩)))
        rw [if_neg z, f2]
    refine br_c (fun hw => ⟨ii, ?_⟩) (fun hw => nm_r (nI_1 i) (step _ _ (fun v hv => ⟨rfl, rfl⟩) (fun h => absurd h hw)))
    rw [f1, sh_bm0]
    by_cases z : aF i = nI u
    · refine br_t z ⟨ii, nm_e (second _ (fun v hv => pk_un hv) ?_)⟩
      rw [pk_us, if_pos z]
    · refine br_f z (second _ (fun v hv => rfl) ?_)
      rw [if_neg z, f1]
end
section
variable {P : sd_Pg} {D c m u k s0 s1 s2 s3 s4 s5 s6 : Nat} {out : Int32} {post : SX → Prop}
variable {f_length f_bankTime f_size f_fetchTime f_atWork f_pc f_ready f_branching f_ended f_outcome f_cycle f_accesses f_memories f_done f_cycles : Int32}
variable {a_op a_into a_left a_right a_register a_word a_many a_latency a_work a_place a_first a_second a_awaitsFirst a_awaitsSecond a_x a_y a_hasRead a_accessed a_due a_writer a_bankFree a_packs a_turn a_which a_kinds a_times a_unit a_lost : Nat → Int32}
theorem lv_152 (H : xx_B P D c m) (hu : u < 18) (hk : k < m) (hp : sd_pos P k = u) (hw : sd_wr P k = c)
    (hS : xx_ST P a_op a_into a_left a_right a_many a_latency) (hl : f_length = nI (sd_gs P)) (hs : f_size = nI (sd_gS P)) (hf : f_fetchTime = nI (sd_gf P)) (hO : xf_OUT P D out)
    (hwk : a_work u = nI k) (htm : a_times (4 * k) = nI (sd_is P k)) (hx : a_x u = sd_xs P k)
    (hF : xf_F P D m (18 * c + u) out f_pc f_ready f_branching f_ended f_outcome a_packs s0) (hL : xx_LO a_lost s0 s1 s2 s3 s4 s5 s6)
    (K : ∀ f_pc f_ready f_branching f_ended f_outcome a_packs a_lost s0, xf_F P D m (18 * c + (u + 1)) out f_pc f_ready f_branching f_ended f_outcome a_packs s0 → xx_LO a_lost s0 s1 s2 s3 s4 s5 s6 → post (f_length, f_bankTime, f_size, f_fetchTime, nI (xx_nw P m (18 * c + (u + 1))), f_pc, f_ready, f_branching, f_ended, f_outcome, nI c, f_accesses, f_memories, nI m, f_cycles, a_op, a_into, a_left, a_right, a_register, a_word, a_many, a_latency, upd a_work u (-1), a_place, a_first, a_second, a_awaitsFirst, a_awaitsSecond, a_x, a_y, a_hasRead, a_accessed, a_due, a_writer, a_bankFree, a_packs, a_turn, a_which, a_kinds, a_times, a_unit, a_lost)) :
    wX_leave_152 post (nI u) (nI (sd_num P k)) f_length f_bankTime f_size f_fetchTime (nI (xx_nw P m (18 * c + u))) f_pc f_ready f_branching f_ended f_outcome (nI c) f_accesses f_memories (nI m) f_cycles a_op a_into a_left a_right a_register a_word a_many a_latency a_work a_place a_first a_second a_awaitsFirst a_awaitsSecond a_x a_y a_hasRead a_accessed a_due a_writer a_bankFree a_packs a_turn a_which a_kinds a_times a_unit a_lost := by
  have V := H.1.1
  have mD := H.2.1
  have hD60 := H.1.2.1
  have L := H.1.2.2 k (by omega)
  have h24 := V.1
  have hgs : sd_num P k < 24 := by have := L.1; omega
  have ho := ls_o V L
  have hst := hS.1 _ L.1
  have hop : a_op (sd_num P k) = nI (sd_o P k) := hst.1
  have iu : vp_in (nI u) 18 := vp_in_nI hu (by decide)
  have ip : vp_in (nI (sd_num P k)) 24 := vp_in_nI hgs (by decide)
  unfold wX_leave_152
  rw [nI_clamp (n := u) (by omega), hwk, show (4 : Int32) * nI k = nI (4 * k) from pk_mul 4 k, nI_clamp (n := 4 * k) (by omega), htm, sh_bm0, xl_nw H hu hk hp hw, nI_pred, nI_clamp (n := sd_num P k) (by omega), hop]
  refine ⟨iu, vp_in_nI (by omega) (by decide), nm_e ⟨iu, nm_e (nm_e ⟨ip, ?_⟩)⟩⟩
  by_cases h8 : 8 ≤ sd_o P k
  case neg =>
    refine br_f (nI_ge (b := 8) (by omega) (by decide)) (K _ _ _ _ _ _ _ _ (xl_Fn H hu hk hp hw (fun e => h8 (ls_kd5.mp e)) hF) hL)
  refine br_t (nI_le (a := 8) h8 (by omega)) ⟨ip, ?_⟩
  have h5 : sd_kd P k = 5 := ls_kd5.mpr h8
  obtain ⟨em, e1, e2, e3, e4, e5, e6, e7⟩ := xl_Fb H hu hk hp hw h5 hF
  have hiw := ls_iw (k := k) V
  have hwb := ls_w H.1 (show k < D by omega)
  have k226 : wX_leave_226 post (nI (sd_is P k)) f_length f_bankTime f_size f_fetchTime (nI (xx_nw P m (18 * c + (u + 1)))) (nI (sd_num P m)) f_ready f_branching f_ended 0 (nI c) f_accesses f_memories (nI m) f_cycles a_op a_into a_left a_right a_register a_word a_many a_latency (upd a_work u (-1)) a_place a_first a_second a_awaitsFirst a_awaitsSecond a_x a_y a_hasRead a_accessed a_due a_writer a_bankFree a_packs a_turn a_which a_kinds a_times a_unit a_lost := by
    unfold wX_leave_226
    refine lk_main (out := out) H.1 mD hl hs hf hS e5 hO e7 ?_
    intro f_ended f_ready f_outcome a_packs hlk
    have hFc := xl_Fc H hu hk hp hw h5 hlk
    refine br_c (fun z => nm_e (K _ _ _ _ _ _ _ _ hFc ?_)) (fun z => K _ _ _ _ _ _ _ _ hFc ?_)
    · rw [if_pos z]
      exact xx_LO0 hL (by rw [hL.1, e6, pk_sub (by omega), nI_add])
    · rw [if_neg z, ← e6]; exact hL
  have hvi := (ls_vi V L.1).2.2.2.2.2
  have hnum := sd_numS P k
  rw [← em] at hnum
  have k216 : (sd_o P k = 9 ∨ (sd_o P k = 8 ∧ sd_xs P k = 0)) → wX_leave_216 post (nI (sd_num P k)) (nI (sd_is P k)) f_length f_bankTime f_size f_fetchTime (nI (xx_nw P m (18 * c + (u + 1)))) f_pc f_ready f_branching f_ended 0 (nI c) f_accesses f_memories (nI m) f_cycles a_op a_into a_left a_right a_register a_word a_many a_latency (upd a_work u (-1)) a_place a_first a_second a_awaitsFirst a_awaitsSecond a_x a_y a_hasRead a_accessed a_due a_writer a_bankFree a_packs a_turn a_which a_kinds a_times a_unit a_lost := by
    intro z
    unfold wX_leave_216
    rw [if_pos z] at hnum
    rw [nI_clamp (n := sd_num P k) (by omega), hst.2.2.2]
    refine ⟨ip, nm_r (e' := nI (sd_num P m)) ?_ k226⟩
    rw [hnum]; exact (hvi (by unfold sd_o at z; omega)).2
  rw [e4]
  by_cases z9 : sd_o P k = 9
  · exact br_t (by rw [z9]; rfl) (k216 (Or.inl z9))
  have z8 : sd_o P k = 8 := by omega
  refine br_f (fun z => z9 ((nI_eq (b := 9) (by omega) (by decide)).mp z)) ⟨iu, ?_⟩
  rw [hx]
  by_cases zx : sd_xs P k = 0
  · exact br_t zx (k216 (Or.inr ⟨z8, zx⟩))
  · refine br_f zx ?_
    rw [if_neg (fun z => by rcases z with z | z; exact z9 z; exact zx z.2)] at hnum
    rw [e1, ← hnum]
    exact k226
end
section
variable {P : sd_Pg} {D c m u k R W s1 s2 s3 s4 s5 s6 : Nat} {out : Int32} {post : SX → Prop}
variable {f_length f_bankTime f_size f_fetchTime f_atWork f_pc f_ready f_branching f_ended f_outcome f_cycle f_accesses f_memories f_done f_cycles : Int32}
variable {a_op a_into a_left a_right a_register a_word a_many a_latency a_work a_place a_first a_second a_awaitsFirst a_awaitsSecond a_x a_y a_hasRead a_accessed a_due a_writer a_bankFree a_packs a_turn a_which a_kinds a_times a_unit a_lost : Nat → Int32}
theorem xl_leave (H : xx_B P D c m) (hu : u < 18) (hk : k < m) (hp : sd_pos P k = u) (hw : sd_wr P k = c)
    (hS : xx_ST P a_op a_into a_left a_right a_many a_latency) (hl : f_length = nI (sd_gs P)) (hs : f_size = nI (sd_gS P)) (hf : f_fetchTime = nI (sd_gf P)) (hO : xf_OUT P D out)
    (hU : xx_Un P m (18 * c) a_place a_first a_second a_turn) (hX : xx_XX P m (18 * c) (18 * c + 18) a_x) (hY : xx_YY P m (18 * c) (18 * c + 18) (3 * c + 3) a_y)
    (I : xl_I P D m (18 * c + u) R W out s1 s2 s3 s4 s5 s6 f_atWork f_pc f_ready f_branching f_ended f_outcome f_cycles a_register a_work a_awaitsFirst a_awaitsSecond a_writer a_packs a_times a_lost)
    (K : ∀ f_atWork f_pc f_ready f_branching f_ended f_outcome f_cycles a_register a_work a_awaitsFirst a_awaitsSecond a_writer a_packs a_times a_lost, xl_I P D m (18 * c + (u + 1)) R W out s1 s2 s3 s4 s5 s6 f_atWork f_pc f_ready f_branching f_ended f_outcome f_cycles a_register a_work a_awaitsFirst a_awaitsSecond a_writer a_packs a_times a_lost → post (f_length, f_bankTime, f_size, f_fetchTime, f_atWork, f_pc, f_ready, f_branching, f_ended, f_outcome, nI c, f_accesses, f_memories, nI m, f_cycles, a_op, a_into, a_left, a_right, a_register, a_word, a_many, a_latency, a_work, a_place, a_first, a_second, a_awaitsFirst, a_awaitsSecond, a_x, a_y, a_hasRead, a_accessed, a_due, a_writer, a_bankFree, a_packs, a_turn, a_which, a_kinds, a_times, a_unit, a_lost)) :
    wpX_leave post (f_length, f_bankTime, f_size, f_fetchTime, f_atWork, f_pc, f_ready, f_branching, f_ended, f_outcome, nI c, f_accesses, f_memories, nI m, f_cycles, a_op, a_into, a_left, a_right, a_register, a_word, a_many, a_latency, a_work, a_place, a_first, a_second, a_awaitsFirst, a_awaitsSecond, a_x, a_y, a_hasRead, a_accessed, a_due, a_writer, a_bankFree, a_packs, a_turn, a_which, a_kinds, a_times, a_unit, a_lost) (nI u) := by
  have V := H.1.1
  have mD := H.2.1
  have hD60 := H.1.2.1
  have L := H.1.2.2 k (by omega)
  have h24 := V.1
  have hgs : sd_num P k < 24 := by have := L.1; omega
  have ho := ls_o V L
  have hst := hS.1 _ L.1
  have hop : a_op (sd_num P k) = nI (sd_o P k) := hst.1
  have iu : vp_in (nI u) 18 := vp_in_nI hu (by decide)
  have ip : vp_in (nI (sd_num P k)) 24 := vp_in_nI hgs (by decide)
  have ek : xx_wt P k = 18 * c + u := by unfold xx_wt; omega
  have Lk : xx_L P m (18 * c) k := ⟨hk, by omega⟩
  have Lk' : xx_L P m (18 * c + u) k := ⟨hk, by omega⟩
  have hrw := ls_rw (k := k) V
  have hrt : xx_rt P k < 18 * c + 18 := by unfold xx_rt; omega
  obtain ⟨h1, h2, h3, h4, h5, h6, h7, s0, h8, h9⟩ := I
  subst h7
  have hwk : a_work u = nI k := by
    rcases h1 u hu with ⟨w1, w2⟩ | ⟨j, hj, hpj, w⟩
    · exact absurd hp (w2 k Lk')
    · have e := xx_uq H (show 18 * c ≤ 18 * c + u by omega) hj Lk' (by omega)
      rw [w, e]
  have hpl := (hU k Lk).1
  rw [hp] at hpl
  have hx := hX k Lk hrt
  have hy := hY k Lk hrt
  rw [hp] at hx hy
  have hyv : a_y u = sd_yv P k := by
    rw [hy]
    split
    · rfl
    · rename_i z
      have h4 : sd_kd P k ≠ 4 := by
        intro h4
        have := ls_aw V h4
        have := ls_un3 (k := k) V
        unfold xx_at at z; omega
      exact (xx_yvn h4).symm
  have hwb := ls_w H.1 (show k < D by omega)
  have h152 : ∀ (reg wr aF aS : Nat → Int32), ((sd_tg P k < 8 ∧ reg = upd a_register (sd_tg P k) (sd_vv P k) ∧ wr = upd a_writer (sd_tg P k) (-1) ∧ ∀ v, v < 18 → 0 ≤ a_work v → aF v = (if a_awaitsFirst v = nI u then -1 else a_awaitsFirst v) ∧ aS v = (if a_awaitsSecond v = nI u then -1 else a_awaitsSecond v)) ∨ (¬ sd_tg P k < 8 ∧ reg = a_register ∧ wr = a_writer ∧ aF = a_awaitsFirst ∧ aS = a_awaitsSecond)) → wX_leave_152 post (nI u) (nI (sd_num P k)) f_length f_bankTime f_size f_fetchTime (nI (xx_nw P m (18 * c + u))) f_pc f_ready f_branching f_ended f_outcome (nI c) f_accesses f_memories (nI m) (nI c) a_op a_into a_left a_right reg a_word a_many a_latency a_work a_place a_first a_second aF aS a_x a_y a_hasRead a_accessed a_due wr a_bankFree a_packs a_turn a_which a_kinds (upd a_times (4 * k + 3) (nI c)) a_unit a_lost := by
    intro reg wr aF aS hr
    obtain ⟨g1, g2, g3, g4, g5, g6⟩ := xl_do H hu hk hp hw h1 h2 h3 h4 h5 hr
    refine lv_152 (out := out) H hu hk hp hw hS hl hs hf hO hwk ?_ hx h8 h9 ?_
    · rw [pk_un (by omega)]; exact (h4 k hk).1
    · intro f_pc f_ready f_branching f_ended f_outcome a_packs a_lost s0' hF' hL'
      exact K _ _ _ _ _ _ _ _ _ _ _ _ _ _ _ ⟨g1, g2, g3, g4, g5, g6, rfl, s0', hF', hL'⟩
  unfold wpX_leave
  dsimp only
  rw [nI_clamp (n := u) (by omega), hpl, hwk, show (4 : Int32) * nI k + 3 = nI (4 * k + 3) from (congrArg (· + 3) (pk_mul 4 k)).trans (nI_add _ 3), nI_clamp (n := 4 * k + 3) (by omega), sh_s (n := c) (by omega)]
  refine ⟨iu, nm_e (xt_target V L.1 hS ⟨iu, vp_in_nI (by omega) (by decide), nm_e ?_⟩)⟩
  by_cases t8 : sd_tg P k < 8
  · show _ ∧ _
    have e8 : sd_cn 8 (sd_tg1 P (sd_num P k)) = nI (sd_tg P k) := sd_cn_lt t8
    rw [e8, nI_clamp (n := sd_num P k) (by omega), nI_clamp (n := sd_tg P k) (by omega), hop, hst.2.2.1, hx, hyv, sh_bm0]
    refine br_f (nI_pos (by omega)) ⟨ip, ip, iu, iu, lv_result (by omega) ⟨vp_in_nI t8 (by decide), nm_e ⟨vp_in_nI t8 (by decide), nm_e ⟨19, ?_⟩⟩⟩⟩
    exact lv_aw (aF := a_awaitsFirst) (aS := a_awaitsSecond) hu (fun aF aS h => h152 _ _ _ _ (Or.inl ⟨t8, rfl, rfl, h⟩)) 19 0 _ _ (by decide) (by decide) (fun v hv => ⟨fun h => absurd h (Nat.not_lt_zero _), fun _ => ⟨rfl, rfl⟩⟩)
  · have t9 := ls_tg V L
    exact br_t ((sd_cn_neg (by decide)).mpr (by show 8 ≤ sd_tg P k; omega)) (h152 _ _ _ _ (Or.inr ⟨t8, rfl, rfl, rfl, rfl⟩))
end
end
section
/-! write: the units leave -/
theorem xw_b1 : ∀ i, i < 32 → bt 1 i = decide (i = 0) := by decide +kernel
theorem xw_and1 (y : Int32) : y &&& 1 = 0 ↔ bt y 0 = false := by
  constructor
  · intro h
    have h2 := b_and y 1 0
    rw [h, b_0, xw_b1 0 (by decide)] at h2
    simp at h2
    exact h2
  · intro h
    refine b_ext ?_
    intro i hi
    rw [b_and, b_0, xw_b1 i hi]
    by_cases e : i = 0
    · rw [e, h]; rfl
    · simp [e]
theorem xw_bit {u : Nat} (x : Int32) (hu : u < 32) : (((x.toUInt32 >>> ((nI u).toUInt32 &&& Int32.toUInt32 31)).toInt32) &&& 1) = 0 ↔ bt x u = false := by
  rw [xw_and1, b_ushr u hu x 0, Nat.add_zero]
theorem xw_clear {u v : Nat} (x : Int32) (hu : u < 32) (hv : v < 32) : bt (x &&& (((1 : Int32) <<< (nI u &&& 31)) ^^^ (-1))) v = true ↔ bt x v = true ∧ v ≠ u := by
  rw [b_and, b_xor, xw_one u hu v hv, b_m1 v hv]
  by_cases e : v = u
  · simp [e]
  · simp [e]
section
variable {P : sd_Pg} {D c m R W s1 s2 s3 s4 s5 s6 : Nat} {out : Int32} {post : SX → Prop}
variable {f_length f_bankTime f_size f_fetchTime f_cycle f_accesses f_memories f_done : Int32}
variable {a_op a_into a_left a_right a_word a_many a_latency a_place a_first a_second a_x a_y a_hasRead a_accessed a_due a_bankFree a_turn a_which a_kinds a_unit : Nat → Int32}
theorem xw_go (H : xx_B P D c m)
    (hS : xx_ST P a_op a_into a_left a_right a_many a_latency) (hl : f_length = nI (sd_gs P)) (hs : f_size = nI (sd_gS P)) (hf : f_fetchTime = nI (sd_gf P)) (hO : xf_OUT P D out)
    (hU : xx_Un P m (18 * c) a_place a_first a_second a_turn) (hX : xx_XX P m (18 * c) (18 * c + 18) a_x) (hY : xx_YY P m (18 * c) (18 * c + 18) (3 * c + 3) a_y)
    (K : ∀ f_atWork f_pc f_ready f_branching f_ended f_outcome f_cycles a_register a_work a_awaitsFirst a_awaitsSecond a_writer a_packs a_times a_lost, xl_I P D m (18 * c + 18) R W out s1 s2 s3 s4 s5 s6 f_atWork f_pc f_ready f_branching f_ended f_outcome f_cycles a_register a_work a_awaitsFirst a_awaitsSecond a_writer a_packs a_times a_lost → post (f_length, f_bankTime, f_size, f_fetchTime, f_atWork, f_pc, f_ready, f_branching, f_ended, f_outcome, nI c, f_accesses, f_memories, nI m, f_cycles, a_op, a_into, a_left, a_right, a_register, a_word, a_many, a_latency, a_work, a_place, a_first, a_second, a_awaitsFirst, a_awaitsSecond, a_x, a_y, a_hasRead, a_accessed, a_due, a_writer, a_bankFree, a_packs, a_turn, a_which, a_kinds, a_times, a_unit, a_lost)) :
    ∀ n u (x1 f_atWork f_pc f_ready f_branching f_ended f_outcome f_cycles : Int32) (a_register a_work a_awaitsFirst a_awaitsSecond a_writer a_packs a_times a_lost : Nat → Int32), u ≤ 18 → 18 < n + u →
      (∀ v, v < 32 → (bt x1 v = true ↔ (u ≤ v ∧ ∃ k, k < m ∧ sd_pos P k = v ∧ sd_wr P k = c))) →
      xl_I P D m (18 * c + u) R W out s1 s2 s3 s4 s5 s6 f_atWork f_pc f_ready f_branching f_ended f_outcome f_cycles a_register a_work a_awaitsFirst a_awaitsSecond a_writer a_packs a_times a_lost →
      wX_write_133 post n x1 (nI u) f_length f_bankTime f_size f_fetchTime f_atWork f_pc f_ready f_branching f_ended f_outcome (nI c) f_accesses f_memories (nI m) f_cycles a_op a_into a_left a_right a_register a_word a_many a_latency a_work a_place a_first a_second a_awaitsFirst a_awaitsSecond a_x a_y a_hasRead a_accessed a_due a_writer a_bankFree a_packs a_turn a_which a_kinds a_times a_unit a_lost := by
  have V := H.1.1
  intro n
  induction n with
  | zero => intro u _ _ _ _ _ _ _ _ _ _ _ _ _ _ _ _ h1 h2; omega
  | succ n ih =>
    intro u x1 f_atWork f_pc f_ready f_branching f_ended f_outcome f_cycles a_register a_work a_awaitsFirst a_awaitsSecond a_writer a_packs a_times a_lost h1 h2 B I
    rw [wX_write_133]
    dsimp only
    by_cases z : x1 = 0
    · refine br_t z (K _ _ _ _ _ _ _ _ _ _ _ _ _ _ _ (xl_skip H ?_ I))
      intro j hj
      have pj := ls_pos (k := j) V
      have hi := ls_iw (k := j) V
      constructor
      · intro h; omega
      · intro h
        rcases Nat.lt_or_ge (xx_wt P j) (18 * c + u) with z2 | z2
        · exact z2
        · unfold xx_wt at h z2
          have hm : j < m := by
            rcases Nat.lt_or_ge j m with z3 | z3
            · exact z3
            · have := H.2.2.2 j z3 hj; omega
          have := (B (sd_pos P j) (by omega)).mpr ⟨by omega, j, hm, rfl, by omega⟩
          rw [z, b_0] at this
          exact (nomatch this)
    refine br_f z ?_
    have hu : u < 18 := by
      rcases Nat.lt_or_ge u 18 with z2 | z2
      · exact z2
      · refine absurd (b_ext ?_) z
        intro v hv
        rw [b_0]
        cases hb : bt x1 v with
        | false => rfl
        | true =>
          obtain ⟨h3, k, hk, hp, hw⟩ := (B v hv).mp hb
          have := ls_pos (k := k) V
          omega
    have B' : ∀ v, v < 32 → (bt (x1 &&& (((1 : Int32) <<< (nI u &&& 31)) ^^^ (-1))) v = true ↔ (u + 1 ≤ v ∧ ∃ k, k < m ∧ sd_pos P k = v ∧ sd_wr P k = c)) := by
      intro v hv
      rw [xw_clear x1 (by omega) hv, B v hv]
      constructor
      · intro ⟨⟨h3, h4⟩, h5⟩; exact ⟨by omega, h4⟩
      · intro ⟨h3, h4⟩; exact ⟨⟨by omega, h4⟩, by omega⟩
    by_cases hb : bt x1 u = true
    · refine br_f (fun z2 => by rw [xw_bit x1 (by omega), hb] at z2; exact (nomatch z2)) ?_
      obtain ⟨_, k, hk, hp, hw⟩ := (B u (by omega)).mp hb
      refine xl_leave H hu hk hp hw hS hl hs hf hO hU hX hY I ?_
      intro f_atWork f_pc f_ready f_branching f_ended f_outcome f_cycles a_register a_work a_awaitsFirst a_awaitsSecond a_writer a_packs a_times a_lost I'
      dsimp only
      unfold wX_write_150
      exact nm_e (nm_r (nI_1 u) (ih (u + 1) _ _ _ _ _ _ _ _ _ _ _ _ _ _ _ _ (by omega) (by omega) B' I'))
    · refine br_t ((xw_bit x1 (by omega)).mpr (by cases h : bt x1 u with | false => rfl | true => exact absurd h hb)) ?_
      unfold wX_write_150
      refine nm_e (nm_r (nI_1 u) (ih (u + 1) _ _ _ _ _ _ _ _ _ _ _ _ _ _ _ _ (by omega) (by omega) B' (xl_skip H ?_ I)))
      intro j hj
      have pj := ls_pos (k := j) V
      have hi := ls_iw (k := j) V
      constructor
      · intro h; omega
      · intro h
        rcases Nat.lt_or_ge (xx_wt P j) (18 * c + u) with z2 | z2
        · exact z2
        · unfold xx_wt at h z2
          have hm : j < m := by
            rcases Nat.lt_or_ge j m with z3 | z3
            · exact z3
            · have := H.2.2.2 j z3 hj; omega
          exact absurd ((B u (by omega)).mpr ⟨by omega, j, hm, by omega, by omega⟩) hb
end
section
variable {P : sd_Pg} {D c m s0 s1 s2 s3 s4 s5 : Nat} {out : Int32} {post : SX → Prop}
variable {f_length f_bankTime f_size f_fetchTime f_atWork f_pc f_ready f_branching f_ended f_outcome f_cycle f_accesses f_memories f_done f_cycles : Int32}
variable {a_op a_into a_left a_right a_register a_word a_many a_latency a_work a_place a_first a_second a_awaitsFirst a_awaitsSecond a_x a_y a_hasRead a_accessed a_due a_writer a_bankFree a_packs a_turn a_which a_kinds a_times a_unit a_lost : Nat → Int32}
theorem xw_write (H : xx_B P D c m) (hW : xx_Wk P m (18 * c) a_work) (hU : xx_Un P m (18 * c) a_place a_first a_second a_turn)
    (hA : xx_Aw P m (18 * c) a_awaitsFirst a_awaitsSecond) (hWr : xx_Wr P m (18 * c) a_writer)
    (hR : xx_HR P m (18 * c) (18 * c + 18) a_hasRead) (hC : xx_AC P m (18 * c) (3 * c + 3) a_accessed) (hD : xx_DU P m (18 * c) (18 * c + 18) (3 * c + 3) a_due)
    (hX : xx_XX P m (18 * c) (18 * c + 18) a_x) (hY : xx_YY P m (18 * c) (18 * c + 18) (3 * c + 3) a_y)
    (hS : xx_ST P a_op a_into a_left a_right a_many a_latency) (hl : f_length = nI (sd_gs P)) (hs : f_size = nI (sd_gS P)) (hf : f_fetchTime = nI (sd_gf P)) (hO : xf_OUT P D out)
    (hG : xx_RG P D (18 * c) a_register) (hCY : xx_CY P m (18 * c) f_cycles) (hat : f_atWork = nI (xx_nw P m (18 * c)))
    (hF : xf_F P D m (18 * c) out f_pc f_ready f_branching f_ended f_outcome a_packs s0)
    (I : xw_I P D m (18 * c) (18 * c + 18) (18 * c) s0 s1 s2 s3 s4 s5 a_times a_lost)
    (K : ∀ f_atWork f_pc f_ready f_branching f_ended f_outcome f_cycles a_register a_work a_awaitsFirst a_awaitsSecond a_writer a_packs a_times a_lost, xl_I P D m (18 * c + 18) (18 * c + 18) (18 * c + 18) out s1 s2 s3 s4 s5 (xx_s6 P D (18 * c + 18)) f_atWork f_pc f_ready f_branching f_ended f_outcome f_cycles a_register a_work a_awaitsFirst a_awaitsSecond a_writer a_packs a_times a_lost → post (f_length, f_bankTime, f_size, f_fetchTime, f_atWork, f_pc, f_ready, f_branching, f_ended, f_outcome, nI c, f_accesses, f_memories, nI m, f_cycles, a_op, a_into, a_left, a_right, a_register, a_word, a_many, a_latency, a_work, a_place, a_first, a_second, a_awaitsFirst, a_awaitsSecond, a_x, a_y, a_hasRead, a_accessed, a_due, a_writer, a_bankFree, a_packs, a_turn, a_which, a_kinds, a_times, a_unit, a_lost)) :
    wpX_write post (f_length, f_bankTime, f_size, f_fetchTime, f_atWork, f_pc, f_ready, f_branching, f_ended, f_outcome, nI c, f_accesses, f_memories, nI m, f_cycles, a_op, a_into, a_left, a_right, a_register, a_word, a_many, a_latency, a_work, a_place, a_first, a_second, a_awaitsFirst, a_awaitsSecond, a_x, a_y, a_hasRead, a_accessed, a_due, a_writer, a_bankFree, a_packs, a_turn, a_which, a_kinds, a_times, a_unit, a_lost) := by
  refine ⟨19, xw_loop H hW hU hR hC hD hS ?_ 19 0 0 a_times a_lost (by decide) (by decide) xw_mk0 I⟩
  intro x1 a_times a_lost MK I'
  refine ⟨19, xw_go H hS hl hs hf hO hU hX hY K 19 0 x1 _ _ _ _ _ _ _ _ _ _ _ _ _ _ _ (by decide) (by decide) ?_ ⟨hW, hA, hWr, I'.1, hG, hCY, hat, s0, hF, I'.2⟩⟩
  intro v hv
  rw [MK v hv]
  constructor
  · intro ⟨h1, h2⟩; exact ⟨Nat.zero_le _, h2⟩
  · intro ⟨h1, k, hk, hp, hw⟩
    have := ls_pos (k := k) H.1.1
    exact ⟨by omega, k, hk, hp, hw⟩
end
end
section
/-! issue and take: the pure part -/
section
variable {P : sd_Pg} {D c m : Nat}
def xi_1 (P : sd_Pg) (D m c : Nat) : Nat := sd_sm (fun j => sd_co P j - sd_nx P j) m + (if m < D then min c (sd_co P m) - sd_nx P m else 0)
def xi_2 (P : sd_Pg) (D m c : Nat) : Nat := sd_sm (fun j => max (sd_co P j) (sd_hw P j) - sd_co P j) m + (if m < D then min c (max (sd_co P m) (sd_hw P m)) - sd_co P m else 0)
def xi_3 (P : sd_Pg) (D m c : Nat) : Nat := sd_sm (fun j => sd_is P j - max (sd_co P j) (sd_hw P j)) m + (if m < D then c - max (sd_co P m) (sd_hw P m) else 0)
/-- all that is kept from cycle to cycle; c: the first cycle that isn't counted in lost 1, 2, 3 -/
def xh_I (P : sd_Pg) (D m T R A W c : Nat) (out f_atWork f_pc f_ready f_branching f_ended f_outcome f_memories f_cycles : Int32) (a_work a_place a_first a_second a_awaitsFirst a_awaitsSecond a_x a_y a_hasRead a_accessed a_due a_writer a_packs a_turn a_which a_kinds a_times a_unit a_lost : Nat → Int32) : Prop :=
  xx_Wk P m T a_work ∧ xx_Un P m T a_place a_first a_second a_turn ∧ xx_Aw P m T a_awaitsFirst a_awaitsSecond ∧ xx_Wr P m T a_writer ∧ xx_HR P m T R a_hasRead ∧ xx_AC P m T A a_accessed ∧ xx_XX P m T R a_x ∧ xx_YY P m T R A a_y ∧ xx_DU P m T R A a_due ∧ xx_TM P m T R W a_times ∧ xx_WH P m a_which a_kinds a_unit ∧ xx_CY P m T f_cycles ∧ f_atWork = nI (xx_nw P m T) ∧ f_memories = nI (xx_mc P m) ∧
  ∃ s0, xf_F P D m T out f_pc f_ready f_branching f_ended f_outcome a_packs s0 ∧ xx_LO a_lost s0 (xi_1 P D m c) (xi_2 P D m c) (xi_3 P D m c) (xx_s4 P D R) (xx_s5 P D A) (xx_s6 P D W)
theorem xk_L {T k : Nat} (h : xx_L P (m + 1) T k) : k = m ∨ xx_L P m T k := by
  by_cases e : k = m
  · exact Or.inl e
  · exact Or.inr ⟨by have := h.1; omega, h.2⟩
theorem xk_wt (V : sd_VP P) (hc : sd_is P m = c) : 18 * c ≤ xx_wt P m := by
  have := ls_iw (k := m) V
  unfold xx_wt; omega
theorem xk_x1 (V : sd_VP P) (hm : m < D) (hc : sd_is P m = c) : xi_1 P D (m + 1) (c + 1) = xi_1 P D m c := by
  have h1 := ls_nxi (k := m) V
  have h2 := ls_nxco (P := P) (k := m + 1)
  have h3 := ls_co (P := P) (k := m)
  unfold xi_1
  rw [sd_sm_s, if_pos hm]
  split <;> omega
theorem xk_x2 (V : sd_VP P) (hm : m < D) (hc : sd_is P m = c) : xi_2 P D (m + 1) (c + 1) = xi_2 P D m c := by
  have h1 := ls_nxi (k := m) V
  have h2 := ls_nxco (P := P) (k := m + 1)
  have h3 := ls_co (P := P) (k := m)
  have h4 := ls_hwi (P := P) (k := m)
  unfold xi_2
  rw [sd_sm_s, if_pos hm]
  split <;> omega
theorem xk_x3 (V : sd_VP P) (hm : m < D) (hc : sd_is P m = c) : xi_3 P D (m + 1) (c + 1) = xi_3 P D m c := by
  have h1 := ls_nxi (k := m) V
  have h2 := ls_nxco (P := P) (k := m + 1)
  have h3 := ls_co (P := P) (k := m)
  have h4 := ls_hwi (P := P) (k := m)
  unfold xi_3
  rw [sd_sm_s, if_pos hm]
  split <;> omega
/-- all but the front, when m is taken -/
theorem xk_take {f_cycles : Int32} {a_work a_place a_first a_second aF aS a_x a_y a_hasRead a_accessed a_due a_writer a_turn a_which a_kinds a_times a_unit turn' writer' : Nat → Int32}
    (H : sd_OK P D) (hm : m < D) (hc : sd_is P m = c)
    (free : ∀ k, xx_L P m (18 * c) k → sd_pos P k ≠ sd_pos P m)
    (h1 : xx_Wk P m (18 * c) a_work) (h2 : xx_Un P m (18 * c) a_place a_first a_second a_turn) (h3 : xx_Aw P m (18 * c) aF aS) (h4 : xx_Wr P m (18 * c) a_writer) (h5 : xx_HR P m (18 * c) (18 * c) a_hasRead) (h6 : xx_AC P m (18 * c) (3 * c) a_accessed) (h7 : xx_XX P m (18 * c) (18 * c) a_x) (h8 : xx_YY P m (18 * c) (18 * c) (3 * c) a_y) (h9 : xx_DU P m (18 * c) (18 * c) (3 * c) a_due) (h10 : xx_TM P m (18 * c) (18 * c) (18 * c) a_times) (h11 : xx_WH P m a_which a_kinds a_unit) (h12 : xx_CY P m (18 * c) f_cycles)
    (ht : (sd_kd P m = 4 ∧ turn' = upd a_turn (sd_pos P m) (nI (xx_mc P m))) ∨ (¬ sd_kd P m = 4 ∧ turn' = a_turn))
    (hw : (sd_tg P m < 8 ∧ writer' = upd a_writer (sd_tg P m) (nI (sd_pos P m))) ∨ (¬ sd_tg P m < 8 ∧ writer' = a_writer)) :
    xx_Wk P (m + 1) (18 * c) (upd a_work (sd_pos P m) (nI m)) ∧ xx_Un P (m + 1) (18 * c) (upd a_place (sd_pos P m) (nI (sd_num P m))) (upd a_first (sd_pos P m) (sd_cn 8 (sd_fs P m))) (upd a_second (sd_pos P m) (sd_cn 8 (sd_sc P m))) turn' ∧ xx_Aw P (m + 1) (18 * c) (upd aF (sd_pos P m) (if sd_fs P m < 8 then a_writer (sd_fs P m) else -1)) (upd aS (sd_pos P m) (if sd_sc P m < 8 then a_writer (sd_sc P m) else -1)) ∧ xx_Wr P (m + 1) (18 * c) writer' ∧ xx_HR P (m + 1) (18 * c) (18 * c) (upd a_hasRead (sd_pos P m) 0) ∧ xx_AC P (m + 1) (18 * c) (3 * c) (upd a_accessed (sd_pos P m) (if sd_kd P m = 4 then 0 else 1)) ∧ xx_XX P (m + 1) (18 * c) (18 * c) a_x ∧ xx_YY P (m + 1) (18 * c) (18 * c) (3 * c) a_y ∧ xx_DU P (m + 1) (18 * c) (18 * c) (3 * c) a_due ∧ xx_TM P (m + 1) (18 * c) (18 * c) (18 * c) (upd a_times (4 * m) (nI c)) ∧ xx_WH P (m + 1) (upd a_which m (nI (sd_num P m))) (upd a_kinds m (nI (sd_kd P m))) (upd a_unit m (nI (sd_un P m))) ∧ xx_CY P (m + 1) (18 * c) f_cycles := by
  have V := H.1
  have hwt := xk_wt V hc
  have hrd := ls_rd (P := P) (k := m)
  have hrt : ¬ xx_rt P m < 18 * c := by unfold xx_rt; omega
  have har := ls_acr (P := P) (k := m)
  refine ⟨?_, ?_, ?_, ?_, ?_, ?_, ?_, ?_, ?_, ?_, ?_, ?_⟩
  · intro v hv
    by_cases z : v = sd_pos P m
    · exact Or.inr ⟨m, ⟨by omega, hwt⟩, z.symm, by rw [z, pk_us]⟩
    · rw [pk_un z]
      rcases h1 v hv with ⟨w1, w2⟩ | ⟨k, hk, hp, w⟩
      · refine Or.inl ⟨w1, fun k hk e => ?_⟩
        rcases xk_L hk with z2 | z2
        · rw [z2] at e; exact z e.symm
        · exact w2 k z2 e
      · exact Or.inr ⟨k, ⟨by have := hk.1; omega, hk.2⟩, hp, w⟩
  · intro k hk
    rcases xk_L hk with z | z
    · subst z
      rw [pk_us, pk_us, pk_us]
      refine ⟨rfl, rfl, rfl, fun z4 => ?_⟩
      rcases ht with ⟨_, e⟩ | ⟨e, _⟩
      · rw [e, pk_us]
      · exact absurd z4 e
    · have hne := free k z
      rw [pk_un hne, pk_un hne, pk_un hne]
      obtain ⟨u1, u2, u3, u4⟩ := h2 k z
      refine ⟨u1, u2, u3, fun z4 => ?_⟩
      rcases ht with ⟨_, e⟩ | ⟨_, e⟩
      · rw [e, pk_un hne]; exact u4 z4
      · rw [e]; exact u4 z4
  · intro k hk
    rcases xk_L hk with z | z
    · subst z
      rw [pk_us, pk_us]
      constructor
      · split
        · rename_i h8; exact h4 _ h8
        · exact Or.inr ⟨rfl, fun j _ _ h8 => by omega⟩
      · split
        · rename_i h8; exact h4 _ h8
        · exact Or.inr ⟨rfl, fun j _ _ h8 => by omega⟩
    · have hne := free k z
      rw [pk_un hne, pk_un hne]
      exact h3 k z
  · intro r hr
    have old : sd_tg P m ≠ r → xx_AW P (18 * c) (m + 1) r (a_writer r) := by
      intro hne
      rcases h4 r hr with ⟨j, j1, j2, j3, j4, j5⟩ | ⟨g1, g2⟩
      · exact Or.inl ⟨j, by omega, j2, j3, j4, j5⟩
      · refine Or.inr ⟨g1, fun j hj e h8 => ?_⟩
        by_cases z : j = m
        · rw [z] at e; exact absurd e hne
        · exact g2 j (by omega) e h8
    rcases hw with ⟨t8, e⟩ | ⟨t8, e⟩
    · rw [e]
      by_cases z : r = sd_tg P m
      · rw [z, pk_us]
        exact Or.inl ⟨m, by omega, rfl, t8, hwt, rfl⟩
      · rw [pk_un z]; exact old (fun e2 => z e2.symm)
    · rw [e]; exact old (by omega)
  · intro k hk
    rcases xk_L hk with z | z
    · subst z; rw [pk_us, if_neg hrt]
    · rw [pk_un (free k z)]; exact h5 k z
  · intro k hk
    rcases xk_L hk with z | z
    · subst z
      rw [pk_us]
      by_cases z4 : sd_kd P k = 4
      · rw [if_pos z4, if_pos ⟨z4, by unfold xx_at; omega⟩]
      · rw [if_neg z4, if_neg (fun z => z4 z.1)]
    · rw [pk_un (free k z)]; exact h6 k z
  · intro k hk hr
    rcases xk_L hk with z | z
    · subst z; exact absurd hr hrt
    · exact h7 k z hr
  · intro k hk hr
    rcases xk_L hk with z | z
    · subst z; exact absurd hr hrt
    · exact h8 k z hr
  · intro k hk hr
    rcases xk_L hk with z | z
    · subst z; exact absurd hr hrt
    · exact h9 k z hr
  · intro k hk
    by_cases e : k = m
    · subst e
      have hry := ls_ry (k := k) V
      refine ⟨by rw [pk_us, hc], fun z => absurd z hrt, fun z => ?_, fun z => ?_⟩
      · unfold xx_st at z; omega
      · omega
    · obtain ⟨t1, t2, t3, t4⟩ := h10 k (by omega)
      refine ⟨?_, ?_, ?_, ?_⟩
      · rw [pk_un (by omega)]; exact t1
      · intro h; rw [pk_un (by omega)]; exact t2 h
      · intro h; rw [pk_un (by omega)]; exact t3 h
      · intro h; rw [pk_un (by omega)]; exact t4 h
  · intro k hk
    by_cases e : k = m
    · subst e; exact ⟨pk_us, pk_us, pk_us⟩
    · rw [pk_un e, pk_un e, pk_un e]; exact h11 k (by omega)
  · obtain ⟨q, q1, q2, q3, q4⟩ := h12
    refine ⟨q, q1, q2, ?_, ?_⟩
    · intro k hk hz
      by_cases e : k = m
      · subst e; omega
      · exact q3 k (by omega) hz
    · rcases q4 with z | ⟨k, hk, z⟩
      · exact Or.inl z
      · exact Or.inr ⟨k, by omega, z⟩
theorem xk_nw (V : sd_VP P) (hc : sd_is P m = c) : xx_nw P (m + 1) (18 * c) = xx_nw P m (18 * c) + 1 := by
  have hwt := xk_wt V hc
  unfold xx_nw
  rw [sd_sm_s, if_pos hwt]
/-- the front behind a take -/
theorem xk_Fb {out ready : Int32} {packs : Nat → Int32} (V : sd_VP P) (hc : sd_is P m = c) (h5 : sd_kd P m = 5) (hP : xf_PK P (m + 1) packs) : xf_F P D (m + 1) (18 * c) out (nI (sd_num P m + 1)) ready 1 1 0 packs (xf_S0 P (m + 1)) :=
  Or.inr (Or.inl ⟨by omega, by rw [Nat.add_sub_cancel]; exact h5, by rw [Nat.add_sub_cancel]; exact xk_wt V hc, by rw [Nat.add_sub_cancel], rfl, rfl, rfl, hP, rfl⟩)
theorem xk_Fn {out rdy en oc : Int32} {packs : Nat → Int32} (V : sd_VP P) (hc : sd_is P m = c) (h5 : ¬ sd_kd P m = 5) (h : xf_LK P D (m + 1) out en rdy oc packs) : xf_F P D (m + 1) (18 * c) out (nI (sd_num P (m + 1))) rdy 0 en oc packs (xf_S0 P (m + 1)) := by
  have no : 0 < m + 1 → sd_kd P (m + 1 - 1) = 5 → xx_wt P (m + 1 - 1) < 18 * c := by
    rw [Nat.add_sub_cancel]; exact fun _ z => absurd z h5
  rcases h with ⟨l1, l2, l3, l4, l5⟩ | ⟨l1, l2, l3⟩
  · refine Or.inl ⟨l1, no, rfl, l3, rfl, l2, l4, l5, ?_⟩
    rw [xf_S0S (n := m + 1), ls_nxn h5, xf_frS]; omega
  · exact Or.inr (Or.inr ⟨l1, no, rfl, l2, l3, by rw [l1]⟩)
/-- not issued: the counts -/
theorem xk_n1 (hm : m < D) (h1 : sd_nx P m ≤ c) (h2 : c < sd_co P m) : xi_1 P D m (c + 1) = xi_1 P D m c + 1 ∧ xi_2 P D m (c + 1) = xi_2 P D m c ∧ xi_3 P D m (c + 1) = xi_3 P D m c := by
  unfold xi_1 xi_2 xi_3
  rw [if_pos hm, if_pos hm, if_pos hm, if_pos hm, if_pos hm, if_pos hm]
  omega
theorem xk_n2 (hm : m < D) (h1 : sd_co P m ≤ c) (h2 : c < sd_hw P m) : xi_1 P D m (c + 1) = xi_1 P D m c ∧ xi_2 P D m (c + 1) = xi_2 P D m c + 1 ∧ xi_3 P D m (c + 1) = xi_3 P D m c := by
  unfold xi_1 xi_2 xi_3
  rw [if_pos hm, if_pos hm, if_pos hm, if_pos hm, if_pos hm, if_pos hm]
  omega
theorem xk_n3 (hm : m < D) (h1 : sd_co P m ≤ c) (h2 : sd_hw P m ≤ c) : xi_1 P D m (c + 1) = xi_1 P D m c ∧ xi_2 P D m (c + 1) = xi_2 P D m c ∧ xi_3 P D m (c + 1) = xi_3 P D m c + 1 := by
  unfold xi_1 xi_2 xi_3
  rw [if_pos hm, if_pos hm, if_pos hm, if_pos hm, if_pos hm, if_pos hm]
  omega
theorem xk_n0 (h : m < D → c < sd_nx P m) : xi_1 P D m (c + 1) = xi_1 P D m c ∧ xi_2 P D m (c + 1) = xi_2 P D m c ∧ xi_3 P D m (c + 1) = xi_3 P D m c := by
  have h2 := ls_nxco (P := P) (k := m)
  unfold xi_1 xi_2 xi_3
  by_cases hm : m < D
  · have := h hm
    rw [if_pos hm, if_pos hm, if_pos hm, if_pos hm, if_pos hm, if_pos hm]
    omega
  · rw [if_neg hm, if_neg hm, if_neg hm, if_neg hm, if_neg hm, if_neg hm]
    omega
end
end
section
/-! take: the walk -/
section
variable {P : sd_Pg} {D c m : Nat} {out : Int32} {post : SX → Prop}
variable {f_length f_bankTime f_size f_fetchTime f_atWork f_pc f_ready f_branching f_ended f_outcome f_cycle f_accesses f_memories f_done f_cycles : Int32}
variable {a_op a_into a_left a_right a_register a_word a_many a_latency a_work a_place a_first a_second a_awaitsFirst a_awaitsSecond a_x a_y a_hasRead a_accessed a_due a_writer a_bankFree a_packs a_turn a_which a_kinds a_times a_unit a_lost : Nat → Int32}
theorem tk_take (H : sd_OK P D) (hm : m < D) (hc : sd_is P m = c)
    (hS : xx_ST P a_op a_into a_left a_right a_many a_latency) (hl : f_length = nI (sd_gs P)) (hs : f_size = nI (sd_gS P)) (hf : f_fetchTime = nI (sd_gf P)) (hO : xf_OUT P D out)
    (hWr : xx_Wr P m (18 * c) a_writer) (hPK : xf_PK P (m + 1) a_packs)
    (K : ∀ f_pc f_ready f_branching f_ended f_outcome a_packs, xf_F P D (m + 1) (18 * c) out f_pc f_ready f_branching f_ended f_outcome a_packs (xf_S0 P (m + 1)) → post (f_length, f_bankTime, f_size, f_fetchTime, nI (xx_nw P (m + 1) (18 * c)), f_pc, f_ready, f_branching, f_ended, f_outcome, nI c, f_accesses, nI (xx_mc P (m + 1)), nI (m + 1), f_cycles, a_op, a_into, a_left, a_right, a_register, a_word, a_many, a_latency, upd a_work (sd_pos P m) (nI m), upd a_place (sd_pos P m) (nI (sd_num P m)), upd a_first (sd_pos P m) (sd_cn 8 (sd_fs P m)), upd a_second (sd_pos P m) (sd_cn 8 (sd_sc P m)), upd a_awaitsFirst (sd_pos P m) (if sd_fs P m < 8 then a_writer (sd_fs P m) else -1), upd a_awaitsSecond (sd_pos P m) (if sd_sc P m < 8 then a_writer (sd_sc P m) else -1), a_x, a_y, upd a_hasRead (sd_pos P m) 0, upd a_accessed (sd_pos P m) (if sd_kd P m = 4 then 0 else 1), a_due, if sd_tg P m < 8 then upd a_writer (sd_tg P m) (nI (sd_pos P m)) else a_writer, a_bankFree, a_packs, if sd_kd P m = 4 then upd a_turn (sd_pos P m) (nI (xx_mc P m)) else a_turn, upd a_which m (nI (sd_num P m)), upd a_kinds m (nI (sd_kd P m)), upd a_times (4 * m) (nI c), upd a_unit m (nI (sd_un P m)), a_lost)) :
    wpX_take post (f_length, f_bankTime, f_size, f_fetchTime, nI (xx_nw P m (18 * c)), nI (sd_num P m), f_ready, f_branching, f_ended, 0, nI c, f_accesses, nI (xx_mc P m), nI m, f_cycles, a_op, a_into, a_left, a_right, a_register, a_word, a_many, a_latency, a_work, a_place, a_first, a_second, a_awaitsFirst, a_awaitsSecond, a_x, a_y, a_hasRead, a_accessed, a_due, a_writer, a_bankFree, a_packs, a_turn, a_which, a_kinds, a_times, a_unit, a_lost) (nI (sd_pos P m)) (nI (sd_kd P m)) (sd_cn 8 (sd_tg P m)) := by
  have V := H.1
  have hD60 := H.2.1
  have L := H.2.2 m hm
  have h24 := V.1
  have hgs : sd_num P m < 24 := by have := L.1; omega
  have ho := ls_o V L
  have hst := hS.1 _ L.1
  have hvi := ls_vi V L.1
  have hop : a_op (sd_num P m) = nI (sd_o P m) := hst.1
  have hpos := ls_pos (k := m) V
  have hkd := ls_kd P m
  have hu3 := ls_un3 (k := m) V
  have iu : vp_in (nI (sd_pos P m)) 18 := vp_in_nI hpos (by decide)
  have ip : vp_in (nI (sd_num P m)) 24 := vp_in_nI hgs (by decide)
  have hwb := ls_w H hm
  have hiw := ls_iw (k := m) V
  have eu := nI_clamp (n := sd_pos P m) (by omega)
  have en := nI_clamp (n := sd_num P m) (by omega)
  have hmc : xx_mc P m ≤ m := by
    have := sd_sm_le (f := fun j => if sd_kd P j = 4 then 1 else 0) (n := m) (b := 1) (fun j _ => by split <;> omega)
    unfold xx_mc; omega
  have wb : ∀ r, r < 8 → vp_nar .byte (a_writer r) = a_writer r := by
    intro r hr
    rcases hWr r hr with ⟨j, _, _, _, _, e⟩ | ⟨e, _⟩
    · have := ls_pos (k := j) V
      rw [e]; exact sh_b0 (by omega)
    · rw [e]; exact sh_bm0
  have k308 : wX_take_308 post (nI (sd_kd P m)) f_length f_bankTime f_size f_fetchTime (nI (xx_nw P m (18 * c))) (nI (sd_num P m + 1)) f_ready f_branching f_ended 0 (nI c) f_accesses (nI (xx_mc P (m + 1))) (nI (m + 1)) f_cycles a_op a_into a_left a_right a_register a_word a_many a_latency (upd a_work (sd_pos P m) (nI m)) (upd a_place (sd_pos P m) (nI (sd_num P m))) (upd a_first (sd_pos P m) (sd_cn 8 (sd_fs P m))) (upd a_second (sd_pos P m) (sd_cn 8 (sd_sc P m))) (upd a_awaitsFirst (sd_pos P m) (if sd_fs P m < 8 then a_writer (sd_fs P m) else -1)) (upd a_awaitsSecond (sd_pos P m) (if sd_sc P m < 8 then a_writer (sd_sc P m) else -1)) a_x a_y (upd a_hasRead (sd_pos P m) 0) (upd a_accessed (sd_pos P m) (if sd_kd P m = 4 then 0 else 1)) a_due (if sd_tg P m < 8 then upd a_writer (sd_tg P m) (nI (sd_pos P m)) else a_writer) a_bankFree a_packs (if sd_kd P m = 4 then upd a_turn (sd_pos P m) (nI (xx_mc P m)) else a_turn) (upd a_which m (nI (sd_num P m))) (upd a_kinds m (nI (sd_kd P m))) (upd a_times (4 * m) (nI c)) (upd a_unit m (nI (sd_un P m))) a_lost := by
    unfold wX_take_308
    by_cases h5 : sd_kd P m = 5
    · refine br_t (by rw [h5]; rfl) ?_
      unfold wX_take_319
      refine ⟨rfl, rfl, nm_r (e' := nI (xx_nw P (m + 1) (18 * c))) (by rw [xk_nw V hc, nI_1]) (lk_br V hl (by omega) ?_)⟩
      exact K _ _ _ _ _ _ (xk_Fb V hc h5 hPK)
    · refine br_f (fun z => h5 ((nI_eq (b := 5) (by omega) (by decide)).mp z)) ?_
      have hn8 : sd_num P m + 1 = sd_num P (m + 1) := by
        have : ¬ 8 ≤ sd_o P m := fun z => h5 (ls_kd5.mpr z)
        rw [sd_numS, if_neg (by omega)]
      unfold wX_take_319
      rw [hn8]
      refine ⟨rfl, rfl, nm_r (e' := nI (xx_nw P (m + 1) (18 * c))) (by rw [xk_nw V hc, nI_1]) (lk_main (out := out) H (by omega) hl hs hf hS hPK hO (by rw [ls_nxn h5, hc]) ?_)⟩
      intro f_ended f_ready f_outcome a_packs hlk
      exact K _ _ _ _ _ _ (xk_Fn V hc h5 hlk)
  have k296 : wX_take_296 post (nI (sd_pos P m)) (nI (sd_kd P m)) (sd_cn 8 (sd_tg P m)) f_length f_bankTime f_size f_fetchTime (nI (xx_nw P m (18 * c))) (nI (sd_num P m + 1)) f_ready f_branching f_ended 0 (nI c) f_accesses (nI (xx_mc P (m + 1))) (nI (m + 1)) f_cycles a_op a_into a_left a_right a_register a_word a_many a_latency (upd a_work (sd_pos P m) (nI m)) (upd a_place (sd_pos P m) (nI (sd_num P m))) (upd a_first (sd_pos P m) (sd_cn 8 (sd_fs P m))) (upd a_second (sd_pos P m) (sd_cn 8 (sd_sc P m))) (upd a_awaitsFirst (sd_pos P m) (if sd_fs P m < 8 then a_writer (sd_fs P m) else -1)) (upd a_awaitsSecond (sd_pos P m) (if sd_sc P m < 8 then a_writer (sd_sc P m) else -1)) a_x a_y (upd a_hasRead (sd_pos P m) 0) (upd a_accessed (sd_pos P m) (if sd_kd P m = 4 then 0 else 1)) a_due a_writer a_bankFree a_packs (if sd_kd P m = 4 then upd a_turn (sd_pos P m) (nI (xx_mc P m)) else a_turn) (upd a_which m (nI (sd_num P m))) (upd a_kinds m (nI (sd_kd P m))) (upd a_times (4 * m) (nI c)) (upd a_unit m (nI (sd_un P m))) a_lost := by
    unfold wX_take_296
    by_cases t8 : sd_tg P m < 8
    · rw [if_pos t8] at k308
      rw [sd_cn_lt t8, nI_clamp (n := sd_tg P m) (by omega), sh_b (n := sd_pos P m) (by omega)]
      exact br_f (nI_pos (by omega)) ⟨vp_in_nI t8 (by decide), nm_e k308⟩
    · rw [if_neg t8] at k308
      exact br_t ((sd_cn_neg (by decide)).mpr (by omega)) k308
  have k272 : wX_take_272 post (nI (sd_pos P m)) (nI (sd_kd P m)) (sd_cn 8 (sd_tg P m)) (if sd_kd P m = 4 then 0 else 1) (nI (sd_pos P m)) f_length f_bankTime f_size f_fetchTime (nI (xx_nw P m (18 * c))) (nI (sd_num P m + 1)) f_ready f_branching f_ended 0 (nI c) f_accesses (nI (xx_mc P m)) (nI (m + 1)) f_cycles a_op a_into a_left a_right a_register a_word a_many a_latency (upd a_work (sd_pos P m) (nI m)) (upd a_place (sd_pos P m) (nI (sd_num P m))) (upd a_first (sd_pos P m) (sd_cn 8 (sd_fs P m))) (upd a_second (sd_pos P m) (sd_cn 8 (sd_sc P m))) (upd a_awaitsFirst (sd_pos P m) (if sd_fs P m < 8 then a_writer (sd_fs P m) else -1)) (upd a_awaitsSecond (sd_pos P m) (if sd_sc P m < 8 then a_writer (sd_sc P m) else -1)) a_x a_y (upd a_hasRead (sd_pos P m) 0) a_accessed a_due a_writer a_bankFree a_packs a_turn (upd a_which m (nI (sd_num P m))) (upd a_kinds m (nI (sd_kd P m))) (upd a_times (4 * m) (nI c)) (upd a_unit m (nI (sd_un P m))) a_lost := by
    unfold wX_take_272
    rw [eu]
    have eb : vp_nar .boolean (if sd_kd P m = 4 then 0 else 1) = (if sd_kd P m = 4 then 0 else 1) := by split <;> rfl
    rw [eb]
    refine ⟨iu, nm_e ?_⟩
    have emc : xx_mc P (m + 1) = xx_mc P m + (if sd_kd P m = 4 then 1 else 0) := rfl
    by_cases h4 : sd_kd P m = 4
    · rw [if_pos h4] at emc
      rw [if_pos h4 (t := upd a_turn (sd_pos P m) (nI (xx_mc P m)))] at k296
      rw [sh_b (n := xx_mc P m) (by omega)]
      exact br_t (by rw [h4]; rfl) (nm_r (e' := nI (xx_mc P (m + 1))) (by rw [emc, nI_1]) ⟨iu, nm_e k296⟩)
    · rw [if_neg h4] at emc
      rw [if_neg h4 (t := upd a_turn (sd_pos P m) (nI (xx_mc P m))), emc] at k296
      exact br_f (fun z => h4 ((nI_eq (b := 4) (by omega) (by decide)).mp z)) k296
  have k249 : wX_take_249 post (nI (sd_pos P m)) (nI (sd_kd P m)) (sd_cn 8 (sd_tg P m)) (if sd_sc P m < 8 then a_writer (sd_sc P m) else -1) (nI (sd_pos P m)) f_length f_bankTime f_size f_fetchTime (nI (xx_nw P m (18 * c))) (nI (sd_num P m + 1)) f_ready f_branching f_ended 0 (nI c) f_accesses (nI (xx_mc P m)) (nI (m + 1)) f_cycles a_op a_into a_left a_right a_register a_word a_many a_latency (upd a_work (sd_pos P m) (nI m)) (upd a_place (sd_pos P m) (nI (sd_num P m))) (upd a_first (sd_pos P m) (sd_cn 8 (sd_fs P m))) (upd a_second (sd_pos P m) (sd_cn 8 (sd_sc P m))) (upd a_awaitsFirst (sd_pos P m) (if sd_fs P m < 8 then a_writer (sd_fs P m) else -1)) a_awaitsSecond a_x a_y a_hasRead a_accessed a_due a_writer a_bankFree a_packs a_turn (upd a_which m (nI (sd_num P m))) (upd a_kinds m (nI (sd_kd P m))) (upd a_times (4 * m) (nI c)) (upd a_unit m (nI (sd_un P m))) a_lost := by
    unfold wX_take_249
    rw [eu]
    have eb : vp_nar .byte (if sd_sc P m < 8 then a_writer (sd_sc P m) else -1) = (if sd_sc P m < 8 then a_writer (sd_sc P m) else -1) := by
      split
      · rename_i z; exact wb _ z
      · exact sh_bm0
    rw [eb]
    refine ⟨iu, nm_e ⟨iu, nm_r (e' := upd a_hasRead (sd_pos P m) 0) rfl ?_⟩⟩
    by_cases h4 : sd_kd P m = 4
    · rw [if_pos h4 (t := (0 : Int32))] at k272
      exact br_t (by rw [h4]; rfl) k272
    · rw [if_neg h4 (t := (0 : Int32))] at k272
      exact br_f (fun z => h4 ((nI_eq (b := 4) (by omega) (by decide)).mp z)) k272
  have hsc := ls_sc V L
  have hfs := ls_fs V L
  have k219 : wX_take_219 post (nI (sd_pos P m)) (nI (sd_kd P m)) (sd_cn 8 (sd_tg P m)) (if sd_fs P m < 8 then a_writer (sd_fs P m) else -1) (nI (sd_pos P m)) f_length f_bankTime f_size f_fetchTime (nI (xx_nw P m (18 * c))) (nI (sd_num P m + 1)) f_ready f_branching f_ended 0 (nI c) f_accesses (nI (xx_mc P m)) (nI (m + 1)) f_cycles a_op a_into a_left a_right a_register a_word a_many a_latency (upd a_work (sd_pos P m) (nI m)) (upd a_place (sd_pos P m) (nI (sd_num P m))) (upd a_first (sd_pos P m) (sd_cn 8 (sd_fs P m))) (upd a_second (sd_pos P m) (sd_cn 8 (sd_sc P m))) a_awaitsFirst a_awaitsSecond a_x a_y a_hasRead a_accessed a_due a_writer a_bankFree a_packs a_turn (upd a_which m (nI (sd_num P m))) (upd a_kinds m (nI (sd_kd P m))) (upd a_times (4 * m) (nI c)) (upd a_unit m (nI (sd_un P m))) a_lost := by
    unfold wX_take_219
    rw [eu]
    have eb : vp_nar .byte (if sd_fs P m < 8 then a_writer (sd_fs P m) else -1) = (if sd_fs P m < 8 then a_writer (sd_fs P m) else -1) := by
      split
      · rename_i z; exact wb _ z
      · exact sh_bm0
    rw [eb, pk_us]
    refine ⟨iu, nm_e ⟨iu, ?_⟩⟩
    by_cases z : sd_sc P m < 8
    · rw [if_pos z (t := a_writer (sd_sc P m))] at k249
      rw [sd_cn_lt z] at k249 ⊢
      rw [nI_clamp (n := sd_sc P m) (by omega)]
      exact br_t (nI_pos' (by omega)) ⟨iu, vp_in_nI z (by decide), k249⟩
    · rw [if_neg z (t := a_writer (sd_sc P m))] at k249
      rw [sd_cn_ge (t := sd_sc P m) (by omega)] at k249 ⊢
      exact br_f sh_m1 k249
  have k188 : ∀ z0 : Int32, vp_nar .byte z0.toInt8.toInt32 = sd_cn 8 (sd_sc P m) → wX_take_188 post (nI (sd_pos P m)) (nI (sd_kd P m)) (sd_cn 8 (sd_tg P m)) z0 (nI (sd_pos P m)) f_length f_bankTime f_size f_fetchTime (nI (xx_nw P m (18 * c))) (nI (sd_num P m + 1)) f_ready f_branching f_ended 0 (nI c) f_accesses (nI (xx_mc P m)) (nI (m + 1)) f_cycles a_op a_into a_left a_right a_register a_word a_many a_latency (upd a_work (sd_pos P m) (nI m)) (upd a_place (sd_pos P m) (nI (sd_num P m))) (upd a_first (sd_pos P m) (sd_cn 8 (sd_fs P m))) a_second a_awaitsFirst a_awaitsSecond a_x a_y a_hasRead a_accessed a_due a_writer a_bankFree a_packs a_turn (upd a_which m (nI (sd_num P m))) (upd a_kinds m (nI (sd_kd P m))) (upd a_times (4 * m) (nI c)) (upd a_unit m (nI (sd_un P m))) a_lost := by
    intro z0 e0
    unfold wX_take_188
    rw [eu, e0, pk_us]
    refine ⟨iu, nm_e ⟨iu, ?_⟩⟩
    by_cases z : sd_fs P m < 8
    · rw [if_pos z (t := a_writer (sd_fs P m))] at k219
      rw [sd_cn_lt z] at k219 ⊢
      rw [nI_clamp (n := sd_fs P m) (by omega)]
      exact br_t (nI_pos' (by omega)) ⟨iu, vp_in_nI z (by decide), k219⟩
    · rw [if_neg z (t := a_writer (sd_fs P m))] at k219
      rw [sd_cn_ge (t := sd_fs P m) (by omega)] at k219 ⊢
      exact br_f sh_m1 k219
  have k165 : ¬ (0 < sd_o P m ∧ sd_o P m < 6) → wX_take_165 post (nI (sd_pos P m)) (nI (sd_kd P m)) (sd_cn 8 (sd_tg P m)) (nI (sd_num P m)) (nI (sd_pos P m)) f_length f_bankTime f_size f_fetchTime (nI (xx_nw P m (18 * c))) (nI (sd_num P m + 1)) f_ready f_branching f_ended 0 (nI c) f_accesses (nI (xx_mc P m)) (nI (m + 1)) f_cycles a_op a_into a_left a_right a_register a_word a_many a_latency (upd a_work (sd_pos P m) (nI m)) (upd a_place (sd_pos P m) (nI (sd_num P m))) (upd a_first (sd_pos P m) (sd_cn 8 (sd_fs P m))) a_second a_awaitsFirst a_awaitsSecond a_x a_y a_hasRead a_accessed a_due a_writer a_bankFree a_packs a_turn (upd a_which m (nI (sd_num P m))) (upd a_kinds m (nI (sd_kd P m))) (upd a_times (4 * m) (nI c)) (upd a_unit m (nI (sd_un P m))) a_lost := by
    intro hno
    unfold wX_take_165
    rw [en, hop]
    refine ⟨ip, ?_⟩
    by_cases h7 : sd_o P m = 7
    · have h7' : sd_go P (sd_num P m) = 7 := h7
      have esc : sd_sc P m = sd_gd P (sd_num P m) := (if_neg hno).trans (if_pos h7)
      have hd := (hvi.2.2.1 (by omega)).1
      refine br_t (by rw [h7]; rfl) ⟨ip, k188 _ ?_⟩
      rw [hst.2.1 (by omega), esc, sd_cn_lt hd, sh_b (by omega)]
    · have esc : sd_sc P m = 8 := (if_neg hno).trans (if_neg h7)
      refine br_f (fun z => h7 ((nI_eq (b := 7) (by omega) (by decide)).mp z)) (k188 _ ?_)
      rw [esc, sd_cn_ge (Nat.le_refl _)]; exact sh_bm
  have k126 : ∀ z0 : Int32, vp_nar .byte z0.toInt8.toInt32 = sd_cn 8 (sd_fs P m) → wX_take_126 post (nI (sd_pos P m)) (nI (sd_kd P m)) (sd_cn 8 (sd_tg P m)) (nI (sd_num P m)) z0 (nI (sd_pos P m)) f_length f_bankTime f_size f_fetchTime (nI (xx_nw P m (18 * c))) (nI (sd_num P m + 1)) f_ready f_branching f_ended 0 (nI c) f_accesses (nI (xx_mc P m)) (nI (m + 1)) f_cycles a_op a_into a_left a_right a_register a_word a_many a_latency (upd a_work (sd_pos P m) (nI m)) (upd a_place (sd_pos P m) (nI (sd_num P m))) a_first a_second a_awaitsFirst a_awaitsSecond a_x a_y a_hasRead a_accessed a_due a_writer a_bankFree a_packs a_turn (upd a_which m (nI (sd_num P m))) (upd a_kinds m (nI (sd_kd P m))) (upd a_times (4 * m) (nI c)) (upd a_unit m (nI (sd_un P m))) a_lost := by
    intro z0 e0
    unfold wX_take_126
    rw [eu, e0, en, hop]
    refine ⟨iu, nm_e ⟨ip, ?_⟩⟩
    by_cases h0 : sd_o P m = 0
    · exact br_t (by rw [h0]; decide) (k165 (by omega))
    refine br_f (nI_nle (by omega) (by omega)) ⟨ip, ?_⟩
    by_cases h6 : 6 ≤ sd_o P m
    · exact br_t (nI_le (a := 6) h6 (by omega)) (k165 (by omega))
    refine br_f (nI_ge (b := 6) (by omega) (by decide)) ⟨ip, k188 _ ?_⟩
    have hb := hvi.2.2.2.2.1 (by unfold sd_o at h0; omega) (by unfold sd_o at h6; omega)
    have esc : sd_sc P m = sd_gb P (sd_num P m) := if_pos ⟨by unfold sd_o at h0; omega, by unfold sd_o at h6; omega⟩
    rw [hst.2.2.2, esc, sd_cn_lt hb.1, show sd_gB P (sd_num P m) = nI (sd_gb P (sd_num P m)) from hb.2, sh_b (by omega)]
  unfold wpX_take
  dsimp only
  rw [nI_1, nI_1, eu, en, nI_clamp (n := m) (by omega), sh_b (n := m) (by omega), sh_b (n := sd_num P m) (by omega), sh_b (n := sd_kd P m) (by omega), show nI (sd_pos P m) - nI (sd_pos P m) / 3 * 3 = nI (sd_un P m) from by rw [show nI (sd_pos P m) - nI (sd_pos P m) / 3 * 3 = nI (sd_pos P m % 3) from pk_rem (d := 3) (by omega) (by decide) (by decide), show sd_pos P m % 3 = sd_un P m from by unfold sd_pos; omega], sh_b (n := sd_un P m) (by omega), show (4 : Int32) * nI m = nI (4 * m) from pk_mul 4 m, nI_clamp (n := 4 * m) (by omega), sh_s (n := c) (by omega), hop]
  have im : vp_in (nI m) 60 := vp_in_nI (by omega) (by decide)
  refine nm_e (nm_e ⟨iu, nm_e ⟨iu, nm_e ⟨im, nm_e ⟨im, nm_e ⟨sh_30, im, nm_e ⟨vp_in_nI (by omega) (by decide), nm_e ⟨ip, ?_⟩⟩⟩⟩⟩⟩⟩)
  have k125 : ¬ (0 < sd_o P m ∧ sd_o P m < 9) → wX_take_125 post (nI (sd_pos P m)) (nI (sd_kd P m)) (sd_cn 8 (sd_tg P m)) (nI (sd_num P m)) (nI (sd_pos P m)) f_length f_bankTime f_size f_fetchTime (nI (xx_nw P m (18 * c))) (nI (sd_num P m + 1)) f_ready f_branching f_ended 0 (nI c) f_accesses (nI (xx_mc P m)) (nI (m + 1)) f_cycles a_op a_into a_left a_right a_register a_word a_many a_latency (upd a_work (sd_pos P m) (nI m)) (upd a_place (sd_pos P m) (nI (sd_num P m))) a_first a_second a_awaitsFirst a_awaitsSecond a_x a_y a_hasRead a_accessed a_due a_writer a_bankFree a_packs a_turn (upd a_which m (nI (sd_num P m))) (upd a_kinds m (nI (sd_kd P m))) (upd a_times (4 * m) (nI c)) (upd a_unit m (nI (sd_un P m))) a_lost := by
    intro hno
    unfold wX_take_125
    refine k126 _ ?_
    rw [show sd_fs P m = 8 from if_neg hno, sd_cn_ge (Nat.le_refl _)]; exact sh_bm
  by_cases h0 : sd_o P m = 0
  · exact br_t (by rw [h0]; decide) (k125 (by omega))
  refine br_f (nI_nle (by omega) (by omega)) ⟨ip, ?_⟩
  by_cases h9 : 9 ≤ sd_o P m
  · exact br_t (nI_le (a := 9) h9 (by omega)) (k125 (by omega))
  refine br_f (nI_ge (b := 9) (by omega) (by decide)) ⟨ip, k126 _ ?_⟩
  have ha := hvi.2.2.2.1 (by unfold sd_o at h0; omega) (by unfold sd_o at h9; omega)
  have efs : sd_fs P m = sd_ga P (sd_num P m) := if_pos ⟨by unfold sd_o at h0; omega, by unfold sd_o at h9; omega⟩
  rw [hst.2.2.1, efs, sd_cn_lt ha.1, show sd_gA P (sd_num P m) = nI (sd_ga P (sd_num P m)) from ha.2, sh_b (by omega)]
end
end
section
/-! issue: the walk -/
theorem is_kind {post : Int32 → Prop} {o : Nat} (ho : o ≤ 10) (K : post (nI (sd_kn o))) : wpX_kindOf post (nI o) := by
  unfold sd_kn at K
  unfold wpX_kindOf
  by_cases h1 : o < 1
  · rw [if_pos h1] at K
    exact br_f (nI_ge (b := 1) h1 (by decide)) K
  rw [if_neg h1] at K
  refine br_t (nI_le (a := 1) (by omega) (by omega)) ?_
  by_cases h4 : o < 4
  · rw [if_pos h4] at K
    exact br_f (nI_ge (b := 4) h4 (by decide)) K
  rw [if_neg h4] at K
  refine br_t (nI_le (a := 4) (by omega) (by omega)) ?_
  by_cases h6 : o < 6
  · rw [if_pos h6] at K
    refine br_f (nI_ge (b := 6) h6 (by decide)) ?_
    rw [show nI o - 2 = nI (o - 2) from pk_sub (b := 2) (by omega)]; exact K
  rw [if_neg h6] at K
  refine br_t (nI_le (a := 6) (by omega) (by omega)) ?_
  by_cases h8 : o < 8
  · rw [if_pos h8] at K
    exact br_f (nI_ge (b := 8) h8 (by decide)) K
  · rw [if_neg h8] at K
    exact br_t (nI_le (a := 8) (by omega) (by omega)) K
section
variable {P : sd_Pg} {D c m : Nat} {post : Int32 → SX → Prop} {x2 : Int32}
variable {f_length f_bankTime f_size f_fetchTime f_atWork f_pc f_ready f_branching f_ended f_outcome f_cycle f_accesses f_memories f_done f_cycles : Int32}
variable {a_op a_into a_left a_right a_register a_word a_many a_latency a_work a_place a_first a_second a_awaitsFirst a_awaitsSecond a_x a_y a_hasRead a_accessed a_due a_writer a_bankFree a_packs a_turn a_which a_kinds a_times a_unit a_lost : Nat → Int32}
theorem is_scan {q g : Nat} (hq : q < 6) (hg : g ≤ 3) (hmany : a_many q = nI g)
    (Kf : ∀ i, i < g → (∀ u, u < i → 0 ≤ a_work (3 * q + u)) → ¬ 0 ≤ a_work (3 * q + i) → wX_issue_102 post (nI q) x2 (nI (3 * q + i)) f_length f_bankTime f_size f_fetchTime f_atWork f_pc f_ready f_branching f_ended f_outcome f_cycle f_accesses f_memories f_done f_cycles a_op a_into a_left a_right a_register a_word a_many a_latency a_work a_place a_first a_second a_awaitsFirst a_awaitsSecond a_x a_y a_hasRead a_accessed a_due a_writer a_bankFree a_packs a_turn a_which a_kinds a_times a_unit a_lost)
    (Kn : (∀ u, u < g → 0 ≤ a_work (3 * q + u)) → wX_issue_102 post (nI q) x2 (nI (3 * q + g)) f_length f_bankTime f_size f_fetchTime f_atWork f_pc f_ready f_branching f_ended f_outcome f_cycle f_accesses f_memories f_done f_cycles a_op a_into a_left a_right a_register a_word a_many a_latency a_work a_place a_first a_second a_awaitsFirst a_awaitsSecond a_x a_y a_hasRead a_accessed a_due a_writer a_bankFree a_packs a_turn a_which a_kinds a_times a_unit a_lost) :
    ∀ n i, i ≤ g → g < n + i → (∀ u, u < i → 0 ≤ a_work (3 * q + u)) → wX_issue_76 post (nI q) x2 f_length f_bankTime f_size f_fetchTime f_atWork f_pc f_ready f_branching f_ended f_outcome f_cycle f_accesses f_memories f_done f_cycles a_op a_into a_left a_right a_register a_word a_many a_latency a_work a_place a_first a_second a_awaitsFirst a_awaitsSecond a_x a_y a_hasRead a_accessed a_due a_writer a_bankFree a_packs a_turn a_which a_kinds a_times a_unit a_lost n (nI (3 * q + i) - 1) := by
  intro n
  induction n with
  | zero => intro i h1 h2; omega
  | succ n ih =>
    intro i h1 h2 h3
    rw [wX_issue_76]
    dsimp only
    rw [Int32.sub_add_cancel, nI_clamp (n := q) (by omega), hmany, show (3 : Int32) * nI q = nI (3 * q) from pk_mul 3 q, nI_add]
    refine nm_e ⟨vp_in_nI hq (by decide), ?_⟩
    by_cases hi : g ≤ i
    · have e : i = g := by omega
      subst e
      exact br_t (nI_le (Nat.le_refl _) (by omega)) (Kn h3)
    refine br_f (nI_ge (by omega) (by omega)) ⟨vp_in_nI (by omega) (by decide), ?_⟩
    rw [nI_clamp (n := 3 * q + i) (by omega)]
    refine br_c (fun hw => ?_) (fun hw => Kf i (by omega) h3 hw)
    have h4 := ih (i + 1) (by omega) (by omega) (fun u hu => by
      by_cases e : u = i
      · rw [e]; exact hw
      · exact h3 u (by omega))
    rw [show 3 * q + (i + 1) = 3 * q + i + 1 from rfl, nI_pred] at h4
    exact h4
end
section
variable {P : sd_Pg} {D c m : Nat} {out : Int32} {post : Int32 → SX → Prop}
variable {f_length f_bankTime f_size f_fetchTime f_atWork f_pc f_ready f_branching f_ended f_outcome f_cycle f_accesses f_memories f_done f_cycles : Int32}
variable {a_op a_into a_left a_right a_register a_word a_many a_latency a_work a_place a_first a_second a_awaitsFirst a_awaitsSecond a_x a_y a_hasRead a_accessed a_due a_writer a_bankFree a_packs a_turn a_which a_kinds a_times a_unit a_lost : Nat → Int32}
theorem is_issue {c0 : Nat} (H0 : xx_B P D c0 m) (hcc : c = c0 + 1)
    (hS : xx_ST P a_op a_into a_left a_right a_many a_latency) (hl : f_length = nI (sd_gs P)) (hs : f_size = nI (sd_gS P)) (hf : f_fetchTime = nI (sd_gf P)) (hO : xf_OUT P D out)
    (I : xh_I P D m (18 * c) (18 * c) (3 * c) (18 * c) c out f_atWork f_pc f_ready f_branching f_ended f_outcome f_memories f_cycles a_work a_place a_first a_second a_awaitsFirst a_awaitsSecond a_x a_y a_hasRead a_accessed a_due a_writer a_packs a_turn a_which a_kinds a_times a_unit a_lost)
    (hen : f_ended = 0)
    (K : ∀ r m' f_atWork f_pc f_ready f_branching f_ended f_outcome f_memories a_work a_place a_first a_second a_awaitsFirst a_awaitsSecond a_hasRead a_accessed a_writer a_packs a_turn a_which a_kinds a_times a_unit a_lost, xx_B P D c m' → xh_I P D m' (18 * c) (18 * c) (3 * c) (18 * c) (c + 1) out f_atWork f_pc f_ready f_branching f_ended f_outcome f_memories f_cycles a_work a_place a_first a_second a_awaitsFirst a_awaitsSecond a_x a_y a_hasRead a_accessed a_due a_writer a_packs a_turn a_which a_kinds a_times a_unit a_lost → (∀ k, xx_L P m' (18 * c) k → (nI (sd_pos P k) = r ↔ sd_is P k = c)) → post r (f_length, f_bankTime, f_size, f_fetchTime, f_atWork, f_pc, f_ready, f_branching, f_ended, f_outcome, nI c, f_accesses, f_memories, nI m', f_cycles, a_op, a_into, a_left, a_right, a_register, a_word, a_many, a_latency, a_work, a_place, a_first, a_second, a_awaitsFirst, a_awaitsSecond, a_x, a_y, a_hasRead, a_accessed, a_due, a_writer, a_bankFree, a_packs, a_turn, a_which, a_kinds, a_times, a_unit, a_lost)) :
    wpX_issue post (f_length, f_bankTime, f_size, f_fetchTime, f_atWork, f_pc, f_ready, f_branching, f_ended, f_outcome, nI c, f_accesses, f_memories, nI m, f_cycles, a_op, a_into, a_left, a_right, a_register, a_word, a_many, a_latency, a_work, a_place, a_first, a_second, a_awaitsFirst, a_awaitsSecond, a_x, a_y, a_hasRead, a_accessed, a_due, a_writer, a_bankFree, a_packs, a_turn, a_which, a_kinds, a_times, a_unit, a_lost) := by
  have H := H0.1
  have V := H.1
  have hD60 := H.2.1
  obtain ⟨h1, h2, h3, h4, h5, h6, h7, h8, h9, h10, h11, h12, h13, h14, s0, hF, hL⟩ := I
  rcases hF with ⟨hm, a2, a3, a4, a5, a6, a7, a8, a9⟩ | ⟨b1, b2, b3, b4, b5, b6, b7⟩ | ⟨c1, c2, c3, c4, c5⟩
  rotate_left
  · rw [hen] at b6; exact absurd b6.symm sh_10
  · rw [hen] at c4; exact absurd c4.symm sh_10
  have L := H.2.2 m hm
  have h24 := V.1
  have hgs : sd_num P m < 24 := by have := L.1; omega
  have ho := ls_o V L
  have hst := hS.1 _ L.1
  have hop : a_op (sd_num P m) = nI (sd_o P m) := hst.1
  have ip : vp_in (nI (sd_num P m)) 24 := vp_in_nI hgs (by decide)
  have hkd := ls_kd P m
  have hgm := ls_gm (k := m) V
  have hwb := ls_w H hm
  have hiw := ls_iw (k := m) V
  have hci : c ≤ sd_is P m := by have := H0.2.2.2 m (Nat.le_refl _) hm; omega
  have hco := ls_co (P := P) (k := m)
  have hnx : sd_nx P m ≤ c := by
    by_cases z : m = 0
    · rw [z, ls_nx0]; omega
    · obtain ⟨j, rfl⟩ : ∃ j, m = j + 1 := ⟨m - 1, by omega⟩
      rw [Nat.add_sub_cancel] at a2
      by_cases z5 : sd_kd P j = 5
      · have := a2 (by omega) z5
        unfold xx_wt at this
        rw [ls_nx5 z5]; omega
      · have := H0.2.2.1 j (by omega)
        rw [ls_nxn z5]; omega
  -- not issued
  have stay : c < sd_is P m → ∀ a_lost' : Nat → Int32, xx_LO a_lost' s0 (xi_1 P D m (c + 1)) (xi_2 P D m (c + 1)) (xi_3 P D m (c + 1)) (xx_s4 P D (18 * c)) (xx_s5 P D (3 * c)) (xx_s6 P D (18 * c)) → post (-1) (f_length, f_bankTime, f_size, f_fetchTime, f_atWork, f_pc, f_ready, f_branching, f_ended, f_outcome, nI c, f_accesses, f_memories, nI m, f_cycles, a_op, a_into, a_left, a_right, a_register, a_word, a_many, a_latency, a_work, a_place, a_first, a_second, a_awaitsFirst, a_awaitsSecond, a_x, a_y, a_hasRead, a_accessed, a_due, a_writer, a_bankFree, a_packs, a_turn, a_which, a_kinds, a_times, a_unit, a_lost') := by
    intro hlt a_lost' hL'
    refine K _ _ _ _ _ _ _ _ _ _ _ _ _ _ _ _ _ _ _ _ _ _ _ _ _ ⟨H, H0.2.1, ?_, ?_⟩ ⟨h1, h2, h3, h4, h5, h6, h7, h8, h9, h10, h11, h12, h13, h14, s0, Or.inl ⟨hm, a2, a3, a4, a5, a6, a7, a8, a9⟩, hL'⟩ ?_
    · intro k hk; have := H0.2.2.1 k hk; omega
    · intro k hk hkD; have := ls_isle (P := P) V hk; omega
    · intro k hk
      have h15 := H0.2.2.1 k hk.1
      have pk := ls_pos (k := k) V
      exact ⟨fun z => absurd z (sd_m1n (by omega)), fun z => by omega⟩
  unfold wpX_issue
  dsimp only
  rw [a3, nI_clamp (n := sd_num P m) (by omega), hop]
  refine ⟨ip, is_kind (by omega) (xt_target V L.1 hS ?_)⟩
  show _ ∧ _
  rw [show sd_tg1 P (sd_num P m) = sd_tg P m from rfl, show sd_kn (sd_o P m) = sd_kd P m from rfl, a4]
  rw [a3, a4] at stay
  by_cases zr : sd_co P m ≤ c
  case neg =>
    refine br_f (nI_ge (by omega) (by omega)) (nm_e (stay (by omega) _ ?_))
    obtain ⟨e1, e2, e3⟩ := xk_n1 (P := P) hm hnx (show c < sd_co P m by omega)
    rw [e1, e2, e3]
    exact xx_LO1 hL (by rw [hL.2.1, nI_1])
  refine br_t (nI_le zr (by omega)) ?_
  have busy : ∀ i, i < sd_gm P (sd_kd P m) → 0 ≤ a_work (3 * sd_kd P m + i) → c < sd_ub P m i := by
    intro i hi hw
    rcases h1 (3 * sd_kd P m + i) (by omega) with ⟨w1, w2⟩ | ⟨k, hk, hp, w⟩
    · rw [w1] at hw; exact absurd hw sh_m1
    · have pk := ls_pos (k := k) V
      have h3u := ls_un3 (k := k) V
      refine ls_ub.mpr ⟨k, hk.1, ?_, ?_⟩
      · unfold sd_pos at hp; omega
      · have := hk.2; unfold xx_wt at this; omega
  have scan : sd_hw P m ≤ c → ∃ n76 : Nat, wX_issue_76 post (nI (sd_kd P m)) (sd_cn 8 (sd_tg P m)) f_length f_bankTime f_size f_fetchTime f_atWork (nI (sd_num P m)) (nI (sd_co P m)) f_branching f_ended f_outcome (nI c) f_accesses f_memories (nI m) f_cycles a_op a_into a_left a_right a_register a_word a_many a_latency a_work a_place a_first a_second a_awaitsFirst a_awaitsSecond a_x a_y a_hasRead a_accessed a_due a_writer a_bankFree a_packs a_turn a_which a_kinds a_times a_unit a_lost n76 (nI (3 * sd_kd P m + 0) - 1) := by
    intro hhw
    refine ⟨4, is_scan (g := sd_gm P (sd_kd P m)) hkd hgm.2 (hS.2 _ hkd).1 ?_ ?_ 4 0 (by omega) (by omega) (fun u hu => absurd hu (Nat.not_lt_zero _))⟩
    · intro i hi hbz hfr
      have none : a_work (3 * sd_kd P m + i) = -1 ∧ ∀ k, xx_L P m (18 * c) k → sd_pos P k ≠ 3 * sd_kd P m + i := by
        rcases h1 (3 * sd_kd P m + i) (by omega) with w | ⟨k, hk, hp, w⟩
        · exact w
        · have hk60 := H0.2.1
          have := hk.1
          rw [w] at hfr; exact absurd (nI_pos' (by omega)) hfr
      have hub : sd_ub P m i ≤ c := by
        rcases Nat.lt_or_ge c (sd_ub P m i) with z | z
        · obtain ⟨j, hj, ⟨j1, j2⟩, hw⟩ := ls_ub.mp z
          refine absurd ?_ (none.2 j ⟨hj, by unfold xx_wt; omega⟩)
          unfold sd_pos; omega
        · exact z
      have hic : sd_is P m = c := by
        have := sd_ml_le (f := sd_ub P m) (n := sd_gm P (sd_kd P m)) hi
        have e := sd_is_e P m
        omega
      have hun : sd_un P m = i := by
        rcases Nat.lt_trichotomy (sd_un P m) i with z | z | z
        · have := busy _ (by omega) (hbz _ z)
          have := ls_unf (k := m) V
          omega
        · exact z
        · have := ls_unl (P := P) z; omega
      have hp : sd_pos P m = 3 * sd_kd P m + i := by unfold sd_pos; omega
      rw [← hp] at none ⊢
      unfold wX_issue_102
      rw [nI_clamp (n := sd_kd P m) (by omega), (hS.2 _ hkd).1, show (3 : Int32) * nI (sd_kd P m) = nI (3 * sd_kd P m) from pk_mul 3 _, nI_add]
      refine ⟨vp_in_nI hkd (by decide), br_f (fun z => by have := (nI_eq (by omega) (by omega)).mp z; omega) ?_⟩
      rw [a7, h13, h14]
      refine tk_take (out := out) H hm hic hS hl hs hf hO h4 a8 ?_
      intro f_pc f_ready f_branching f_ended f_outcome a_packs hF'
      dsimp only
      have ht : (sd_kd P m = 4 ∧ (if sd_kd P m = 4 then upd a_turn (sd_pos P m) (nI (xx_mc P m)) else a_turn) = upd a_turn (sd_pos P m) (nI (xx_mc P m))) ∨ (¬ sd_kd P m = 4 ∧ (if sd_kd P m = 4 then upd a_turn (sd_pos P m) (nI (xx_mc P m)) else a_turn) = a_turn) := by
        by_cases z : sd_kd P m = 4
        · exact Or.inl ⟨z, if_pos z⟩
        · exact Or.inr ⟨z, if_neg z⟩
      have hw : (sd_tg P m < 8 ∧ (if sd_tg P m < 8 then upd a_writer (sd_tg P m) (nI (sd_pos P m)) else a_writer) = upd a_writer (sd_tg P m) (nI (sd_pos P m))) ∨ (¬ sd_tg P m < 8 ∧ (if sd_tg P m < 8 then upd a_writer (sd_tg P m) (nI (sd_pos P m)) else a_writer) = a_writer) := by
        by_cases z : sd_tg P m < 8
        · exact Or.inl ⟨z, if_pos z⟩
        · exact Or.inr ⟨z, if_neg z⟩
      obtain ⟨g1, g2, g3, g4, g5, g6, g7, g8, g9, g10, g11, g12⟩ := xk_take H hm hic none.2 h1 h2 h3 h4 h5 h6 h7 h8 h9 h10 h11 h12 ht hw
      refine K _ (m + 1) _ _ _ _ _ _ _ _ _ _ _ _ _ _ _ _ _ _ _ _ _ _ _ ⟨H, by omega, ?_, ?_⟩ ⟨g1, g2, g3, g4, g5, g6, g7, g8, g9, g10, g11, g12, rfl, rfl, _, hF', ?_⟩ ?_
      · intro k hk
        by_cases e : k = m
        · rw [e]; omega
        · have := H0.2.2.1 k (by omega); omega
      · intro k hk hkD; have := ls_is (P := P) V (show m < k by omega); omega
      · rw [xk_x1 V hm hic, xk_x2 V hm hic, xk_x3 V hm hic, ← a9]; exact hL
      · intro k hk
        have pk := ls_pos (k := k) V
        have pm := ls_pos (k := m) V
        rcases xk_L hk with e | e
        · rw [e]; exact ⟨fun _ => hic, fun _ => rfl⟩
        · have h15 := H0.2.2.1 k e.1
          exact ⟨fun z => absurd ((nI_eq (by omega) (by omega)).mp z) (none.2 k e), fun z => by omega⟩
    · intro hbz
      have hlt : c < sd_is P m := by
        obtain ⟨u, hu, e⟩ := sd_ml_ex (f := sd_ub P m) (n := sd_gm P (sd_kd P m)) hgm.1
        have := busy u hu (hbz u hu)
        have := ls_ml (P := P) (k := m)
        omega
      unfold wX_issue_102
      rw [nI_clamp (n := sd_kd P m) (by omega), (hS.2 _ hkd).1, show (3 : Int32) * nI (sd_kd P m) = nI (3 * sd_kd P m) from pk_mul 3 _, nI_add]
      refine ⟨vp_in_nI hkd (by decide), br_t rfl (nm_e (stay hlt _ ?_))⟩
      obtain ⟨e1, e2, e3⟩ := xk_n3 (P := P) hm zr hhw
      rw [e1, e2, e3]
      exact xx_LO3 hL (by rw [hL.2.2.2.1, nI_1])
  by_cases t8 : sd_tg P m < 8
  · rw [sd_cn_lt t8] at scan ⊢
    refine br_f (nI_pos (by omega)) ⟨vp_in_nI t8 (by decide), ?_⟩
    rw [nI_clamp (n := sd_tg P m) (by omega)]
    rcases h4 (sd_tg P m) t8 with ⟨j, j1, j2, j3, j4, j5⟩ | ⟨g1, g2⟩
    · have pj := ls_pos (k := j) V
      have hhw : c < sd_hw P m := ls_hw.mpr ⟨j, j1, ⟨t8, j2⟩, by unfold xx_wt at j4; omega⟩
      have := ls_hwi (P := P) (k := m)
      rw [j5]
      refine br_f (nI_pos (by omega)) (nm_e (stay (by omega) _ ?_))
      obtain ⟨e1, e2, e3⟩ := xk_n2 (P := P) hm zr hhw
      rw [e1, e2, e3]
      exact xx_LO2 hL (by rw [hL.2.2.1, nI_1])
    · rw [g1]
      refine br_t sd_m1lt (nm_r (e' := nI (3 * sd_kd P m + 0) - 1) (by rw [Nat.add_zero]; exact congrArg (· - 1) (pk_mul 3 _)) (scan ?_))
      rcases Nat.lt_or_ge c (sd_hw P m) with z | z
      · obtain ⟨j, hj, ⟨_, j2⟩, hw⟩ := ls_hw.mp z
        have := g2 j hj j2 t8
        unfold xx_wt at this; omega
      · exact z
  · refine br_t ((sd_cn_neg (by decide)).mpr (by omega)) (nm_r (e' := nI (3 * sd_kd P m + 0) - 1) (by rw [Nat.add_zero]; exact congrArg (· - 1) (pk_mul 3 _)) (scan ?_))
    rcases Nat.lt_or_ge c (sd_hw P m) with z | z
    · obtain ⟨j, hj, ⟨h, _⟩, hw⟩ := ls_hw.mp z
      exact absurd h t8
    · exact z
end
end
section
/-! one cycle -/
section
variable {P : sd_Pg} {D c m : Nat} {out : Int32}
/-- the state at the head of the loop, cycle c0 done -/
def xm_I (P : sd_Pg) (D m c0 : Nat) (out f_atWork f_pc f_ready f_branching f_ended f_outcome f_cycle f_accesses f_memories f_done f_cycles : Int32) (a_register a_word a_work a_place a_first a_second a_awaitsFirst a_awaitsSecond a_x a_y a_hasRead a_accessed a_due a_writer a_bankFree a_packs a_turn a_which a_kinds a_times a_unit a_lost : Nat → Int32) : Prop :=
  xx_B P D c0 m ∧ f_cycle = nI c0 ∧ f_done = nI m ∧ f_accesses = nI (xx_ca P D (3 * (c0 + 1))) ∧ xx_RG P D (18 * (c0 + 1)) a_register ∧ xx_WD P D (3 * (c0 + 1)) a_word ∧ xx_BF P D (3 * (c0 + 1)) a_bankFree ∧
  xh_I P D m (18 * (c0 + 1)) (18 * (c0 + 1)) (3 * (c0 + 1)) (18 * (c0 + 1)) (c0 + 1) out f_atWork f_pc f_ready f_branching f_ended f_outcome f_memories f_cycles a_work a_place a_first a_second a_awaitsFirst a_awaitsSecond a_x a_y a_hasRead a_accessed a_due a_writer a_packs a_turn a_which a_kinds a_times a_unit a_lost
end
section
variable {P : sd_Pg} {D c m : Nat} {out tk : Int32} {post : Int32 → SX → Prop}
variable {J : Int32 → Int32 → Int32 → Int32 → Int32 → Int32 → Int32 → Int32 → Int32 → Int32 → Int32 → Int32 → Int32 → Int32 → Int32 → (Nat → Int32) → (Nat → Int32) → (Nat → Int32) → (Nat → Int32) → (Nat → Int32) → (Nat → Int32) → (Nat → Int32) → (Nat → Int32) → (Nat → Int32) → (Nat → Int32) → (Nat → Int32) → (Nat → Int32) → (Nat → Int32) → (Nat → Int32) → (Nat → Int32) → (Nat → Int32) → (Nat → Int32) → (Nat → Int32) → (Nat → Int32) → (Nat → Int32) → (Nat → Int32) → (Nat → Int32) → (Nat → Int32) → (Nat → Int32) → (Nat → Int32) → (Nat → Int32) → (Nat → Int32) → (Nat → Int32) → Prop}
variable {f_length f_bankTime f_size f_fetchTime f_atWork f_pc f_ready f_branching f_ended f_outcome f_cycle f_accesses f_memories f_done f_cycles : Int32}
variable {a_op a_into a_left a_right a_register a_word a_many a_latency a_work a_place a_first a_second a_awaitsFirst a_awaitsSecond a_x a_y a_hasRead a_accessed a_due a_writer a_bankFree a_packs a_turn a_which a_kinds a_times a_unit a_lost : Nat → Int32}
theorem rn_178 (H : xx_B P D c m)
    (hS : xx_ST P a_op a_into a_left a_right a_many a_latency) (hl : f_length = nI (sd_gs P)) (hs : f_size = nI (sd_gS P)) (hf : f_fetchTime = nI (sd_gf P)) (hb : f_bankTime = nI (sd_gt P)) (hO : xf_OUT P D out)
    (hG : xx_RG P D (18 * c) a_register) (hWD : xx_WD P D (3 * c) a_word) (hBF : xx_BF P D (3 * c) a_bankFree)
    (I : xh_I P D m (18 * c) (18 * c) (3 * c) (18 * c) (c + 1) out f_atWork f_pc f_ready f_branching f_ended f_outcome f_memories f_cycles a_work a_place a_first a_second a_awaitsFirst a_awaitsSecond a_x a_y a_hasRead a_accessed a_due a_writer a_packs a_turn a_which a_kinds a_times a_unit a_lost)
    (hT : ∀ k, xx_L P m (18 * c) k → (nI (sd_pos P k) = tk ↔ sd_is P k = c))
    (K : ∀ f_atWork f_pc f_ready f_branching f_ended f_outcome f_cycle f_accesses f_memories f_done f_cycles a_register a_word a_work a_place a_first a_second a_awaitsFirst a_awaitsSecond a_x a_y a_hasRead a_accessed a_due a_writer a_bankFree a_packs a_turn a_which a_kinds a_times a_unit a_lost, xm_I P D m c out f_atWork f_pc f_ready f_branching f_ended f_outcome f_cycle f_accesses f_memories f_done f_cycles a_register a_word a_work a_place a_first a_second a_awaitsFirst a_awaitsSecond a_x a_y a_hasRead a_accessed a_due a_writer a_bankFree a_packs a_turn a_which a_kinds a_times a_unit a_lost → J f_length f_bankTime f_size f_fetchTime f_atWork f_pc f_ready f_branching f_ended f_outcome f_cycle f_accesses f_memories f_done f_cycles a_op a_into a_left a_right a_register a_word a_many a_latency a_work a_place a_first a_second a_awaitsFirst a_awaitsSecond a_x a_y a_hasRead a_accessed a_due a_writer a_bankFree a_packs a_turn a_which a_kinds a_times a_unit a_lost) :
    wX_run_178 post J tk f_length f_bankTime f_size f_fetchTime f_atWork f_pc f_ready f_branching f_ended f_outcome (nI c) (nI (xx_ca P D (3 * c))) f_memories (nI m) f_cycles a_op a_into a_left a_right a_register a_word a_many a_latency a_work a_place a_first a_second a_awaitsFirst a_awaitsSecond a_x a_y a_hasRead a_accessed a_due a_writer a_bankFree a_packs a_turn a_which a_kinds a_times a_unit a_lost := by
  obtain ⟨h1, h2, h3, h4, h5, h6, h7, h8, h9, h10, h11, h12, h13, h14, s0, hF, hL⟩ := I
  unfold wX_run_178
  refine xr_read H h1 h2 h3 h6 hG hS hT ⟨h5, h7, h8, h9, h10, hL⟩ ?_
  intro a_x a_y a_hasRead a_due a_times a_lost I1
  obtain ⟨r1, r2, r3, r4, r5, r6⟩ := I1
  dsimp only
  refine xa_access H h1 h2 r1 r2 r5 hS hb ⟨h6, r3, r4, hWD, hBF, r6⟩ ?_
  intro a_word a_y a_accessed a_due a_bankFree a_lost I2
  obtain ⟨q1, q2, q3, q4, q5, q6⟩ := I2
  dsimp only
  refine xw_write H h1 h2 h3 h4 r1 q1 q3 r2 q2 hS hl hs hf hO hG h12 h13 hF ⟨r5, q6⟩ ?_
  intro f_atWork f_pc f_ready f_branching f_ended f_outcome f_cycles a_register a_work a_awaitsFirst a_awaitsSecond a_writer a_packs a_times a_lost I3
  obtain ⟨l1, l2, l3, l4, l5, l6, l7, s0', l8, l9⟩ := I3
  dsimp only
  have hle : 18 * c ≤ 18 * c + 18 := by omega
  have e18 : 18 * (c + 1) = 18 * c + 18 := by omega
  have e3 : 3 * (c + 1) = 3 * c + 3 := by omega
  refine K _ _ _ _ _ _ _ _ _ _ _ _ _ _ _ _ _ _ _ _ _ _ _ _ _ _ _ _ _ _ _ _ _ ?_
  unfold xm_I
  rw [e18, e3]
  refine ⟨H, rfl, rfl, rfl, l5, q4, q5, l1, ?_, l2, l3, ?_, ?_, ?_, ?_, ?_, l4, h11, l6, l7, h14, s0', l8, l9⟩
  · exact fun k hk => h2 k (xx_Lm hle hk)
  · exact fun k hk => r1 k (xx_Lm hle hk)
  · exact fun k hk => q1 k (xx_Lm hle hk)
  · exact fun k hk => r2 k (xx_Lm hle hk)
  · exact fun k hk => q2 k (xx_Lm hle hk)
  · exact fun k hk => q3 k (xx_Lm hle hk)
theorem rn_153 (hS : xx_ST P a_op a_into a_left a_right a_many a_latency) (hl : f_length = nI (sd_gs P)) (hs : f_size = nI (sd_gS P)) (hf : f_fetchTime = nI (sd_gf P)) (hb : f_bankTime = nI (sd_gt P)) (hO : xf_OUT P D out)
    {c0 : Nat}
    (I : xm_I P D m c0 out f_atWork f_pc f_ready f_branching f_ended f_outcome f_cycle f_accesses f_memories f_done f_cycles a_register a_word a_work a_place a_first a_second a_awaitsFirst a_awaitsSecond a_x a_y a_hasRead a_accessed a_due a_writer a_bankFree a_packs a_turn a_which a_kinds a_times a_unit a_lost)
    (K : ∀ m f_atWork f_pc f_ready f_branching f_ended f_outcome f_cycle f_accesses f_memories f_done f_cycles a_register a_word a_work a_place a_first a_second a_awaitsFirst a_awaitsSecond a_x a_y a_hasRead a_accessed a_due a_writer a_bankFree a_packs a_turn a_which a_kinds a_times a_unit a_lost, xm_I P D m (c0 + 1) out f_atWork f_pc f_ready f_branching f_ended f_outcome f_cycle f_accesses f_memories f_done f_cycles a_register a_word a_work a_place a_first a_second a_awaitsFirst a_awaitsSecond a_x a_y a_hasRead a_accessed a_due a_writer a_bankFree a_packs a_turn a_which a_kinds a_times a_unit a_lost → J f_length f_bankTime f_size f_fetchTime f_atWork f_pc f_ready f_branching f_ended f_outcome f_cycle f_accesses f_memories f_done f_cycles a_op a_into a_left a_right a_register a_word a_many a_latency a_work a_place a_first a_second a_awaitsFirst a_awaitsSecond a_x a_y a_hasRead a_accessed a_due a_writer a_bankFree a_packs a_turn a_which a_kinds a_times a_unit a_lost) :
    wX_run_153 post J f_length f_bankTime f_size f_fetchTime f_atWork f_pc f_ready f_branching f_ended f_outcome f_cycle f_accesses f_memories f_done f_cycles a_op a_into a_left a_right a_register a_word a_many a_latency a_work a_place a_first a_second a_awaitsFirst a_awaitsSecond a_x a_y a_hasRead a_accessed a_due a_writer a_bankFree a_packs a_turn a_which a_kinds a_times a_unit a_lost := by
  obtain ⟨H0, e1, e2, e3, hG, hWD, hBF, I⟩ := I
  have V := H0.1.1
  subst e1 e2 e3
  unfold wX_run_153
  refine nm_r (nI_1 c0) ?_
  by_cases hen : f_ended = 0
  · refine br_t hen (is_issue H0 rfl hS hl hs hf hO I hen ?_)
    intro r m' f_atWork f_pc f_ready f_branching f_ended f_outcome f_memories a_work a_place a_first a_second a_awaitsFirst a_awaitsSecond a_hasRead a_accessed a_writer a_packs a_turn a_which a_kinds a_times a_unit a_lost H1 I1 hT
    dsimp only
    exact rn_178 H1 hS hl hs hf hb hO hG hWD hBF I1 hT (K m')
  · refine br_f hen ?_
    obtain ⟨h1, h2, h3, h4, h5, h6, h7, h8, h9, h10, h11, h12, h13, h14, s0, hF, hL⟩ := I
    have hnx : m < D → c0 + 1 < sd_nx P m := by
      intro hm
      rcases hF with ⟨a1, a2, a3, a4, a5, a6, a7⟩ | ⟨b1, b2, b3, b4⟩ | ⟨c1, c2⟩
      · exact absurd a6 hen
      · obtain ⟨j, rfl⟩ : ∃ j, m = j + 1 := ⟨m - 1, by omega⟩
        rw [Nat.add_sub_cancel] at b2 b3
        have pj := ls_pos (k := j) V
        rw [ls_nx5 b2]
        unfold xx_wt at b3; omega
      · omega
    have H1 : xx_B P D (c0 + 1) m := by
      refine ⟨H0.1, H0.2.1, ?_, ?_⟩
      · intro k hk; have := H0.2.2.1 k hk; omega
      · intro k hk hkD
        have h15 := hnx (by omega)
        have h16 := ls_nxco (P := P) (k := m)
        have h17 := ls_co (P := P) (k := m)
        have h18 := ls_isle (P := P) V hk
        omega
    obtain ⟨x1, x2, x3⟩ := xk_n0 (P := P) hnx
    refine rn_178 H1 hS hl hs hf hb hO hG hWD hBF ⟨h1, h2, h3, h4, h5, h6, h7, h8, h9, h10, h11, h12, h13, h14, s0, hF, by rw [x1, x2, x3]; exact hL⟩ ?_ (K m)
    intro k hk
    have h15 := H0.2.2.1 k hk.1
    have pk := ls_pos (k := k) V
    exact ⟨fun z => absurd z (sd_m1n (by omega)), fun z => by omega⟩
end
end
section
/-! the component's run -/
section
variable {P : sd_Pg} {D : Nat}
def xe_1 (P : sd_Pg) (n : Nat) : Nat := sd_sm (fun j => sd_co P j - sd_nx P j) n
def xe_2 (P : sd_Pg) (n : Nat) : Nat := sd_sm (fun j => max (sd_co P j) (sd_hw P j) - sd_co P j) n
def xe_3 (P : sd_Pg) (n : Nat) : Nat := sd_sm (fun j => sd_is P j - max (sd_co P j) (sd_hw P j)) n
def xe_4 (P : sd_Pg) (n : Nat) : Nat := sd_sm (fun k => sd_rd P k - (sd_is P k + 1)) n
def xe_5 (P : sd_Pg) (n : Nat) : Nat := sd_sm (fun k => if sd_kd P k = 4 then sd_ac P k - (sd_rd P k + 1) else 0) n
def xe_6 (P : sd_Pg) (n : Nat) : Nat := sd_sm (fun k => sd_wr P k - sd_ry P k) n
/-- the end of a run -/
def xe_E (P : sd_Pg) (D : Nat) (f_done f_cycles : Int32) (a_register a_word a_which a_kinds a_times a_unit a_lost : Nat → Int32) : Prop :=
  f_done = nI D ∧ a_register = sd_RG P D ∧ a_word = sd_WD P D ∧ xx_WH P D a_which a_kinds a_unit ∧
  (∀ k, k < D → a_times (4 * k) = nI (sd_is P k) ∧ a_times (4 * k + 1) = nI (sd_rd P k) ∧ a_times (4 * k + 2) = nI (sd_ry P k) ∧ a_times (4 * k + 3) = nI (sd_wr P k)) ∧
  xx_LO a_lost (xf_S0 P D) (xe_1 P D) (xe_2 P D) (xe_3 P D) (xe_4 P D) (xe_5 P D) (xe_6 P D) ∧
  ∃ q, f_cycles = nI q ∧ q ≤ 2000 ∧ (∀ k, k < D → sd_wr P k ≤ q) ∧ (q = 0 ∨ ∃ k, k < D ∧ sd_wr P k = q)
theorem xe_end {m c0 : Nat} {out f_atWork f_pc f_ready f_branching f_ended f_outcome f_cycle f_accesses f_memories f_done f_cycles : Int32} {a_register a_word a_work a_place a_first a_second a_awaitsFirst a_awaitsSecond a_x a_y a_hasRead a_accessed a_due a_writer a_bankFree a_packs a_turn a_which a_kinds a_times a_unit a_lost : Nat → Int32}
    (I : xm_I P D m c0 out f_atWork f_pc f_ready f_branching f_ended f_outcome f_cycle f_accesses f_memories f_done f_cycles a_register a_word a_work a_place a_first a_second a_awaitsFirst a_awaitsSecond a_x a_y a_hasRead a_accessed a_due a_writer a_bankFree a_packs a_turn a_which a_kinds a_times a_unit a_lost)
    (hen : ¬ f_ended = 0) (hat : f_atWork ≤ 0) : f_outcome = out ∧ xe_E P D f_done f_cycles a_register a_word a_which a_kinds a_times a_unit a_lost := by
  obtain ⟨H, e1, e2, e3, hG, hWD, hBF, h1, h2, h3, h4, h5, h6, h7, h8, h9, h10, h11, h12, h13, h14, s0, hF, hL⟩ := I
  have V := H.1.1
  have hD60 := H.1.2.1
  have mD := H.2.1
  have hn0 : xx_nw P m (18 * (c0 + 1)) = 0 := by
    have hle := sd_sm_le (f := fun j => if 18 * (c0 + 1) ≤ xx_wt P j then 1 else 0) (n := m) (b := 1) (fun j _ => by split <;> omega)
    rw [h13] at hat
    rcases Nat.eq_zero_or_pos (xx_nw P m (18 * (c0 + 1))) with z | z
    · exact z
    · exact absurd hat (nI_nle z (by unfold xx_nw; omega))
  have gone : ∀ k, k < m → xx_wt P k < 18 * (c0 + 1) := by
    intro k hk
    have h := sd_sm_zero hn0 k hk
    rcases Nat.lt_or_ge (xx_wt P k) (18 * (c0 + 1)) with z | z
    · exact z
    · rw [if_pos z] at h; omega
  rcases hF with ⟨a1, a2, a3, a4, a5, a6, a7⟩ | ⟨b1, b2, b3, b4⟩ | ⟨c1, c2, c3, c4, c5, c6⟩
  · exact absurd a6 hen
  · have := gone (m - 1) (by omega); omega
  subst c1
  have fin : ∀ k, k < m → sd_wr P k ≤ c0 := by
    intro k hk
    have := gone k hk
    unfold xx_wt at this; omega
  refine ⟨c5, e2, ?_, ?_, h11, ?_, ?_, ?_⟩
  · funext r
    refine hG m r (Nat.le_refl _) ?_
    intro j hj _ _
    exact ⟨fun _ => gone j hj, fun _ => hj⟩
  · refine hWD m (Nat.le_refl _) ?_
    intro j hj h4
    refine ⟨fun _ => ?_, fun _ => hj⟩
    have := fin j hj
    have := ls_aw V h4
    have := ls_un3 (k := j) V
    unfold xx_at; omega
  · intro k hk
    obtain ⟨t1, t2, t3, t4⟩ := h10 k hk
    have h15 := fin k hk
    have h16 := ls_rw (k := k) V
    have h17 := ls_wry (P := P) (k := k)
    have h18 := ls_pos (k := k) V
    exact ⟨t1, t2 (by unfold xx_rt; omega), t3 (by unfold xx_st; omega), t4 (gone k hk)⟩
  · have d1 : xi_1 P m m (c0 + 1) = xe_1 P m := by unfold xi_1 xe_1; rw [if_neg (by omega)]; rfl
    have d2 : xi_2 P m m (c0 + 1) = xe_2 P m := by unfold xi_2 xe_2; rw [if_neg (by omega)]; rfl
    have d3 : xi_3 P m m (c0 + 1) = xe_3 P m := by unfold xi_3 xe_3; rw [if_neg (by omega)]; rfl
    have d4 : xx_s4 P m (18 * (c0 + 1)) = xe_4 P m := by
      refine sd_sm_congr ?_
      intro k hk
      have h15 := fin k hk
      have h16 := ls_rw (k := k) V
      have h18 := ls_pos (k := k) V
      omega
    have d5 : xx_s5 P m (3 * (c0 + 1)) = xe_5 P m := by
      refine sd_sm_congr ?_
      intro k hk
      by_cases z : sd_kd P k = 4
      · have h15 := fin k hk
        have h16 := ls_aw V z
        have h18 := ls_un3 (k := k) V
        rw [if_pos z, if_pos z]; omega
      · rw [if_neg z, if_neg z]
    have d6 : xx_s6 P m (18 * (c0 + 1)) = xe_6 P m := by
      refine sd_sm_congr ?_
      intro k hk
      have h15 := fin k hk
      have h18 := ls_pos (k := k) V
      omega
    rw [← d1, ← d2, ← d3, ← d4, ← d5, ← d6, ← c6]
    exact hL
  · obtain ⟨q, q1, q2, q3, q4⟩ := h12
    refine ⟨q, q1, q2, fun k hk => q3 k hk (gone k hk), ?_⟩
    rcases q4 with z | ⟨k, hk, _, e⟩
    · exact Or.inl z
    · exact Or.inr ⟨k, hk, e⟩
end
section
variable {P : sd_Pg} {D : Nat} {out : Int32} {post : Int32 → SX → Prop}
variable {f_length f_bankTime f_size f_fetchTime : Int32} {a_op a_into a_left a_right a_many a_latency : Nat → Int32}
theorem rn_loop (hS : xx_ST P a_op a_into a_left a_right a_many a_latency) (hl : f_length = nI (sd_gs P)) (hs : f_size = nI (sd_gS P)) (hf : f_fetchTime = nI (sd_gf P)) (hb : f_bankTime = nI (sd_gt P)) (hO : xf_OUT P D out)
    (K : ∀ f_atWork f_pc f_ready f_branching f_ended f_cycle f_accesses f_memories f_done f_cycles a_register a_word a_work a_place a_first a_second a_awaitsFirst a_awaitsSecond a_x a_y a_hasRead a_accessed a_due a_writer a_bankFree a_packs a_turn a_which a_kinds a_times a_unit a_lost, xe_E P D f_done f_cycles a_register a_word a_which a_kinds a_times a_unit a_lost → post out (f_length, f_bankTime, f_size, f_fetchTime, f_atWork, f_pc, f_ready, f_branching, f_ended, out, f_cycle, f_accesses, f_memories, f_done, f_cycles, a_op, a_into, a_left, a_right, a_register, a_word, a_many, a_latency, a_work, a_place, a_first, a_second, a_awaitsFirst, a_awaitsSecond, a_x, a_y, a_hasRead, a_accessed, a_due, a_writer, a_bankFree, a_packs, a_turn, a_which, a_kinds, a_times, a_unit, a_lost)) :
    ∀ n m c0 (f_atWork f_pc f_ready f_branching f_ended f_outcome f_cycle f_accesses f_memories f_done f_cycles : Int32) (a_register a_word a_work a_place a_first a_second a_awaitsFirst a_awaitsSecond a_x a_y a_hasRead a_accessed a_due a_writer a_bankFree a_packs a_turn a_which a_kinds a_times a_unit a_lost : Nat → Int32), c0 ≤ 1440 → 1440 < n + c0 →
      xm_I P D m c0 out f_atWork f_pc f_ready f_branching f_ended f_outcome f_cycle f_accesses f_memories f_done f_cycles a_register a_word a_work a_place a_first a_second a_awaitsFirst a_awaitsSecond a_x a_y a_hasRead a_accessed a_due a_writer a_bankFree a_packs a_turn a_which a_kinds a_times a_unit a_lost → wX_run_139 post n f_length f_bankTime f_size f_fetchTime f_atWork f_pc f_ready f_branching f_ended f_outcome f_cycle f_accesses f_memories f_done f_cycles a_op a_into a_left a_right a_register a_word a_many a_latency a_work a_place a_first a_second a_awaitsFirst a_awaitsSecond a_x a_y a_hasRead a_accessed a_due a_writer a_bankFree a_packs a_turn a_which a_kinds a_times a_unit a_lost := by
  intro n
  induction n with
  | zero => intro m c0; intros; omega
  | succ n ih =>
    intro m c0 f_atWork f_pc f_ready f_branching f_ended f_outcome f_cycle f_accesses f_memories f_done f_cycles a_register a_word a_work a_place a_first a_second a_awaitsFirst a_awaitsSecond a_x a_y a_hasRead a_accessed a_due a_writer a_bankFree a_packs a_turn a_which a_kinds a_times a_unit a_lost hc1 hc2 I
    have V := I.1.1.1
    have go : c0 < 1440 → wX_run_153 post (wX_run_139 post n) f_length f_bankTime f_size f_fetchTime f_atWork f_pc f_ready f_branching f_ended f_outcome f_cycle f_accesses f_memories f_done f_cycles a_op a_into a_left a_right a_register a_word a_many a_latency a_work a_place a_first a_second a_awaitsFirst a_awaitsSecond a_x a_y a_hasRead a_accessed a_due a_writer a_bankFree a_packs a_turn a_which a_kinds a_times a_unit a_lost := by
      intro hlt
      refine rn_153 hS hl hs hf hb hO I ?_
      intros
      exact ih _ (c0 + 1) _ _ _ _ _ _ _ _ _ _ _ _ _ _ _ _ _ _ _ _ _ _ _ _ _ _ _ _ _ _ _ _ _ (by omega) (by omega) (by assumption)
    rw [wX_run_139]
    dsimp only
    by_cases hen : f_ended = 0
    · refine br_t hen (go ?_)
      obtain ⟨H, e1, e2, e3, hG, hWD, hBF, h1, h2, h3, h4, h5, h6, h7, h8, h9, h10, h11, h12, h13, h14, s0, hF, hL⟩ := I
      rcases hF with ⟨a1, a2, a3, a4, a5, a6, a7⟩ | ⟨b1, b2, b3, b4, b5, b6, b7⟩ | ⟨c1, c2, c3, c4, c5, c6⟩
      · have h15 := H.2.2.2 m (Nat.le_refl _) a1
        have h16 := ls_iw (k := m) V
        have h17 := ls_w H.1 a1
        omega
      · rw [hen] at b6; exact absurd b6.symm sh_10
      · rw [hen] at c4; exact absurd c4.symm sh_10
    refine br_f hen ?_
    by_cases hat : f_atWork ≤ 0
    · obtain ⟨e, hE⟩ := xe_end I hen hat
      rw [e]
      exact br_t hat (K _ _ _ _ _ _ _ _ _ _ _ _ _ _ _ _ _ _ _ _ _ _ _ _ _ _ _ _ _ _ _ _ hE)
    · refine br_f hat (go ?_)
      obtain ⟨H, e1, e2, e3, hG, hWD, hBF, h1, h2, h3, h4, h5, h6, h7, h8, h9, h10, h11, h12, h13, h14, s0, hF, hL⟩ := I
      rcases Nat.eq_zero_or_pos (xx_nw P m (18 * (c0 + 1))) with z | z
      · rw [h13, z] at hat; exact absurd (by decide) hat
      · have hx : ∃ k, k < m ∧ 18 * (c0 + 1) ≤ xx_wt P k := by
          refine Classical.byContradiction (fun hno => ?_)
          have : xx_nw P m (18 * (c0 + 1)) = sd_sm (fun _ => 0) m := sd_sm_congr (fun k hk => if_neg (fun z2 => hno ⟨k, hk, z2⟩))
          have h0 := sd_sm_le (f := fun _ => 0) (n := m) (b := 0) (fun _ _ => Nat.le_refl _)
          omega
        obtain ⟨k, hk, hw⟩ := hx
        have hkD := Nat.lt_of_lt_of_le hk H.2.1
        have h17 := ls_w H.1 hkD
        have h18 := ls_pos (k := k) V
        unfold xx_wt at hw; omega
end
/-! before the first cycle -/
section
variable {P : sd_Pg} {D : Nat} {out : Int32}
theorem rn_first {f_ready f_ended f_outcome : Int32} {a_work a_place a_first a_second a_awaitsFirst a_awaitsSecond a_x a_y a_hasRead a_accessed a_due a_writer a_bankFree a_packs a_turn a_which a_kinds a_times a_unit a_lost : Nat → Int32} (H : sd_OK P D)
    (g1 : ∀ u, u < 18 → a_work u = -1) (g2 : ∀ r, r < 8 → a_writer r = -1) (g3 : ∀ b, b < 4 → a_bankFree b = 0) (g5 : ∀ j, j < 7 → a_lost j = 0)
    (hlk : xf_LK P D 0 out f_ended f_ready f_outcome a_packs) :
    xm_I P D 0 0 out 0 (nI (sd_num P 0)) f_ready 0 f_ended f_outcome 0 0 0 0 0 (sd_gR P) (sd_gM P) a_work a_place a_first a_second a_awaitsFirst a_awaitsSecond a_x a_y a_hasRead a_accessed a_due a_writer a_bankFree a_packs a_turn a_which a_kinds a_times a_unit a_lost := by
  have V := H.1
  have nl : ∀ T k, ¬ xx_L P 0 T k := fun T k h => absurd h.1 (Nat.not_lt_zero _)
  have hwt : ∀ k, 18 * (0 + 1) ≤ xx_wt P k := by
    intro k
    have h1 := ls_iw (k := k) V
    have h2 := ls_is1 (k := k) V
    unfold xx_wt; omega
  have hat : ∀ k, 3 * (0 + 1) ≤ xx_at P k := by
    intro k
    have h1 := ls_acr (P := P) (k := k)
    have h3 := ls_rd (P := P) (k := k)
    unfold xx_at; omega
  have zs : ∀ {f : Nat → Nat} {n : Nat}, (∀ k, f k = 0) → sd_sm f n = 0 := by
    intro f n h
    have := sd_sm_le (f := f) (n := n) (b := 0) (fun k _ => by rw [h k]; exact Nat.le_refl _)
    omega
  refine ⟨⟨H, Nat.zero_le _, fun k hk => absurd hk (Nat.not_lt_zero _), fun k _ _ => ls_is1 V⟩, rfl, rfl, ?_, ?_, ?_, ?_, ?_, ?_, ?_, ?_, ?_, ?_, ?_, ?_, ?_, ?_, ?_, ?_, ?_, ?_, ?_⟩
  · have : xx_ca P D (3 * (0 + 1)) = 0 := zs (fun k => if_neg (fun z => by have := hat k; omega))
    rw [this]; rfl
  · intro k r hk h
    refine (xl_rgc (a := 0) (Nat.zero_le _) ?_).symm
    intro j _ hj j8 e
    have := (h j (by omega) e (by omega)).mp hj
    have := hwt j
    omega
  · intro k hk h
    refine (xa_wdc (a := 0) (Nat.zero_le _) ?_).symm
    intro j _ hj j4
    have := (h j (by omega) j4).mp hj
    have := hat j
    omega
  · intro b hb
    refine ⟨0, by rw [g3 b hb]; rfl, by omega, ?_, Or.inl rfl⟩
    intro j _ _ ha
    have := hat j; omega
  · exact fun u hu => Or.inl ⟨g1 u hu, fun k hk => absurd hk (nl _ k)⟩
  · exact fun k hk => absurd hk (nl _ k)
  · exact fun k hk => absurd hk (nl _ k)
  · exact fun r hr => Or.inr ⟨g2 r hr, fun j hj => absurd hj (Nat.not_lt_zero _)⟩
  · exact fun k hk => absurd hk (nl _ k)
  · exact fun k hk => absurd hk (nl _ k)
  · exact fun k hk => absurd hk (nl _ k)
  · exact fun k hk => absurd hk (nl _ k)
  · exact fun k hk => absurd hk (nl _ k)
  · exact fun k hk => absurd hk (Nat.not_lt_zero _)
  · exact fun k hk => absurd hk (Nat.not_lt_zero _)
  · exact ⟨0, rfl, by omega, fun k hk => absurd hk (Nat.not_lt_zero _), Or.inl rfl⟩
  · rfl
  · rfl
  · refine ⟨0, ?_, ?_⟩
    · rcases hlk with ⟨l1, l2, l3, l4, l5⟩ | ⟨l1, l2, l3⟩
      · refine Or.inl ⟨l1, fun z => absurd z (Nat.lt_irrefl _), rfl, l3, rfl, l2, l4, l5, rfl⟩
      · refine Or.inr (Or.inr ⟨l1, fun z => absurd z (Nat.lt_irrefl _), rfl, l2, l3, ?_⟩)
        rw [← l1]; rfl
    · have hco := ls_nxco (P := P) (k := 0)
      have hn0 := ls_nx0 (P := P)
      have d1 : xi_1 P D 0 (0 + 1) = 0 := by
        show 0 + _ = 0
        split <;> omega
      have d2 : xi_2 P D 0 (0 + 1) = 0 := by
        show 0 + _ = 0
        split <;> omega
      have d3 : xi_3 P D 0 (0 + 1) = 0 := by
        show 0 + _ = 0
        split <;> omega
      have d4 : xx_s4 P D (18 * (0 + 1)) = 0 := zs (fun k => by
        have h1 := ls_pos (k := k) V
        have h2 := ls_is1 (k := k) V
        omega)
      have d5 : xx_s5 P D (3 * (0 + 1)) = 0 := zs (fun k => by
        have h1 := ls_un3 (k := k) V
        have h2 := ls_rd (P := P) (k := k)
        split <;> omega)
      have d6 : xx_s6 P D (18 * (0 + 1)) = 0 := zs (fun k => by
        have h1 := ls_pos (k := k) V
        have h2 := ls_is1 (k := k) V
        have h3 := ls_rd (P := P) (k := k)
        have h4 := ls_ry (k := k) V
        omega)
      rw [d1, d2, d3, d4, d5, d6]
      exact ⟨g5 0 (by decide), g5 1 (by decide), g5 2 (by decide), g5 3 (by decide), g5 4 (by decide), g5 5 (by decide), g5 6 (by decide)⟩
end
end
section
/-! the component's run, from its start -/
theorem sh_s00 : vp_nar .short 0 = 0 := by rw [vp_nar_short]; decide
section
variable {post : Int32 → SX → Prop}
variable {f_length f_bankTime f_size f_fetchTime f_atWork f_pc f_ready f_branching f_ended f_outcome f_cycle f_accesses f_memories f_done f_cycles : Int32}
variable {a_op a_into a_left a_right a_register a_word a_many a_latency a_place a_first a_second a_awaitsFirst a_awaitsSecond a_x a_y a_hasRead a_accessed a_due a_writer a_bankFree a_packs a_turn a_which a_kinds a_times a_unit a_lost : Nat → Int32}
theorem ri_work (K : ∀ a_work : Nat → Int32, (∀ u, u < 18 → a_work u = -1) → ∃ n, wX_run_23 post f_length f_bankTime f_size f_fetchTime f_atWork f_pc f_ready f_branching f_ended f_outcome f_cycle f_accesses f_memories f_done f_cycles n 0 a_op a_into a_left a_right a_register a_word a_many a_latency a_work a_place a_first a_second a_awaitsFirst a_awaitsSecond a_x a_y a_hasRead a_accessed a_due a_writer a_bankFree a_packs a_turn a_which a_kinds a_times a_unit a_lost) :
    ∀ n i (a_work : Nat → Int32), i ≤ 18 → 18 < n + i → (∀ u, u < i → a_work u = -1) → wX_run_2 post f_length f_bankTime f_size f_fetchTime f_atWork f_pc f_ready f_branching f_ended f_outcome f_cycle f_accesses f_memories f_done f_cycles n (nI i) a_op a_into a_left a_right a_register a_word a_many a_latency a_work a_place a_first a_second a_awaitsFirst a_awaitsSecond a_x a_y a_hasRead a_accessed a_due a_writer a_bankFree a_packs a_turn a_which a_kinds a_times a_unit a_lost := by
  intro n
  induction n with
  | zero => intro i; intros; omega
  | succ n ih =>
    intro i a_work h1 h2 h3
    rw [wX_run_2]
    dsimp only
    by_cases hi : 18 ≤ i
    · have e : i = 18 := by omega
      subst e
      exact br_t (nI_le (a := 18) (b := 18) (by decide) (by decide)) (K _ h3)
    rw [nI_clamp (n := i) (by omega), sh_bm0]
    refine br_f (nI_ge (b := 18) (by omega) (by decide)) ⟨vp_in_nI (by omega) (by decide), nm_e (nm_r (nI_1 i) (ih (i + 1) _ (by omega) (by omega) ?_))⟩
    intro u hu
    by_cases e : u = i
    · subst e; exact pk_us
    · rw [pk_un e]; exact h3 u (by omega)
end
section
variable {post : Int32 → SX → Prop}
variable {f_length f_bankTime f_size f_fetchTime f_atWork f_pc f_ready f_branching f_ended f_outcome f_cycle f_accesses f_memories f_done f_cycles : Int32}
variable {a_op a_into a_left a_right a_register a_word a_many a_latency a_work a_place a_first a_second a_awaitsFirst a_awaitsSecond a_x a_y a_hasRead a_accessed a_due a_bankFree a_packs a_turn a_which a_kinds a_times a_unit a_lost : Nat → Int32}
theorem ri_writer (K : ∀ a_writer : Nat → Int32, (∀ u, u < 8 → a_writer u = -1) → ∃ n, wX_run_44 post f_length f_bankTime f_size f_fetchTime f_atWork f_pc f_ready f_branching f_ended f_outcome f_cycle f_accesses f_memories f_done f_cycles n 0 a_op a_into a_left a_right a_register a_word a_many a_latency a_work a_place a_first a_second a_awaitsFirst a_awaitsSecond a_x a_y a_hasRead a_accessed a_due a_writer a_bankFree a_packs a_turn a_which a_kinds a_times a_unit a_lost) :
    ∀ n i (a_writer : Nat → Int32), i ≤ 8 → 8 < n + i → (∀ u, u < i → a_writer u = -1) → wX_run_23 post f_length f_bankTime f_size f_fetchTime f_atWork f_pc f_ready f_branching f_ended f_outcome f_cycle f_accesses f_memories f_done f_cycles n (nI i) a_op a_into a_left a_right a_register a_word a_many a_latency a_work a_place a_first a_second a_awaitsFirst a_awaitsSecond a_x a_y a_hasRead a_accessed a_due a_writer a_bankFree a_packs a_turn a_which a_kinds a_times a_unit a_lost := by
  intro n
  induction n with
  | zero => intro i; intros; omega
  | succ n ih =>
    intro i a_writer h1 h2 h3
    rw [wX_run_23]
    dsimp only
    by_cases hi : 8 ≤ i
    · have e : i = 8 := by omega
      subst e
      exact br_t (nI_le (a := 8) (b := 8) (by decide) (by decide)) (K _ h3)
    rw [nI_clamp (n := i) (by omega), sh_bm0]
    refine br_f (nI_ge (b := 8) (by omega) (by decide)) ⟨vp_in_nI (by omega) (by decide), nm_e (nm_r (nI_1 i) (ih (i + 1) _ (by omega) (by omega) ?_))⟩
    intro u hu
    by_cases e : u = i
    · subst e; exact pk_us
    · rw [pk_un e]; exact h3 u (by omega)
end
section
variable {post : Int32 → SX → Prop}
variable {f_length f_bankTime f_size f_fetchTime f_atWork f_pc f_ready f_branching f_ended f_outcome f_cycle f_accesses f_memories f_done f_cycles : Int32}
variable {a_op a_into a_left a_right a_register a_word a_many a_latency a_work a_place a_first a_second a_awaitsFirst a_awaitsSecond a_x a_y a_hasRead a_accessed a_due a_writer a_turn a_which a_kinds a_times a_unit a_lost : Nat → Int32}
theorem ri_bank (K : ∀ a_bankFree a_packs : Nat → Int32, (∀ u, u < 4 → a_bankFree u = 0 ∧ a_packs u = -1) → ∃ n, wX_run_71 post f_length f_bankTime f_size f_fetchTime f_atWork f_pc f_ready f_branching f_ended f_outcome f_cycle f_accesses f_memories f_done f_cycles n 0 a_op a_into a_left a_right a_register a_word a_many a_latency a_work a_place a_first a_second a_awaitsFirst a_awaitsSecond a_x a_y a_hasRead a_accessed a_due a_writer a_bankFree a_packs a_turn a_which a_kinds a_times a_unit a_lost) :
    ∀ n i (a_bankFree a_packs : Nat → Int32), i ≤ 4 → 4 < n + i → (∀ u, u < i → a_bankFree u = 0 ∧ a_packs u = -1) → wX_run_44 post f_length f_bankTime f_size f_fetchTime f_atWork f_pc f_ready f_branching f_ended f_outcome f_cycle f_accesses f_memories f_done f_cycles n (nI i) a_op a_into a_left a_right a_register a_word a_many a_latency a_work a_place a_first a_second a_awaitsFirst a_awaitsSecond a_x a_y a_hasRead a_accessed a_due a_writer a_bankFree a_packs a_turn a_which a_kinds a_times a_unit a_lost := by
  intro n
  induction n with
  | zero => intro i; intros; omega
  | succ n ih =>
    intro i a_bankFree a_packs h1 h2 h3
    rw [wX_run_44]
    dsimp only
    by_cases hi : 4 ≤ i
    · have e : i = 4 := by omega
      subst e
      exact br_t (nI_le (a := 4) (b := 4) (by decide) (by decide)) (K _ _ h3)
    rw [nI_clamp (n := i) (by omega), sh_bm0, sh_s00]
    refine br_f (nI_ge (b := 4) (by omega) (by decide)) ⟨vp_in_nI (by omega) (by decide), nm_e ⟨vp_in_nI (by omega) (by decide), nm_e (nm_r (nI_1 i) (ih (i + 1) _ _ (by omega) (by omega) ?_))⟩⟩
    intro u hu
    by_cases e : u = i
    · subst e; exact ⟨pk_us, pk_us⟩
    · rw [pk_un e, pk_un e]; exact h3 u (by omega)
end
section
variable {post : Int32 → SX → Prop}
variable {f_length f_bankTime f_size f_fetchTime f_atWork f_pc f_ready f_branching f_ended f_outcome f_cycle f_accesses f_memories f_done f_cycles : Int32}
variable {a_op a_into a_left a_right a_register a_word a_many a_latency a_work a_place a_first a_second a_awaitsFirst a_awaitsSecond a_x a_y a_hasRead a_accessed a_due a_writer a_bankFree a_packs a_turn a_which a_kinds a_times a_unit : Nat → Int32}
theorem ri_lost (K : ∀ a_lost : Nat → Int32, (∀ u, u < 7 → a_lost u = 0) → wpX_look (fun u => match u with | (z_f_length, z_f_bankTime, z_f_size, z_f_fetchTime, z_f_atWork, z_f_pc, z_f_ready, z_f_branching, z_f_ended, z_f_outcome, z_f_cycle, z_f_accesses, z_f_memories, z_f_done, z_f_cycles, z_a_op, z_a_into, z_a_left, z_a_right, z_a_register, z_a_word, z_a_many, z_a_latency, z_a_work, z_a_place, z_a_first, z_a_second, z_a_awaitsFirst, z_a_awaitsSecond, z_a_x, z_a_y, z_a_hasRead, z_a_accessed, z_a_due, z_a_writer, z_a_bankFree, z_a_packs, z_a_turn, z_a_which, z_a_kinds, z_a_times, z_a_unit, z_a_lost) => (∃ n139 : Nat, wX_run_139 post n139 z_f_length z_f_bankTime z_f_size z_f_fetchTime z_f_atWork z_f_pc z_f_ready z_f_branching z_f_ended z_f_outcome z_f_cycle z_f_accesses z_f_memories z_f_done z_f_cycles z_a_op z_a_into z_a_left z_a_right z_a_register z_a_word z_a_many z_a_latency z_a_work z_a_place z_a_first z_a_second z_a_awaitsFirst z_a_awaitsSecond z_a_x z_a_y z_a_hasRead z_a_accessed z_a_due z_a_writer z_a_bankFree z_a_packs z_a_turn z_a_which z_a_kinds z_a_times z_a_unit z_a_lost)) (f_length, f_bankTime, f_size, f_fetchTime, 0, 0, f_ready, 0, f_ended, 0, 0, 0, 0, 0, 0, a_op, a_into, a_left, a_right, a_register, a_word, a_many, a_latency, a_work, a_place, a_first, a_second, a_awaitsFirst, a_awaitsSecond, a_x, a_y, a_hasRead, a_accessed, a_due, a_writer, a_bankFree, a_packs, a_turn, a_which, a_kinds, a_times, a_unit, a_lost)) :
    ∀ n i (a_lost : Nat → Int32), i ≤ 7 → 7 < n + i → (∀ u, u < i → a_lost u = 0) → wX_run_71 post f_length f_bankTime f_size f_fetchTime f_atWork f_pc f_ready f_branching f_ended f_outcome f_cycle f_accesses f_memories f_done f_cycles n (nI i) a_op a_into a_left a_right a_register a_word a_many a_latency a_work a_place a_first a_second a_awaitsFirst a_awaitsSecond a_x a_y a_hasRead a_accessed a_due a_writer a_bankFree a_packs a_turn a_which a_kinds a_times a_unit a_lost := by
  intro n
  induction n with
  | zero => intro i; intros; omega
  | succ n ih =>
    intro i a_lost h1 h2 h3
    rw [wX_run_71]
    dsimp only
    by_cases hi : 7 ≤ i
    · have e : i = 7 := by omega
      subst e
      exact br_t (nI_le (a := 7) (b := 7) (by decide) (by decide)) (K _ h3)
    rw [nI_clamp (n := i) (by omega)]
    refine br_f (nI_ge (b := 7) (by omega) (by decide)) ⟨vp_in_nI (by omega) (by decide), nm_e (nm_r (nI_1 i) (ih (i + 1) _ (by omega) (by omega) ?_))⟩
    intro u hu
    by_cases e : u = i
    · subst e; exact pk_us
    · rw [pk_un e]; exact h3 u (by omega)
end
section
variable {P : sd_Pg} {D : Nat} {out : Int32} {post : Int32 → SX → Prop}
variable {f_length f_bankTime f_size f_fetchTime f_atWork f_pc f_ready f_branching f_ended f_outcome f_cycle f_accesses f_memories f_done f_cycles : Int32}
variable {a_op a_into a_left a_right a_register a_word a_many a_latency a_work a_place a_first a_second a_awaitsFirst a_awaitsSecond a_x a_y a_hasRead a_accessed a_due a_writer a_bankFree a_packs a_turn a_which a_kinds a_times a_unit a_lost : Nat → Int32}
theorem rn_run (H : sd_OK P D) (hS : xx_ST P a_op a_into a_left a_right a_many a_latency) (hl : f_length = nI (sd_gs P)) (hs : f_size = nI (sd_gS P)) (hf : f_fetchTime = nI (sd_gf P)) (hb : f_bankTime = nI (sd_gt P)) (hO : xf_OUT P D out)
    (hr : a_register = sd_gR P) (hw : a_word = sd_gM P)
    (K : ∀ f_atWork f_pc f_ready f_branching f_ended f_cycle f_accesses f_memories f_done f_cycles a_register a_word a_work a_place a_first a_second a_awaitsFirst a_awaitsSecond a_x a_y a_hasRead a_accessed a_due a_writer a_bankFree a_packs a_turn a_which a_kinds a_times a_unit a_lost, xe_E P D f_done f_cycles a_register a_word a_which a_kinds a_times a_unit a_lost → post out (f_length, f_bankTime, f_size, f_fetchTime, f_atWork, f_pc, f_ready, f_branching, f_ended, out, f_cycle, f_accesses, f_memories, f_done, f_cycles, a_op, a_into, a_left, a_right, a_register, a_word, a_many, a_latency, a_work, a_place, a_first, a_second, a_awaitsFirst, a_awaitsSecond, a_x, a_y, a_hasRead, a_accessed, a_due, a_writer, a_bankFree, a_packs, a_turn, a_which, a_kinds, a_times, a_unit, a_lost)) :
    wpX_run post (f_length, f_bankTime, f_size, f_fetchTime, f_atWork, f_pc, f_ready, f_branching, f_ended, f_outcome, f_cycle, f_accesses, f_memories, f_done, f_cycles, a_op, a_into, a_left, a_right, a_register, a_word, a_many, a_latency, a_work, a_place, a_first, a_second, a_awaitsFirst, a_awaitsSecond, a_x, a_y, a_hasRead, a_accessed, a_due, a_writer, a_bankFree, a_packs, a_turn, a_which, a_kinds, a_times, a_unit, a_lost) := by
  have V := H.1
  have hgS := V.2.2.2.1
  refine ⟨19, ri_work ?_ 19 0 a_work (by decide) (by decide) (fun u hu => absurd hu (Nat.not_lt_zero _))⟩
  intro a_work g1
  refine ⟨9, ri_writer ?_ 9 0 a_writer (by decide) (by decide) (fun u hu => absurd hu (Nat.not_lt_zero _))⟩
  intro a_writer g2
  refine ⟨5, ri_bank ?_ 5 0 a_bankFree a_packs (by decide) (by decide) (fun u hu => absurd hu (Nat.not_lt_zero _))⟩
  intro a_bankFree a_packs g3
  refine ⟨8, ri_lost ?_ 8 0 a_lost (by decide) (by decide) (fun u hu => absurd hu (Nat.not_lt_zero _))⟩
  intro a_lost g5
  refine lk_main (out := out) (m := 0) (c := 0) H (Nat.zero_le _) hl hs hf hS ?_ hO rfl ?_
  · intro j hj
    rw [(g3 j (by omega)).2]
    exact (if_neg (Nat.not_lt_zero _)).symm
  · intro f_ended f_ready f_outcome a_packs hlk
    dsimp only
    refine ⟨1441, rn_loop hS hl hs hf hb hO K 1441 0 0 _ _ _ _ _ _ _ _ _ _ _ _ _ _ _ _ _ _ _ _ _ _ _ _ _ _ _ _ _ _ _ _ _ (by decide) (by decide) ?_⟩
    rw [hr, hw]
    exact rn_first H g1 g2 (fun b hb => (g3 b hb).1) g5 hlk
end
end
section
/-! the reference's questions: isFetched, isHeld, freeUnit, mustWait -/
section
variable {P : sd_Pg} {D k c : Nat} {post : Int32 → Prop}
variable {f_size f_stackSize f_fetchTime f_bankTime f_fetched f_done : Int32}
variable {a_op a_d a_a a_b a_register a_word a_many a_latency a_number a_kind a_target a_first a_second a_bankOf a_issue a_read a_access a_ready a_write a_unit a_packs a_lost : Nat → Int32}
theorem yf_loop {F G p : Nat} {f : Nat → Nat} (hF : F ≤ 60) (hG : G ≤ 4) (hp : p ≤ 12) (e1 : f_fetched = nI F) (e2 : f_stackSize = nI G) (hf : ∀ j, j < F → a_packs j = nI (f j) ∧ f j ≤ 12)
    : ∀ n fuel, n ≤ F → n < fuel → post (if sd_in f p (F - G) n = true then 1 else 0) → wY_isFetched_7 post (nI p) f_size f_stackSize f_fetchTime f_bankTime f_fetched f_done a_op a_d a_a a_b a_register a_word a_many a_latency a_number a_kind a_target a_first a_second a_bankOf a_issue a_read a_access a_ready a_write a_unit a_packs a_lost fuel (nI n - 1) := by
  intro n
  induction n with
  | zero =>
    intro fuel _ h K
    obtain ⟨fuel, rfl⟩ : ∃ q, fuel = q + 1 := ⟨fuel - 1, by omega⟩
    rw [wY_isFetched_7]
    dsimp only
    exact br_t (by decide) K
  | succ n ih =>
    intro fuel h1 h K
    obtain ⟨fuel, rfl⟩ : ∃ q, fuel = q + 1 := ⟨fuel - 1, by omega⟩
    rw [wY_isFetched_7]
    dsimp only
    rw [nI_pred]
    refine br_f (nI_pos (by omega)) ?_
    have es : sd_in f p (F - G) (n + 1) = if n < F - G then false else if f n = p then true else sd_in f p (F - G) n := rfl
    rw [es] at K
    have hlt : nI n < f_fetched - f_stackSize ↔ n < F - G := by
      rw [e1, e2, Int32.lt_iff_toInt_lt, pk_sub_toInt (by omega) (by omega), nI_toInt (by omega)]
      omega
    by_cases z : n < F - G
    · rw [if_pos z] at K
      exact br_t (hlt.mpr z) K
    rw [if_neg z] at K
    refine br_f (fun z2 => z (hlt.mp z2)) ⟨vp_in_nI (by omega) (by decide), ?_⟩
    obtain ⟨q1, q2⟩ := hf n (by omega)
    rw [nI_clamp (n := n) (by omega), q1]
    by_cases z2 : f n = p
    · rw [if_pos z2] at K
      exact br_t (by rw [z2]) K
    · rw [if_neg z2] at K
      refine br_f (fun z3 => z2 ((nI_eq (by omega) (by omega)).mp z3)) (nm_r (e' := nI n - 1) ?_ (ih fuel (by omega) (by omega) K))
      exact (Int32.sub_eq_add_neg _ _).symm
theorem yh_loop (hk : k < 60) (hc : c < 2 ^ 31) (ts : ∀ j, j ≤ k → a_target j = sd_cn 8 (sd_tg P j) ∧ sd_tg P j ≤ 8) (ws : ∀ j, j < k → a_write j = nI (sd_wr P j) ∧ sd_wr P j ≤ 1440)
    (K : post (if c < sd_hw P k then 1 else 0)) :
    ∀ n j, j ≤ k → k < n + j → (∀ i, i < j → sd_tg P k < 8 → sd_tg P i = sd_tg P k → sd_wr P i < c) → wY_isHeld_2 post (nI k) (nI c) f_size f_stackSize f_fetchTime f_bankTime f_fetched f_done a_op a_d a_a a_b a_register a_word a_many a_latency a_number a_kind a_target a_first a_second a_bankOf a_issue a_read a_access a_ready a_write a_unit a_packs a_lost n (nI j) := by
  intro n
  induction n with
  | zero => intro j; intros; omega
  | succ n ih =>
    intro j h1 h2 h3
    rw [wY_isHeld_2]
    dsimp only
    by_cases hj : k ≤ j
    · have e : j = k := by omega
      subst e
      refine br_t (nI_le (Nat.le_refl _) (by omega)) ?_
      rw [if_neg] at K
      · exact K
      · intro z
        obtain ⟨i, hi, ⟨g1, g2⟩, g3⟩ := ls_hw.mp z
        have := h3 i hi g1 g2
        omega
    obtain ⟨t1, t2⟩ := ts k (Nat.le_refl _)
    obtain ⟨u1, u2⟩ := ts j (by omega)
    obtain ⟨w1, w2⟩ := ws j (by omega)
    have ik : vp_in (nI k) 60 := vp_in_nI hk (by decide)
    have ij : vp_in (nI j) 60 := vp_in_nI (by omega) (by decide)
    rw [nI_clamp (n := k) (by omega), nI_clamp (n := j) (by omega), t1, u1, w1]
    have go : (sd_tg P k < 8 → sd_tg P j = sd_tg P k → sd_wr P j < c) → wY_isHeld_2 post (nI k) (nI c) f_size f_stackSize f_fetchTime f_bankTime f_fetched f_done a_op a_d a_a a_b a_register a_word a_many a_latency a_number a_kind a_target a_first a_second a_bankOf a_issue a_read a_access a_ready a_write a_unit a_packs a_lost n (nI (j + 1)) := by
      intro h
      refine ih (j + 1) (by omega) (by omega) ?_
      intro i hi g1 g2
      by_cases e : i = j
      · subst e; exact h g1 g2
      · exact h3 i (by omega) g1 g2
    refine br_f (nI_ge (by omega) (by omega)) ⟨ik, ?_⟩
    by_cases z8 : sd_tg P k < 8
    case neg => exact br_t ((sd_cn_m1 (by decide)).mpr (by omega)) (nm_r (nI_1 j) (go (fun z => absurd z z8)))
    refine br_f (fun z => by have := (sd_cn_m1 (by decide)).mp z; omega) ⟨ij, ik, ?_⟩
    by_cases ze : sd_tg P j = sd_tg P k
    case neg => exact br_f (fun z => ze ((sd_cn_eq (by decide) u2 t2).mp z)) (nm_r (nI_1 j) (go (fun _ z => absurd z ze)))
    refine br_t (by rw [ze]) ⟨ij, ?_⟩
    by_cases zw : sd_wr P j < c
    · exact br_t (nI_lt zw hc) (nm_r (nI_1 j) (go (fun _ _ => zw)))
    · refine br_f (nI_nlt (by omega) (by omega)) ?_
      rw [if_pos (ls_hw.mpr ⟨j, by omega, ⟨z8, ze⟩, by omega⟩)] at K
      exact K
theorem yw_loop (hk : k < 60) (hc : c < 2 ^ 31) (ts : ∀ j, j ≤ k → a_target j = sd_cn 8 (sd_tg P j) ∧ sd_tg P j ≤ 8) (fss : ∀ j, j < k → a_first j = sd_cn 8 (sd_fs P j) ∧ sd_fs P j ≤ 8 ∧ a_second j = sd_cn 8 (sd_sc P j) ∧ sd_sc P j ≤ 8) (rs : ∀ j, j < k → a_read j = nI (sd_rd P j) ∧ sd_rd P j ≤ 1440)
    (K : post (if c < sd_mw P k then 1 else 0)) :
    ∀ n j, j ≤ k → k < n + j → (∀ i, i < j → sd_tg P k < 8 → (sd_fs P i = sd_tg P k ∨ sd_sc P i = sd_tg P k) → sd_rd P i < c) → wY_mustWait_2 post (nI k) (nI c) f_size f_stackSize f_fetchTime f_bankTime f_fetched f_done a_op a_d a_a a_b a_register a_word a_many a_latency a_number a_kind a_target a_first a_second a_bankOf a_issue a_read a_access a_ready a_write a_unit a_packs a_lost n (nI j) := by
  intro n
  induction n with
  | zero => intro j; intros; omega
  | succ n ih =>
    intro j h1 h2 h3
    rw [wY_mustWait_2]
    dsimp only
    by_cases hj : k ≤ j
    · have e : j = k := by omega
      subst e
      refine br_t (nI_le (Nat.le_refl _) (by omega)) ?_
      rw [if_neg] at K
      · exact K
      · intro z
        obtain ⟨i, hi, ⟨g1, g2⟩, g3⟩ := ls_mw.mp z
        have := h3 i hi g1 g2
        omega
    obtain ⟨t1, t2⟩ := ts k (Nat.le_refl _)
    obtain ⟨u1, u2, u3, u4⟩ := fss j (by omega)
    obtain ⟨w1, w2⟩ := rs j (by omega)
    have ik : vp_in (nI k) 60 := vp_in_nI hk (by decide)
    have ij : vp_in (nI j) 60 := vp_in_nI (by omega) (by decide)
    have ek := nI_clamp (n := k) (by omega)
    have ej := nI_clamp (n := j) (by omega)
    rw [ek, ej, t1, u1, u3]
    have go : (sd_tg P k < 8 → (sd_fs P j = sd_tg P k ∨ sd_sc P j = sd_tg P k) → sd_rd P j < c) → wY_mustWait_2 post (nI k) (nI c) f_size f_stackSize f_fetchTime f_bankTime f_fetched f_done a_op a_d a_a a_b a_register a_word a_many a_latency a_number a_kind a_target a_first a_second a_bankOf a_issue a_read a_access a_ready a_write a_unit a_packs a_lost n (nI (j + 1)) := by
      intro h
      refine ih (j + 1) (by omega) (by omega) ?_
      intro i hi g1 g2
      by_cases e : i = j
      · subst e; exact h g1 g2
      · exact h3 i (by omega) g1 g2
    refine br_f (nI_ge (by omega) (by omega)) ⟨ik, ?_⟩
    by_cases z8 : sd_tg P k < 8
    case neg => exact br_t ((sd_cn_m1 (by decide)).mpr (by omega)) (nm_r (nI_1 j) (go (fun z => absurd z z8)))
    refine br_f (fun z => by have := (sd_cn_m1 (by decide)).mp z; omega) ⟨ij, ik, ?_⟩
    have hit : (sd_fs P j = sd_tg P k ∨ sd_sc P j = sd_tg P k) → wY_mustWait_47 post (wY_mustWait_2 post (nI k) (nI c) f_size f_stackSize f_fetchTime f_bankTime f_fetched f_done a_op a_d a_a a_b a_register a_word a_many a_latency a_number a_kind a_target a_first a_second a_bankOf a_issue a_read a_access a_ready a_write a_unit a_packs a_lost n) (nI k) (nI c) (nI j) f_size f_stackSize f_fetchTime f_bankTime f_fetched f_done a_op a_d a_a a_b a_register a_word a_many a_latency a_number a_kind a_target a_first a_second a_bankOf a_issue a_read a_access a_ready a_write a_unit a_packs a_lost := by
      intro he
      unfold wY_mustWait_47
      rw [ej, w1]
      refine ⟨ij, ?_⟩
      by_cases zw : sd_rd P j < c
      · exact br_t (nI_lt zw hc) (nm_r (nI_1 j) (go (fun _ _ => zw)))
      · refine br_f (nI_nlt (by omega) (by omega)) ?_
        rw [if_pos (ls_mw.mpr ⟨j, by omega, ⟨z8, he⟩, by omega⟩)] at K
        exact K
    by_cases ze : sd_fs P j = sd_tg P k
    · exact br_t (by rw [ze]) (hit (Or.inl ze))
    refine br_f (fun z => ze ((sd_cn_eq (by decide) u2 t2).mp z)) ⟨ij, ik, ?_⟩
    by_cases ze2 : sd_sc P j = sd_tg P k
    · exact br_t (by rw [ze2]) (hit (Or.inr ze2))
    exact br_f (fun z => ze2 ((sd_cn_eq (by decide) u4 t2).mp z)) (nm_r (nI_1 j) (go (fun _ z => by omega)))
/-- whether unit u is free -/
theorem yu_in {u : Nat} {J : Int32 → Prop} (hk : k < 60) (hc : c < 2 ^ 31) (hu : u ≤ 3) (ks : ∀ j, j ≤ k → a_kind j = nI (sd_kd P j)) (us : ∀ j, j < k → a_unit j = nI (sd_un P j) ∧ sd_un P j ≤ 3) (ws : ∀ j, j < k → a_write j = nI (sd_wr P j) ∧ sd_wr P j ≤ 1440)
    (K0 : c < sd_ub P k u → J (nI (u + 1))) (K1 : sd_ub P k u ≤ c → post (nI u)) :
    ∀ n j (x4 : Int32), j ≤ k → k < n + j → ((x4 = 1 ∧ ∀ i, i < j → (sd_kd P i = sd_kd P k ∧ sd_un P i = u) → sd_wr P i < c) ∨ (x4 = 0 ∧ c < sd_ub P k u)) → wY_freeUnit_23 post J (nI k) (nI c) (nI u) f_size f_stackSize f_fetchTime f_bankTime f_fetched f_done a_op a_d a_a a_b a_register a_word a_many a_latency a_number a_kind a_target a_first a_second a_bankOf a_issue a_read a_access a_ready a_write a_unit a_packs a_lost n x4 (nI j) := by
  intro n
  induction n with
  | zero => intro j; intros; omega
  | succ n ih =>
    intro j x4 h1 h2 h3
    rw [wY_freeUnit_23]
    dsimp only
    by_cases hj : k ≤ j
    · have e : j = k := by omega
      subst e
      refine br_t (nI_le (Nat.le_refl _) (by omega)) ?_
      rcases h3 with ⟨e4, h⟩ | ⟨e4, h⟩
      · rw [e4]
        refine br_f sh_10 (K1 ?_)
        rcases Nat.lt_or_ge c (sd_ub P j u) with z | z
        · obtain ⟨i, hi, g, g3⟩ := ls_ub.mp z
          have := h i hi g
          omega
        · exact z
      · rw [e4]
        exact br_t rfl (nm_r (nI_1 u) (K0 h))
    have hkk := ls_kd P k
    have hkj := ls_kd P j
    obtain ⟨u1, u2⟩ := us j (by omega)
    obtain ⟨w1, w2⟩ := ws j (by omega)
    have ik : vp_in (nI k) 60 := vp_in_nI hk (by decide)
    have ij : vp_in (nI j) 60 := vp_in_nI (by omega) (by decide)
    rw [nI_clamp (n := k) (by omega), nI_clamp (n := j) (by omega), ks k (Nat.le_refl _), ks j (by omega), u1, w1]
    have go : ((sd_kd P j = sd_kd P k ∧ sd_un P j = u) → sd_wr P j < c) → wY_freeUnit_23 post J (nI k) (nI c) (nI u) f_size f_stackSize f_fetchTime f_bankTime f_fetched f_done a_op a_d a_a a_b a_register a_word a_many a_latency a_number a_kind a_target a_first a_second a_bankOf a_issue a_read a_access a_ready a_write a_unit a_packs a_lost n x4 (nI (j + 1)) := by
      intro h
      refine ih (j + 1) x4 (by omega) (by omega) ?_
      rcases h3 with ⟨e4, g⟩ | g
      · refine Or.inl ⟨e4, ?_⟩
        intro i hi g1
        by_cases e : i = j
        · subst e; exact h g1
        · exact g i (by omega) g1
      · exact Or.inr g
    refine br_f (nI_ge (by omega) (by omega)) ⟨ij, ik, ?_⟩
    by_cases ze : sd_kd P j = sd_kd P k
    case neg => exact br_f (fun z => ze ((nI_eq (by omega) (by omega)).mp z)) (nm_r (nI_1 j) (go (fun z => absurd z.1 ze)))
    refine br_t (by rw [ze]) ⟨ij, ?_⟩
    by_cases zu : sd_un P j = u
    case neg => exact br_f (fun z => zu ((nI_eq (by omega) (by omega)).mp z)) (nm_r (nI_1 j) (go (fun z => absurd z.2 zu)))
    refine br_t (by rw [zu]) ⟨ij, ?_⟩
    by_cases zw : sd_wr P j < c
    · exact br_t (nI_lt zw hc) (nm_r (nI_1 j) (go (fun _ => zw)))
    · exact br_f (nI_nlt (by omega) (by omega)) (nm_r (nI_1 j) (ih (j + 1) 0 (by omega) (by omega) (Or.inr ⟨rfl, ls_ub.mpr ⟨j, by omega, ⟨ze, zu⟩, by omega⟩⟩)))
theorem yu_loop (hk : k < 60) (hc : c < 2 ^ 31) (hg : sd_gm P (sd_kd P k) ≤ 3) (hm : a_many (sd_kd P k) = nI (sd_gm P (sd_kd P k))) (ks : ∀ j, j ≤ k → a_kind j = nI (sd_kd P j)) (us : ∀ j, j < k → a_unit j = nI (sd_un P j) ∧ sd_un P j ≤ 3) (ws : ∀ j, j < k → a_write j = nI (sd_wr P j) ∧ sd_wr P j ≤ 1440)
    (K : post (sd_cn (sd_gm P (sd_kd P k)) (sd_fu (sd_ub P k) c (sd_gm P (sd_kd P k))))) :
    ∀ n u, u ≤ sd_gm P (sd_kd P k) → sd_gm P (sd_kd P k) < n + u → (∀ v, v < u → c < sd_ub P k v) → wY_freeUnit_2 post (nI k) (nI c) f_size f_stackSize f_fetchTime f_bankTime f_fetched f_done a_op a_d a_a a_b a_register a_word a_many a_latency a_number a_kind a_target a_first a_second a_bankOf a_issue a_read a_access a_ready a_write a_unit a_packs a_lost n (nI u) := by
  intro n
  induction n with
  | zero => intro u; intros; omega
  | succ n ih =>
    intro u h1 h2 h3
    have hkk := ls_kd P k
    rw [wY_freeUnit_2]
    dsimp only
    rw [nI_clamp (n := k) (by omega), ks k (Nat.le_refl _), nI_clamp (n := sd_kd P k) (by omega), hm]
    refine ⟨vp_in_nI hk (by decide), vp_in_nI hkk (by decide), ?_⟩
    have fl := sd_fu_le (f := sd_ub P k) (c := c) (n := sd_gm P (sd_kd P k))
    by_cases hu : sd_gm P (sd_kd P k) ≤ u
    · refine br_t (nI_le hu (by omega)) ?_
      rw [sd_cn_ge] at K
      · exact K
      · rcases Nat.lt_or_ge (sd_fu (sd_ub P k) c (sd_gm P (sd_kd P k))) (sd_gm P (sd_kd P k)) with z | z
        · have := sd_fu_at z
          have := h3 _ (show sd_fu (sd_ub P k) c (sd_gm P (sd_kd P k)) < u by omega)
          omega
        · exact z
    · refine br_f (nI_ge (by omega) (by omega)) ⟨k + 1, yu_in hk hc (by omega) ks us ws ?_ ?_ (k + 1) 0 1 (Nat.zero_le _) (by omega) (Or.inl ⟨rfl, fun i hi => absurd hi (Nat.not_lt_zero _)⟩)⟩
      · intro z
        refine ih (u + 1) (by omega) (by omega) ?_
        intro v hv
        by_cases e : v = u
        · rw [e]; exact z
        · exact h3 v (by omega)
      · intro z
        have e : sd_fu (sd_ub P k) c (sd_gm P (sd_kd P k)) = u := by
          rcases Nat.lt_trichotomy (sd_fu (sd_ub P k) c (sd_gm P (sd_kd P k))) u with z2 | z2 | z2
          · have := sd_fu_at (f := sd_ub P k) (c := c) (n := sd_gm P (sd_kd P k)) (by omega)
            have := h3 _ z2
            omega
          · exact z2
          · have := sd_fu_lt z2; omega
        rw [e, sd_cn_lt (by omega)] at K
        exact K
end
end
section
/-! the reference's find -/
section
variable {P : sd_Pg} {D k : Nat} {post : SY → Prop}
variable {f_size f_stackSize f_fetchTime f_bankTime f_fetched f_done : Int32}
variable {a_op a_d a_a a_b a_register a_word a_many a_latency a_number a_kind a_target a_first a_second a_bankOf a_issue a_read a_access a_ready a_write a_unit a_packs a_lost : Nat → Int32}
theorem yr_loop (hk : k < 60) (hi : sd_is P k ≤ 1440) (ei : a_issue k = nI (sd_is P k)) (ts : ∀ j, j < k → a_target j = sd_cn 8 (sd_tg P j) ∧ sd_tg P j ≤ 8) (ef : a_first k = sd_cn 8 (sd_fs P k) ∧ sd_fs P k ≤ 8) (es : a_second k = sd_cn 8 (sd_sc P k) ∧ sd_sc P k ≤ 8) (ws : ∀ j, j < k → a_write j = nI (sd_wr P j) ∧ sd_wr P j ≤ 1440)
    (K : post (f_size, f_stackSize, f_fetchTime, f_bankTime, f_fetched, f_done, a_op, a_d, a_a, a_b, a_register, a_word, a_many, a_latency, a_number, a_kind, a_target, a_first, a_second, a_bankOf, a_issue, upd a_read k (nI (sd_rd P k)), a_access, a_ready, a_write, a_unit, a_packs, upd a_lost 4 (a_lost 4 + nI (sd_rd P k - (sd_is P k + 1))))) :
    ∀ n j, j ≤ k → k < n + j → wY_findRead_11 post (nI k) f_size f_stackSize f_fetchTime f_bankTime f_fetched f_done a_op a_d a_a a_b a_register a_word a_many a_latency a_number a_kind a_target a_first a_second a_bankOf a_issue a_read a_access a_ready a_write a_unit a_packs a_lost n (nI (max (sd_is P k + 1) (sd_mx (fun j => if sd_tg P j < 8 ∧ (sd_tg P j = sd_fs P k ∨ sd_tg P j = sd_sc P k) then sd_wr P j + 1 else 0) j))) (nI j) := by
  intro n
  induction n with
  | zero => intro j; intros; omega
  | succ n ih =>
    intro j h1 h2
    rw [wY_findRead_11]
    dsimp only
    have ik : vp_in (nI k) 60 := vp_in_nI hk (by decide)
    have ek := nI_clamp (n := k) (by omega)
    by_cases hj : k ≤ j
    · have e : j = k := by omega
      subst e
      refine br_t (nI_le (Nat.le_refl _) (by omega)) ⟨ik, ?_⟩
      have e2 := sd_rd_e P j
      unfold sd_rx at e2
      rw [ek, ← e2, ei, pk_sub (by omega), show nI (sd_rd P j - sd_is P j) - 1 = nI (sd_rd P j - sd_is P j - 1) from pk_sub (b := 1) (by omega), show sd_rd P j - sd_is P j - 1 = sd_rd P j - (sd_is P j + 1) by omega]
      exact nm_e ⟨ik, nm_e K⟩
    obtain ⟨t1, t2⟩ := ts j (by omega)
    obtain ⟨w1, w2⟩ := ws j (by omega)
    have ij : vp_in (nI j) 60 := vp_in_nI (by omega) (by decide)
    have ej := nI_clamp (n := j) (by omega)
    have hb : sd_mx (fun j => if sd_tg P j < 8 ∧ (sd_tg P j = sd_fs P k ∨ sd_tg P j = sd_sc P k) then sd_wr P j + 1 else 0) j ≤ 1441 := by
      refine sd_mx_le ?_
      intro i hi
      have := (ws i (by omega)).2
      split <;> omega
    have em : sd_mx (fun j => if sd_tg P j < 8 ∧ (sd_tg P j = sd_fs P k ∨ sd_tg P j = sd_sc P k) then sd_wr P j + 1 else 0) (j + 1) = max (sd_mx (fun j => if sd_tg P j < 8 ∧ (sd_tg P j = sd_fs P k ∨ sd_tg P j = sd_sc P k) then sd_wr P j + 1 else 0) j) (if sd_tg P j < 8 ∧ (sd_tg P j = sd_fs P k ∨ sd_tg P j = sd_sc P k) then sd_wr P j + 1 else 0) := rfl
    have ih' := ih (j + 1) (by omega) (by omega)
    rw [em] at ih'
    generalize sd_mx (fun j => if sd_tg P j < 8 ∧ (sd_tg P j = sd_fs P k ∨ sd_tg P j = sd_sc P k) then sd_wr P j + 1 else 0) j = M at *
    have no : ¬ (sd_tg P j < 8 ∧ (sd_tg P j = sd_fs P k ∨ sd_tg P j = sd_sc P k)) → wY_findRead_60 post (wY_findRead_11 post (nI k) f_size f_stackSize f_fetchTime f_bankTime f_fetched f_done a_op a_d a_a a_b a_register a_word a_many a_latency a_number a_kind a_target a_first a_second a_bankOf a_issue a_read a_access a_ready a_write a_unit a_packs a_lost n) (nI k) (nI (max (sd_is P k + 1) M)) (nI j) f_size f_stackSize f_fetchTime f_bankTime f_fetched f_done a_op a_d a_a a_b a_register a_word a_many a_latency a_number a_kind a_target a_first a_second a_bankOf a_issue a_read a_access a_ready a_write a_unit a_packs a_lost := by
      intro z
      rw [if_neg z, show max M 0 = M by omega] at ih'
      unfold wY_findRead_60 wY_findRead_61
      exact br_t rfl (nm_r (nI_1 j) ih')
    have yes : (sd_tg P j < 8 ∧ (sd_tg P j = sd_fs P k ∨ sd_tg P j = sd_sc P k)) → wY_findRead_56 post (wY_findRead_11 post (nI k) f_size f_stackSize f_fetchTime f_bankTime f_fetched f_done a_op a_d a_a a_b a_register a_word a_many a_latency a_number a_kind a_target a_first a_second a_bankOf a_issue a_read a_access a_ready a_write a_unit a_packs a_lost n) (nI k) (nI (max (sd_is P k + 1) M)) (nI j) f_size f_stackSize f_fetchTime f_bankTime f_fetched f_done a_op a_d a_a a_b a_register a_word a_many a_latency a_number a_kind a_target a_first a_second a_bankOf a_issue a_read a_access a_ready a_write a_unit a_packs a_lost := by
      intro z
      rw [if_pos z] at ih'
      unfold wY_findRead_56 wY_findRead_61
      rw [ej, w1, nI_1 (sd_wr P j)]
      refine br_f sh_10 ⟨ij, ?_⟩
      by_cases z2 : sd_wr P j + 1 ≤ max (sd_is P k + 1) M
      · rw [show max (sd_is P k + 1) (max M (sd_wr P j + 1)) = max (sd_is P k + 1) M by omega] at ih'
        exact br_t (nI_le z2 (by omega)) (nm_r (nI_1 j) ih')
      · rw [show max (sd_is P k + 1) (max M (sd_wr P j + 1)) = sd_wr P j + 1 by omega] at ih'
        exact br_f (nI_ge (by omega) (by omega)) ⟨ij, nm_e (nm_r (nI_1 j) ih')⟩
    rw [ek, ej, t1, ef.1, es.1]
    refine br_f (nI_ge (by omega) (by omega)) ⟨ij, ?_⟩
    by_cases z8 : sd_tg P j < 8
    case neg => exact br_t ((sd_cn_m1 (by decide)).mpr (by omega)) (no (fun z => z8 z.1))
    refine br_f (fun z => by have := (sd_cn_m1 (by decide)).mp z; omega) ⟨ij, ik, ?_⟩
    by_cases ze : sd_tg P j = sd_fs P k
    · exact br_t (by rw [ze]) (yes ⟨z8, Or.inl ze⟩)
    refine br_f (fun z => ze ((sd_cn_eq (by decide) t2 ef.2).mp z)) ⟨ij, ik, ?_⟩
    by_cases ze2 : sd_tg P j = sd_sc P k
    · exact br_t (by rw [ze2]) (yes ⟨z8, Or.inr ze2⟩)
    exact br_f (fun z => ze2 ((sd_cn_eq (by decide) t2 es.2).mp z)) (no (fun z => by omega))
theorem ya_loop (hk : k < 60) (hr : sd_rd P k ≤ 1440) (er : a_read k = nI (sd_rd P k)) (hgt : sd_gt P ≤ 8) (eb : f_bankTime = nI (sd_gt P)) (ks : ∀ j, j ≤ k → a_kind j = nI (sd_kd P j)) (bs : ∀ j, j ≤ k → sd_kd P j = 4 → a_bankOf j = nI (sd_bk P j) ∧ sd_bk P j < 4) (as : ∀ j, j < k → sd_kd P j = 4 → a_access j = nI (sd_ac P j) ∧ sd_ac P j ≤ 1440) (k4 : sd_kd P k = 4)
    (K : post (f_size, f_stackSize, f_fetchTime, f_bankTime, f_fetched, f_done, a_op, a_d, a_a, a_b, a_register, a_word, a_many, a_latency, a_number, a_kind, a_target, a_first, a_second, a_bankOf, a_issue, a_read, upd a_access k (nI (sd_ac P k)), a_ready, a_write, a_unit, a_packs, upd a_lost 5 (a_lost 5 + nI (sd_ac P k - (sd_rd P k + 1))))) :
    ∀ n j, j ≤ k → k < n + j → wY_findAccess_22 post (nI k) f_size f_stackSize f_fetchTime f_bankTime f_fetched f_done a_op a_d a_a a_b a_register a_word a_many a_latency a_number a_kind a_target a_first a_second a_bankOf a_issue a_read a_access a_ready a_write a_unit a_packs a_lost n (nI (max (sd_rd P k + 1) (sd_mx (fun j => if sd_kd P j = 4 then max (sd_ac P j + 1) (if sd_bk P j = sd_bk P k then sd_ac P j + sd_gt P else 0) else 0) j))) (nI j) := by
  intro n
  induction n with
  | zero => intro j; intros; omega
  | succ n ih =>
    intro j h1 h2
    rw [wY_findAccess_22]
    dsimp only
    have ik : vp_in (nI k) 60 := vp_in_nI hk (by decide)
    have ek := nI_clamp (n := k) (by omega)
    by_cases hj : k ≤ j
    · have e : j = k := by omega
      subst e
      refine br_t (nI_le (Nat.le_refl _) (by omega)) ⟨ik, ?_⟩
      have e2 := sd_ac_e P j
      unfold sd_ax at e2
      rw [ek, ← e2, er, pk_sub (by omega), show nI (sd_ac P j - sd_rd P j) - 1 = nI (sd_ac P j - sd_rd P j - 1) from pk_sub (b := 1) (by omega), show sd_ac P j - sd_rd P j - 1 = sd_ac P j - (sd_rd P j + 1) by omega]
      exact nm_e ⟨ik, nm_e K⟩
    have hkj := ls_kd P j
    have ij : vp_in (nI j) 60 := vp_in_nI (by omega) (by decide)
    have ej := nI_clamp (n := j) (by omega)
    have hb : sd_mx (fun j => if sd_kd P j = 4 then max (sd_ac P j + 1) (if sd_bk P j = sd_bk P k then sd_ac P j + sd_gt P else 0) else 0) j ≤ 1448 := by
      refine sd_mx_le ?_
      intro i hi
      by_cases z : sd_kd P i = 4
      · have := (as i (by omega) z).2
        rw [if_pos z]
        split <;> omega
      · rw [if_neg z]; omega
    have em : sd_mx (fun j => if sd_kd P j = 4 then max (sd_ac P j + 1) (if sd_bk P j = sd_bk P k then sd_ac P j + sd_gt P else 0) else 0) (j + 1) = max (sd_mx (fun j => if sd_kd P j = 4 then max (sd_ac P j + 1) (if sd_bk P j = sd_bk P k then sd_ac P j + sd_gt P else 0) else 0) j) (if sd_kd P j = 4 then max (sd_ac P j + 1) (if sd_bk P j = sd_bk P k then sd_ac P j + sd_gt P else 0) else 0) := rfl
    have ih' := ih (j + 1) (by omega) (by omega)
    rw [em] at ih'
    generalize sd_mx (fun j => if sd_kd P j = 4 then max (sd_ac P j + 1) (if sd_bk P j = sd_bk P k then sd_ac P j + sd_gt P else 0) else 0) j = M at *
    rw [ek, ej, ks j (by omega)]
    refine br_f (nI_ge (by omega) (by omega)) ⟨ij, ?_⟩
    by_cases z4 : sd_kd P j = 4
    case neg =>
      rw [if_neg z4, show max M 0 = M by omega] at ih'
      exact br_f (fun z => z4 ((nI_eq (b := 4) (by omega) (by decide)).mp z)) (nm_r (nI_1 j) ih')
    rw [if_pos z4] at ih'
    obtain ⟨a1, a2⟩ := as j (by omega) z4
    obtain ⟨b1, b2⟩ := bs j (by omega) z4
    obtain ⟨b3, b4⟩ := bs k (Nat.le_refl _) k4
    have k61 : ∀ x, x = max (max (sd_rd P k + 1) M) (sd_ac P j + 1) → wY_findAccess_61 post (wY_findAccess_22 post (nI k) f_size f_stackSize f_fetchTime f_bankTime f_fetched f_done a_op a_d a_a a_b a_register a_word a_many a_latency a_number a_kind a_target a_first a_second a_bankOf a_issue a_read a_access a_ready a_write a_unit a_packs a_lost n) (nI k) (nI x) (nI j) f_size f_stackSize f_fetchTime f_bankTime f_fetched f_done a_op a_d a_a a_b a_register a_word a_many a_latency a_number a_kind a_target a_first a_second a_bankOf a_issue a_read a_access a_ready a_write a_unit a_packs a_lost := by
      intro x ex
      unfold wY_findAccess_61
      rw [ek, ej, b1, b3, a1, show nI (sd_ac P j) + f_bankTime = nI (sd_ac P j + sd_gt P) from by rw [eb, nI_add]]
      refine ⟨ij, ik, ?_⟩
      by_cases zb : sd_bk P j = sd_bk P k
      · rw [if_pos zb] at ih'
        refine br_t (by rw [zb]) ⟨ij, ?_⟩
        by_cases z2 : sd_ac P j + sd_gt P ≤ x
        · rw [show max (sd_rd P k + 1) (max M (max (sd_ac P j + 1) (sd_ac P j + sd_gt P))) = x by omega] at ih'
          exact br_t (nI_le z2 (by omega)) (nm_r (nI_1 j) ih')
        · rw [show max (sd_rd P k + 1) (max M (max (sd_ac P j + 1) (sd_ac P j + sd_gt P))) = sd_ac P j + sd_gt P by omega] at ih'
          exact br_f (nI_ge (by omega) (by omega)) ⟨ij, nm_e (nm_r (nI_1 j) ih')⟩
      · rw [if_neg zb, show max (sd_rd P k + 1) (max M (max (sd_ac P j + 1) 0)) = x by omega] at ih'
        exact br_f (fun z => zb ((nI_eq (by omega) (by omega)).mp z)) (nm_r (nI_1 j) ih')
    rw [a1, nI_1 (sd_ac P j)]
    refine br_t (by rw [z4]; rfl) ⟨ij, ?_⟩
    by_cases z2 : sd_ac P j + 1 ≤ max (sd_rd P k + 1) M
    · exact br_t (nI_le z2 (by omega)) (k61 _ (by omega))
    · exact br_f (nI_ge (by omega) (by omega)) ⟨ij, nm_e (k61 _ (by omega))⟩
end
section
variable {P : sd_Pg} {D k : Nat} {post : SY → Prop}
variable {f_size f_stackSize f_fetchTime f_bankTime f_fetched f_done : Int32}
variable {a_op a_d a_a a_b a_register a_word a_many a_latency a_number a_kind a_target a_first a_second a_bankOf a_issue a_read a_access a_ready a_unit a_packs : Nat → Int32}
theorem yd_299 {s0 s1 s2 s3 s4 s5 : Nat} (H : sd_OK P D) (hk : k < D) (ts : ∀ j, j ≤ k → a_target j = sd_cn 8 (sd_tg P j) ∧ sd_tg P j ≤ 8) (fss : ∀ j, j < k → a_first j = sd_cn 8 (sd_fs P j) ∧ sd_fs P j ≤ 8 ∧ a_second j = sd_cn 8 (sd_sc P j) ∧ sd_sc P j ≤ 8) (rs : ∀ j, j < k → a_read j = nI (sd_rd P j) ∧ sd_rd P j ≤ 1440)
    (K : ∀ a_write a_lost, (∀ j, j ≤ k → a_write j = nI (sd_wr P j)) → xx_LO a_lost s0 s1 s2 s3 s4 s5 (xe_6 P (k + 1)) → post (f_size, f_stackSize, f_fetchTime, f_bankTime, f_fetched, f_done, a_op, a_d, a_a, a_b, a_register, a_word, a_many, a_latency, a_number, a_kind, a_target, a_first, a_second, a_bankOf, a_issue, a_read, a_access, a_ready, a_write, a_unit, a_packs, a_lost)) :
    ∀ n c (a_write a_lost : Nat → Int32), sd_ry P k ≤ c → c ≤ sd_wr P k → sd_wr P k < n + c → a_write k = nI c → (∀ j, j < k → a_write j = nI (sd_wr P j)) → xx_LO a_lost s0 s1 s2 s3 s4 s5 (xe_6 P k + (c - sd_ry P k)) → wY_find_299 post (nI k) f_size f_stackSize f_fetchTime f_bankTime f_fetched f_done n a_op a_d a_a a_b a_register a_word a_many a_latency a_number a_kind a_target a_first a_second a_bankOf a_issue a_read a_access a_ready a_write a_unit a_packs a_lost := by
  have hD := H.2.1
  have hw := ls_w H hk
  intro n
  induction n with
  | zero => intro c; intros; omega
  | succ n ih =>
    intro c a_write a_lost h1 h2 h3 h4 h5 h6
    have ik : vp_in (nI k) 60 := vp_in_nI (by omega) (by decide)
    rw [wY_find_299]
    dsimp only
    rw [nI_clamp (n := k) (by omega), h4]
    refine ⟨ik, ⟨k + 1, yw_loop (by omega) (by omega) ts fss rs ?_ (k + 1) 0 (Nat.zero_le _) (by omega) (fun i hi => absurd hi (Nat.not_lt_zero _))⟩⟩
    have e := sd_wr_e P k
    by_cases z : c < sd_mw P k
    · rw [if_pos z]
      rw [nI_1]
      refine br_f sh_10 ⟨ik, ik, nm_e (nm_e (ih (c + 1) _ _ (by omega) (by omega) (by omega) pk_us ?_ ?_))⟩
      · intro j hj; rw [pk_un (by omega)]; exact h5 j hj
      · exact xx_LO6 h6 (by rw [h6.2.2.2.2.2.2, nI_1]; exact congrArg nI (by omega))
    · rw [if_neg z]
      have ec : c = sd_wr P k := by omega
      refine br_t rfl (K _ _ ?_ ?_)
      · intro j hj
        by_cases e2 : j = k
        · rw [e2, h4, ec]
        · exact h5 j (by omega)
      · rw [ec] at h6; exact h6
end
section
variable {P : sd_Pg} {D k : Nat} {post : SY → Prop}
/-- what the reference has noted of the first n -/
def ys_NT (P : sd_Pg) (n : Nat) (number kind target first second bankOf : Nat → Int32) : Prop := ∀ j, j < n → number j = nI (sd_num P j) ∧ kind j = nI (sd_kd P j) ∧ target j = sd_cn 8 (sd_tg P j) ∧ first j = sd_cn 8 (sd_fs P j) ∧ second j = sd_cn 8 (sd_sc P j) ∧ (sd_kd P j = 4 → bankOf j = nI (sd_bk P j))
def ys_TT (P : sd_Pg) (n : Nat) (issue read access ready write unit : Nat → Int32) : Prop := ∀ j, j < n → issue j = nI (sd_is P j) ∧ read j = nI (sd_rd P j) ∧ (sd_kd P j = 4 → access j = nI (sd_ac P j)) ∧ ready j = nI (sd_ry P j) ∧ write j = nI (sd_wr P j) ∧ unit j = nI (sd_un P j)
def ys_PK (P : sd_Pg) (n : Nat) (packs : Nat → Int32) : Prop := ∀ j, j < sd_fc P n → packs j = nI (sd_pk P n j)
def ys_ST (P : sd_Pg) (many lat : Nat → Int32) : Prop := ∀ k, k < 6 → many k = nI (sd_gm P k) ∧ lat k = nI (sd_gl P k)
def ys_R (P : sd_Pg) (n : Nat) (f_fetched : Int32) (a_issue a_read a_access a_ready a_write a_unit a_packs a_lost : Nat → Int32) : Prop := f_fetched = nI (sd_fc P n) ∧ ys_TT P n a_issue a_read a_access a_ready a_write a_unit ∧ ys_PK P n a_packs ∧ xx_LO a_lost (xf_S0 P n) (xe_1 P n) (xe_2 P n) (xe_3 P n) (xe_4 P n) (xe_5 P n) (xe_6 P n)
theorem ys_bk (P : sd_Pg) (k : Nat) : sd_bk P k < 4 := by
  obtain ⟨w, b, hw, hb, ew, ewc, eb, ebc⟩ := xa_mask (sd_xs P k + sd_gB P (sd_num P k))
  unfold sd_bk; rw [ebc]; exact hb
end
section
variable {P : sd_Pg} {D k : Nat} {post : SY → Prop}
variable {f_size f_stackSize f_fetchTime f_bankTime f_fetched f_done : Int32}
variable {a_op a_d a_a a_b a_register a_word a_many a_latency a_number a_kind a_target a_first a_second a_bankOf a_issue a_read a_access a_ready a_write a_unit a_packs a_lost : Nat → Int32}
/-- issue and unit are found: the rest -/
theorem yd_fin {s0 s1 s2 s3 : Nat} (H : sd_OK P D) (hk : k < D) (hb : f_bankTime = nI (sd_gt P)) (hS : ys_ST P a_many a_latency)
    (N : ys_NT P (k + 1) a_number a_kind a_target a_first a_second a_bankOf) (T : ys_TT P k a_issue a_read a_access a_ready a_write a_unit)
    (hi : a_issue k = nI (sd_is P k)) (hu : a_unit k = nI (sd_un P k)) (hL : xx_LO a_lost s0 s1 s2 s3 (xe_4 P k) (xe_5 P k) (xe_6 P k))
    (K : ∀ a_read a_access a_ready a_write a_lost, ys_TT P (k + 1) a_issue a_read a_access a_ready a_write a_unit → xx_LO a_lost s0 s1 s2 s3 (xe_4 P (k + 1)) (xe_5 P (k + 1)) (xe_6 P (k + 1)) → post (f_size, f_stackSize, f_fetchTime, f_bankTime, f_fetched, f_done, a_op, a_d, a_a, a_b, a_register, a_word, a_many, a_latency, a_number, a_kind, a_target, a_first, a_second, a_bankOf, a_issue, a_read, a_access, a_ready, a_write, a_unit, a_packs, a_lost)) :
    wpY_findRead (fun u => match u with | (z_f_size, z_f_stackSize, z_f_fetchTime, z_f_bankTime, z_f_fetched, z_f_done, z_a_op, z_a_d, z_a_a, z_a_b, z_a_register, z_a_word, z_a_many, z_a_latency, z_a_number, z_a_kind, z_a_target, z_a_first, z_a_second, z_a_bankOf, z_a_issue, z_a_read, z_a_access, z_a_ready, z_a_write, z_a_unit, z_a_packs, z_a_lost) => (wpY_findAccess (fun u => match u with | (y_f_size, y_f_stackSize, y_f_fetchTime, y_f_bankTime, y_f_fetched, y_f_done, y_a_op, y_a_d, y_a_a, y_a_b, y_a_register, y_a_word, y_a_many, y_a_latency, y_a_number, y_a_kind, y_a_target, y_a_first, y_a_second, y_a_bankOf, y_a_issue, y_a_read, y_a_access, y_a_ready, y_a_write, y_a_unit, y_a_packs, y_a_lost) => (vp_in (nI k) 60 ∧ ((((y_a_kind (nI k).toNatClampNeg) = 4 → (vp_in (nI k) 60 ∧ (wY_find_265 post (nI k) (y_a_access (nI k).toNatClampNeg) y_f_size y_f_stackSize y_f_fetchTime y_f_bankTime y_f_fetched y_f_done y_a_op y_a_d y_a_a y_a_b y_a_register y_a_word y_a_many y_a_latency y_a_number y_a_kind y_a_target y_a_first y_a_second y_a_bankOf y_a_issue y_a_read y_a_access y_a_ready y_a_write y_a_unit y_a_packs y_a_lost))) ∧ (¬ (y_a_kind (nI k).toNatClampNeg) = 4 → (vp_in (nI k) 60 ∧ (wY_find_265 post (nI k) (y_a_read (nI k).toNatClampNeg) y_f_size y_f_stackSize y_f_fetchTime y_f_bankTime y_f_fetched y_f_done y_a_op y_a_d y_a_a y_a_b y_a_register y_a_word y_a_many y_a_latency y_a_number y_a_kind y_a_target y_a_first y_a_second y_a_bankOf y_a_issue y_a_read y_a_access y_a_ready y_a_write y_a_unit y_a_packs y_a_lost))))))) (z_f_size, z_f_stackSize, z_f_fetchTime, z_f_bankTime, z_f_fetched, z_f_done, z_a_op, z_a_d, z_a_a, z_a_b, z_a_register, z_a_word, z_a_many, z_a_latency, z_a_number, z_a_kind, z_a_target, z_a_first, z_a_second, z_a_bankOf, z_a_issue, z_a_read, z_a_access, z_a_ready, z_a_write, z_a_unit, z_a_packs, z_a_lost) (nI k))) (f_size, f_stackSize, f_fetchTime, f_bankTime, f_fetched, f_done, a_op, a_d, a_a, a_b, a_register, a_word, a_many, a_latency, a_number, a_kind, a_target, a_first, a_second, a_bankOf, a_issue, a_read, a_access, a_ready, a_write, a_unit, a_packs, a_lost) (nI k) := by
  have V := H.1
  have hD := H.2.1
  have hw := ls_w H hk
  have h1 := ls_rw (k := k) V
  have h2 := ls_rd (P := P) (k := k)
  have h3 := ls_wry (P := P) (k := k)
  have hgt := V.2.2.2.2.2.2
  have ek := nI_clamp (n := k) (by omega)
  have ik : vp_in (nI k) 60 := vp_in_nI (by omega) (by decide)
  have lv : ∀ j, j ≤ k → sd_LV P j := fun j hj => H.2.2 j (by omega)
  have tgs : ∀ j, j ≤ k → a_target j = sd_cn 8 (sd_tg P j) ∧ sd_tg P j ≤ 8 := fun j hj => ⟨(N j (by omega)).2.2.1, ls_tg V (lv j hj)⟩
  have fss : ∀ j, j < k → a_first j = sd_cn 8 (sd_fs P j) ∧ sd_fs P j ≤ 8 ∧ a_second j = sd_cn 8 (sd_sc P j) ∧ sd_sc P j ≤ 8 := fun j hj => ⟨(N j (by omega)).2.2.2.1, ls_fs V (lv j (by omega)), (N j (by omega)).2.2.2.2.1, ls_sc V (lv j (by omega))⟩
  have wss : ∀ j, j < k → a_write j = nI (sd_wr P j) ∧ sd_wr P j ≤ 1440 := fun j hj => ⟨(T j hj).2.2.2.2.1, ls_w H (by omega)⟩
  -- ready and write
  have last : ∀ (a_read a_access a_lost : Nat → Int32) (from_ : Nat), (∀ j, j ≤ k → a_read j = nI (sd_rd P j)) → (∀ j, j ≤ k → sd_kd P j = 4 → a_access j = nI (sd_ac P j)) → from_ + sd_gl P (sd_kd P k) = sd_ry P k → xx_LO a_lost s0 s1 s2 s3 (xe_4 P (k + 1)) (xe_5 P (k + 1)) (xe_6 P k) → wY_find_265 post (nI k) (nI from_) f_size f_stackSize f_fetchTime f_bankTime f_fetched f_done a_op a_d a_a a_b a_register a_word a_many a_latency a_number a_kind a_target a_first a_second a_bankOf a_issue a_read a_access a_ready a_write a_unit a_packs a_lost := by
    intro a_read a_access a_lost from_ g1 g2 g3 g4
    have hkd := ls_kd P k
    unfold wY_find_265
    rw [ek, (N k (by omega)).2.1, nI_clamp (n := sd_kd P k) (by omega), (hS _ hkd).2, nI_add, g3]
    refine ⟨ik, vp_in_nI hkd (by decide), ik, nm_e ⟨ik, ik, nm_e ⟨sd_wr P k - sd_ry P k + 1, ?_⟩⟩⟩
    rw [pk_us]
    refine yd_299 (s0 := s0) (s1 := s1) (s2 := s2) (s3 := s3) (s4 := xe_4 P (k + 1)) (s5 := xe_5 P (k + 1)) H hk tgs fss ?_ ?_ (sd_wr P k - sd_ry P k + 1) (sd_ry P k) _ _ (Nat.le_refl _) h3 (by omega) pk_us ?_ ?_
    · intro j hj
      have h4 := ls_w H (show j < D by omega)
      have h5 := ls_rw (k := j) V
      exact ⟨g1 j (by omega), by omega⟩
    · intro a_write a_lost w1 w2
      refine K _ _ _ _ _ ?_ w2
      intro j hj
      by_cases e : j = k
      · rw [e]; exact ⟨hi, g1 k (by omega), g2 k (by omega), pk_us, w1 k (Nat.le_refl _), hu⟩
      · obtain ⟨t1, t2, t3, t4, t5, t6⟩ := T j (by omega)
        exact ⟨t1, g1 j (by omega), g2 j (by omega), by rw [pk_un e]; exact t4, w1 j (by omega), t6⟩
    · intro j hj; rw [pk_un (by omega)]; exact (wss j hj).1
    · rw [Nat.sub_self]; exact g4
  unfold wpY_findRead
  dsimp only
  rw [ek, hi, nI_1]
  refine ⟨ik, nm_r (e' := nI (max (sd_is P k + 1) 0)) (congrArg nI (by omega)) ⟨k + 1, yr_loop (by omega) (by omega) hi (fun j hj => tgs j (by omega)) ⟨(N k (by omega)).2.2.2.1, ls_fs V (lv k (Nat.le_refl _))⟩ ⟨(N k (by omega)).2.2.2.2.1, ls_sc V (lv k (Nat.le_refl _))⟩ wss ?_ (k + 1) 0 (Nat.zero_le _) (by omega)⟩⟩
  dsimp only
  have hL4 : xx_LO (upd a_lost 4 (a_lost 4 + nI (sd_rd P k - (sd_is P k + 1)))) s0 s1 s2 s3 (xe_4 P (k + 1)) (xe_5 P k) (xe_6 P k) := xx_LO4 hL (by rw [hL.2.2.2.2.1, nI_add]; rfl)
  have rds : ∀ j, j ≤ k → upd a_read k (nI (sd_rd P k)) j = nI (sd_rd P j) := by
    intro j hj
    by_cases e : j = k
    · rw [e, pk_us]
    · rw [pk_un e]; exact (T j (by omega)).2.1
  have hkd := ls_kd P k
  unfold wpY_findAccess
  dsimp only
  rw [ek, (N k (by omega)).2.1, pk_us, nI_1]
  refine ⟨ik, ?_⟩
  by_cases z4 : sd_kd P k = 4
  · have haw := ls_aw V z4
    have hry := ls_ry4 (P := P) z4
    refine br_t (by rw [z4]; rfl) ⟨ik, nm_r (e' := nI (max (sd_rd P k + 1) 0)) (congrArg nI (by omega)) ⟨k + 1, ya_loop (by omega) (by omega) pk_us (by omega) hb (fun j hj => (N j (by omega)).2.1) (fun j hj h4 => ⟨(N j (by omega)).2.2.2.2.2 h4, ys_bk P j⟩) (fun j hj h4 => ⟨(T j hj).2.2.1 h4, ?_⟩) z4 ?_ (k + 1) 0 (Nat.zero_le _) (by omega)⟩⟩
    · have h4' := ls_w H (show j < D by omega)
      have h5 := ls_aw V h4
      omega
    · dsimp only
      rw [(N k (by omega)).2.1, pk_us, pk_us]
      refine ⟨ik, br_t (by rw [z4]; rfl) ⟨ik, last _ _ _ (sd_ac P k) rds ?_ (by rw [hry, z4]) ?_⟩⟩
      · intro j hj h4
        by_cases e : j = k
        · rw [e, pk_us]
        · rw [pk_un e]; exact (T j (by omega)).2.2.1 h4
      · refine xx_LO5 hL4 ?_
        rw [hL4.2.2.2.2.2.1, nI_add]
        refine congrArg nI ?_
        show xe_5 P k + _ = xe_5 P k + (if sd_kd P k = 4 then sd_ac P k - (sd_rd P k + 1) else 0)
        rw [if_pos z4]
  · refine br_f (fun z => z4 ((nI_eq (b := 4) (by omega) (by decide)).mp z)) ⟨ik, br_f (fun z => z4 ((nI_eq (b := 4) (by omega) (by decide)).mp z)) ⟨ik, last _ _ _ (sd_rd P k) rds ?_ (by rw [ls_ryn z4]) ?_⟩⟩
    · intro j hj h4
      by_cases e : j = k
      · rw [e] at h4; exact absurd h4 z4
      · exact (T j (by omega)).2.2.1 h4
    · have e5 : xe_5 P (k + 1) = xe_5 P k := by
        show xe_5 P k + (if sd_kd P k = 4 then sd_ac P k - (sd_rd P k + 1) else 0) = xe_5 P k
        rw [if_neg z4]; rfl
      rw [e5]; exact hL4
end
end
section
/-! the reference's find: the search for the issue -/
section
variable {P : sd_Pg} {D k c : Nat} {post : SY → Prop}
variable {f_size f_stackSize f_fetchTime f_bankTime f_fetched f_done : Int32}
variable {a_op a_d a_a a_b a_register a_word a_many a_latency a_number a_kind a_target a_first a_second a_bankOf a_issue a_read a_access a_ready a_write a_unit a_packs a_lost : Nat → Int32}
theorem yd_ask {Q : Int32 → Int32 → Prop} (H : sd_OK P D) (hk : k < D) (hc : c < 2 ^ 31) (hS : ys_ST P a_many a_latency)
    (N : ys_NT P (k + 1) a_number a_kind a_target a_first a_second a_bankOf) (T : ys_TT P k a_issue a_read a_access a_ready a_write a_unit)
    (K : Q (if c < sd_hw P k then 1 else 0) (sd_cn (sd_gm P (sd_kd P k)) (sd_fu (sd_ub P k) c (sd_gm P (sd_kd P k))))) :
    wpY_isHeld (fun r => wpY_freeUnit (fun r' => Q r r') (f_size, f_stackSize, f_fetchTime, f_bankTime, f_fetched, f_done, a_op, a_d, a_a, a_b, a_register, a_word, a_many, a_latency, a_number, a_kind, a_target, a_first, a_second, a_bankOf, a_issue, a_read, a_access, a_ready, a_write, a_unit, a_packs, a_lost) (nI k) (nI c)) (f_size, f_stackSize, f_fetchTime, f_bankTime, f_fetched, f_done, a_op, a_d, a_a, a_b, a_register, a_word, a_many, a_latency, a_number, a_kind, a_target, a_first, a_second, a_bankOf, a_issue, a_read, a_access, a_ready, a_write, a_unit, a_packs, a_lost) (nI k) (nI c) := by
  have V := H.1
  have hD := H.2.1
  have hgm := ls_gm (k := k) V
  have wss : ∀ j, j < k → a_write j = nI (sd_wr P j) ∧ sd_wr P j ≤ 1440 := fun j hj => ⟨(T j hj).2.2.2.2.1, ls_w H (by omega)⟩
  refine ⟨k + 1, yh_loop (by omega) hc (fun j hj => ⟨(N j (by omega)).2.2.1, ls_tg V (H.2.2 j (by omega))⟩) wss ?_ (k + 1) 0 (Nat.zero_le _) (by omega) (fun i hi => absurd hi (Nat.not_lt_zero _))⟩
  refine ⟨4, yu_loop (by omega) hc hgm.2 (hS _ (ls_kd P k)).1 (fun j hj => (N j (by omega)).2.1) (fun j hj => ⟨(T j hj).2.2.2.2.2, ?_⟩) wss K 4 0 (Nat.zero_le _) (by omega) (fun v hv => absurd hv (Nat.not_lt_zero _))⟩
  have := ls_un3 (k := j) V
  omega
theorem yd_fr (V : sd_VP P) : xf_fr P k ≤ sd_nx P k := by
  cases k with
  | zero => exact Nat.le_refl _
  | succ k => rw [xf_frS]; exact ls_nxi V
end
section
variable {P : sd_Pg} {D k : Nat} {post : SY → Prop}
variable {f_size f_stackSize f_fetchTime f_bankTime f_fetched f_done : Int32}
variable {a_op a_d a_a a_b a_register a_word a_many a_latency a_number a_kind a_target a_first a_second a_bankOf a_issue a_read a_access a_ready a_write a_unit a_packs : Nat → Int32}
theorem yd_loop (H : sd_OK P D) (hk : k < D) (hb : f_bankTime = nI (sd_gt P)) (hS : ys_ST P a_many a_latency)
    (N : ys_NT P (k + 1) a_number a_kind a_target a_first a_second a_bankOf) (T : ys_TT P k a_issue a_read a_access a_ready a_write a_unit)
    (K : ∀ a_issue a_read a_access a_ready a_write a_unit a_lost, ys_TT P (k + 1) a_issue a_read a_access a_ready a_write a_unit → xx_LO a_lost (xf_S0 P (k + 1)) (xe_1 P (k + 1)) (xe_2 P (k + 1)) (xe_3 P (k + 1)) (xe_4 P (k + 1)) (xe_5 P (k + 1)) (xe_6 P (k + 1)) → post (f_size, f_stackSize, f_fetchTime, f_bankTime, f_fetched, f_done, a_op, a_d, a_a, a_b, a_register, a_word, a_many, a_latency, a_number, a_kind, a_target, a_first, a_second, a_bankOf, a_issue, a_read, a_access, a_ready, a_write, a_unit, a_packs, a_lost)) :
    ∀ n c (a_lost : Nat → Int32), xf_fr P k ≤ c → c ≤ sd_is P k → sd_is P k < n + c → xx_LO a_lost (xf_S0 P k + (min c (sd_nx P k) - xf_fr P k)) (xe_1 P k + (min c (sd_co P k) - sd_nx P k)) (xe_2 P k + (min c (max (sd_co P k) (sd_hw P k)) - sd_co P k)) (xe_3 P k + (c - max (sd_co P k) (sd_hw P k))) (xe_4 P k) (xe_5 P k) (xe_6 P k) →
      wY_find_135 post (nI k) (nI (sd_nx P k)) (nI (sd_co P k)) f_size f_stackSize f_fetchTime f_bankTime f_fetched f_done n (nI c) (if c < sd_hw P k then 1 else 0) (sd_cn (sd_gm P (sd_kd P k)) (sd_fu (sd_ub P k) c (sd_gm P (sd_kd P k)))) a_op a_d a_a a_b a_register a_word a_many a_latency a_number a_kind a_target a_first a_second a_bankOf a_issue a_read a_access a_ready a_write a_unit a_packs a_lost := by
  have V := H.1
  have hD := H.2.1
  have hw := ls_w H hk
  have hiw := ls_iw (k := k) V
  have hco := ls_co (P := P) (k := k)
  have hhw := ls_hwi (P := P) (k := k)
  have hnc := ls_nxco (P := P) (k := k)
  have hfr := yd_fr (k := k) V
  have hgm := ls_gm (k := k) V
  have ie := sd_is_e P k
  have ik : vp_in (nI k) 60 := vp_in_nI (by omega) (by decide)
  intro n
  induction n with
  | zero => intro c; intros; omega
  | succ n ih =>
    intro c a_lost h1 h2 h3 hL
    -- one more cycle
    have inc : ∀ z0 : Nat, z0 < 7 → c < sd_is P k → xx_LO (upd a_lost z0 (a_lost z0 + 1)) (xf_S0 P k + (min (c + 1) (sd_nx P k) - xf_fr P k)) (xe_1 P k + (min (c + 1) (sd_co P k) - sd_nx P k)) (xe_2 P k + (min (c + 1) (max (sd_co P k) (sd_hw P k)) - sd_co P k)) (xe_3 P k + ((c + 1) - max (sd_co P k) (sd_hw P k))) (xe_4 P k) (xe_5 P k) (xe_6 P k) →
        wY_find_185 post (wY_find_135 post (nI k) (nI (sd_nx P k)) (nI (sd_co P k)) f_size f_stackSize f_fetchTime f_bankTime f_fetched f_done n) (nI k) (nI (sd_nx P k)) (nI (sd_co P k)) (nI c) (nI z0) f_size f_stackSize f_fetchTime f_bankTime f_fetched f_done a_op a_d a_a a_b a_register a_word a_many a_latency a_number a_kind a_target a_first a_second a_bankOf a_issue a_read a_access a_ready a_write a_unit a_packs a_lost := by
      intro z0 hz hlt hL'
      unfold wY_find_185
      rw [nI_clamp (n := z0) (by omega)]
      have i7 : vp_in (nI z0) 7 := vp_in_nI hz (by decide)
      refine ⟨i7, i7, nm_e (nm_r (nI_1 c) ?_)⟩
      exact yd_ask (c := c + 1) (Q := fun r r' => wY_find_135 post (nI k) (nI (sd_nx P k)) (nI (sd_co P k)) f_size f_stackSize f_fetchTime f_bankTime f_fetched f_done n (nI (c + 1)) r r' a_op a_d a_a a_b a_register a_word a_many a_latency a_number a_kind a_target a_first a_second a_bankOf a_issue a_read a_access a_ready a_write a_unit a_packs (upd a_lost z0 (a_lost z0 + 1))) H hk (by omega) hS N T (ih (c + 1) _ (by omega) (by omega) (by omega) hL')
    have k151 : c < sd_is P k → wY_find_151 post (wY_find_135 post (nI k) (nI (sd_nx P k)) (nI (sd_co P k)) f_size f_stackSize f_fetchTime f_bankTime f_fetched f_done n) (nI k) (nI (sd_nx P k)) (nI (sd_co P k)) (nI c) (if c < sd_hw P k then 1 else 0) f_size f_stackSize f_fetchTime f_bankTime f_fetched f_done a_op a_d a_a a_b a_register a_word a_many a_latency a_number a_kind a_target a_first a_second a_bankOf a_issue a_read a_access a_ready a_write a_unit a_packs a_lost := by
      intro hlt
      unfold wY_find_151
      by_cases z1 : sd_nx P k ≤ c
      case neg =>
        refine br_f (nI_ge (by omega) (by omega)) (inc 0 (by decide) hlt ?_)
        have e1 : xf_S0 P k + (min (c + 1) (sd_nx P k) - xf_fr P k) = xf_S0 P k + (min c (sd_nx P k) - xf_fr P k) + 1 := by omega
        have e2 : xe_1 P k + (min (c + 1) (sd_co P k) - sd_nx P k) = xe_1 P k + (min c (sd_co P k) - sd_nx P k) := by omega
        have e3 : xe_2 P k + (min (c + 1) (max (sd_co P k) (sd_hw P k)) - sd_co P k) = xe_2 P k + (min c (max (sd_co P k) (sd_hw P k)) - sd_co P k) := by omega
        have e4 : xe_3 P k + ((c + 1) - max (sd_co P k) (sd_hw P k)) = xe_3 P k + (c - max (sd_co P k) (sd_hw P k)) := by omega
        rw [e1, e2, e3, e4]
        exact xx_LO0 hL (by rw [hL.1, nI_1])
      refine br_t (nI_le z1 (by omega)) ?_
      by_cases z2 : sd_co P k ≤ c
      case neg =>
        refine br_f (nI_ge (by omega) (by omega)) (inc 1 (by decide) hlt ?_)
        have e1 : xf_S0 P k + (min (c + 1) (sd_nx P k) - xf_fr P k) = xf_S0 P k + (min c (sd_nx P k) - xf_fr P k) := by omega
        have e2 : xe_1 P k + (min (c + 1) (sd_co P k) - sd_nx P k) = xe_1 P k + (min c (sd_co P k) - sd_nx P k) + 1 := by omega
        have e3 : xe_2 P k + (min (c + 1) (max (sd_co P k) (sd_hw P k)) - sd_co P k) = xe_2 P k + (min c (max (sd_co P k) (sd_hw P k)) - sd_co P k) := by omega
        have e4 : xe_3 P k + ((c + 1) - max (sd_co P k) (sd_hw P k)) = xe_3 P k + (c - max (sd_co P k) (sd_hw P k)) := by omega
        rw [e1, e2, e3, e4]
        exact xx_LO1 hL (by rw [hL.2.1, nI_1])
      refine br_t (nI_le z2 (by omega)) ?_
      by_cases z3 : c < sd_hw P k
      · rw [if_pos z3]
        refine br_f sh_10 (inc 2 (by decide) hlt ?_)
        have e1 : xf_S0 P k + (min (c + 1) (sd_nx P k) - xf_fr P k) = xf_S0 P k + (min c (sd_nx P k) - xf_fr P k) := by omega
        have e2 : xe_1 P k + (min (c + 1) (sd_co P k) - sd_nx P k) = xe_1 P k + (min c (sd_co P k) - sd_nx P k) := by omega
        have e3 : xe_2 P k + (min (c + 1) (max (sd_co P k) (sd_hw P k)) - sd_co P k) = xe_2 P k + (min c (max (sd_co P k) (sd_hw P k)) - sd_co P k) + 1 := by omega
        have e4 : xe_3 P k + ((c + 1) - max (sd_co P k) (sd_hw P k)) = xe_3 P k + (c - max (sd_co P k) (sd_hw P k)) := by omega
        rw [e1, e2, e3, e4]
        exact xx_LO2 hL (by rw [hL.2.2.1, nI_1])
      · rw [if_neg z3]
        refine br_t rfl (inc 3 (by decide) hlt ?_)
        have e1 : xf_S0 P k + (min (c + 1) (sd_nx P k) - xf_fr P k) = xf_S0 P k + (min c (sd_nx P k) - xf_fr P k) := by omega
        have e2 : xe_1 P k + (min (c + 1) (sd_co P k) - sd_nx P k) = xe_1 P k + (min c (sd_co P k) - sd_nx P k) := by omega
        have e3 : xe_2 P k + (min (c + 1) (max (sd_co P k) (sd_hw P k)) - sd_co P k) = xe_2 P k + (min c (max (sd_co P k) (sd_hw P k)) - sd_co P k) := by omega
        have e4 : xe_3 P k + ((c + 1) - max (sd_co P k) (sd_hw P k)) = xe_3 P k + (c - max (sd_co P k) (sd_hw P k)) + 1 := by omega
        rw [e1, e2, e3, e4]
        exact xx_LO3 hL (by rw [hL.2.2.2.1, nI_1])
    rw [wY_find_135]
    dsimp only
    by_cases z1 : c < sd_co P k
    · exact br_t (nI_lt z1 (by omega)) (k151 (by omega))
    refine br_f (nI_nlt (by omega) (by omega)) ?_
    by_cases z2 : c < sd_hw P k
    · rw [if_pos z2] at k151 ⊢
      exact br_f sh_10 (k151 (by omega))
    rw [if_neg z2] at k151 ⊢
    refine br_t rfl ?_
    by_cases z3 : sd_fu (sd_ub P k) c (sd_gm P (sd_kd P k)) < sd_gm P (sd_kd P k)
    case neg =>
      have hlt : c < sd_is P k := by
        obtain ⟨u, hu, e⟩ := sd_ml_ex (f := sd_ub P k) (n := sd_gm P (sd_kd P k)) hgm.1
        rcases Nat.lt_or_ge c (sd_ub P k u) with z | z
        · omega
        · exact absurd (sd_fu_ex hu z) z3
      rw [sd_cn_ge (by omega)]
      exact br_f sh_m1 (k151 hlt)
    have hci : c = sd_is P k := by
      have h4 := sd_fu_at z3
      have h5 := sd_ml_le (f := sd_ub P k) (n := sd_gm P (sd_kd P k)) z3
      omega
    have hun : sd_fu (sd_ub P k) c (sd_gm P (sd_kd P k)) = sd_un P k := by rw [hci, ← sd_un_e]
    rw [sd_cn_lt z3, hun, nI_clamp (n := k) (by omega)]
    have hu3 := ls_un3 (k := k) V
    refine br_t (nI_pos' (by omega)) ⟨ik, nm_e ⟨ik, nm_e ?_⟩⟩
    have fin := yd_fin (post := post) (s0 := xf_S0 P (k + 1)) (s1 := xe_1 P (k + 1)) (s2 := xe_2 P (k + 1)) (s3 := xe_3 P (k + 1)) (a_issue := upd a_issue k (nI c)) (a_unit := upd a_unit k (nI (sd_un P k))) (a_lost := a_lost) (f_size := f_size) (f_stackSize := f_stackSize) (f_fetchTime := f_fetchTime) (f_fetched := f_fetched) (f_done := f_done) (a_op := a_op) (a_d := a_d) (a_a := a_a) (a_b := a_b) (a_register := a_register) (a_word := a_word) (a_packs := a_packs) H hk hb hS N (a_read := a_read) (a_access := a_access) (a_ready := a_ready) (a_write := a_write) ?_ (by rw [pk_us, hci]) pk_us ?_ (fun a_read a_access a_ready a_write a_lost g1 g2 => K _ _ _ _ _ _ _ g1 g2)
    · rw [nI_clamp (n := k) (by omega)] at fin
      exact fin
    · intro j hj
      obtain ⟨t1, t2, t3, t4, t5, t6⟩ := T j hj
      exact ⟨by rw [pk_un (by omega)]; exact t1, t2, t3, t4, t5, by rw [pk_un (by omega)]; exact t6⟩
    · have e1 : xf_S0 P k + (min c (sd_nx P k) - xf_fr P k) = xf_S0 P (k + 1) := by rw [xf_S0S]; omega
      have e2 : xe_1 P k + (min c (sd_co P k) - sd_nx P k) = xe_1 P (k + 1) := by show _ = xe_1 P k + (sd_co P k - sd_nx P k); omega
      have e3 : xe_2 P k + (min c (max (sd_co P k) (sd_hw P k)) - sd_co P k) = xe_2 P (k + 1) := by show _ = xe_2 P k + (max (sd_co P k) (sd_hw P k) - sd_co P k); omega
      have e4 : xe_3 P k + (c - max (sd_co P k) (sd_hw P k)) = xe_3 P (k + 1) := by show _ = xe_3 P k + (sd_is P k - max (sd_co P k) (sd_hw P k)); omega
      rw [← e1, ← e2, ← e3, ← e4]; exact hL
end
section
variable {P : sd_Pg} {D k : Nat} {post : SY → Prop}
variable {f_size f_stackSize f_fetchTime f_bankTime f_fetched f_done : Int32}
variable {a_op a_d a_a a_b a_register a_word a_many a_latency a_number a_kind a_target a_first a_second a_bankOf a_issue a_read a_access a_ready a_write a_unit a_packs a_lost : Nat → Int32}
theorem yd_find (H : sd_OK P D) (hk : k < D) (hb : f_bankTime = nI (sd_gt P)) (hs : f_stackSize = nI (sd_gS P)) (hf : f_fetchTime = nI (sd_gf P)) (hS : ys_ST P a_many a_latency)
    (N : ys_NT P (k + 1) a_number a_kind a_target a_first a_second a_bankOf)
    (R : ys_R P k f_fetched a_issue a_read a_access a_ready a_write a_unit a_packs a_lost)
    (K : ∀ f_fetched a_issue a_read a_access a_ready a_write a_unit a_packs a_lost, ys_R P (k + 1) f_fetched a_issue a_read a_access a_ready a_write a_unit a_packs a_lost → post (f_size, f_stackSize, f_fetchTime, f_bankTime, f_fetched, f_done, a_op, a_d, a_a, a_b, a_register, a_word, a_many, a_latency, a_number, a_kind, a_target, a_first, a_second, a_bankOf, a_issue, a_read, a_access, a_ready, a_write, a_unit, a_packs, a_lost)) :
    wpY_find post (f_size, f_stackSize, f_fetchTime, f_bankTime, f_fetched, f_done, a_op, a_d, a_a, a_b, a_register, a_word, a_many, a_latency, a_number, a_kind, a_target, a_first, a_second, a_bankOf, a_issue, a_read, a_access, a_ready, a_write, a_unit, a_packs, a_lost) (nI k) := by
  have V := H.1
  have hD := H.2.1
  have hw := ls_w H hk
  have hiw := ls_iw (k := k) V
  have hco := ls_co (P := P) (k := k)
  have hnc := ls_nxco (P := P) (k := k)
  have hfr := yd_fr (k := k) V
  have hfc := sd_fc_le P k
  have hgS := V.2.2.2.1
  have hnum := ls_num H (show k ≤ D by omega)
  obtain ⟨r1, T, PK, hL⟩ := R
  have ik : vp_in (nI k) 60 := vp_in_nI (by omega) (by decide)
  have ek := nI_clamp (n := k) (by omega)
  have en := (N k (by omega)).1
  have k117 : ∀ (f_fetched : Int32) (a_packs : Nat → Int32), f_fetched = nI (sd_fc P (k + 1)) → ys_PK P (k + 1) a_packs → wY_find_117 post (nI k) (nI (sd_nx P k)) (nI (sd_co P k)) (nI (xf_fr P k)) f_size f_stackSize f_fetchTime f_bankTime f_fetched f_done a_op a_d a_a a_b a_register a_word a_many a_latency a_number a_kind a_target a_first a_second a_bankOf a_issue a_read a_access a_ready a_write a_unit a_packs a_lost := by
    intro f_fetched a_packs g1 g2
    unfold wY_find_117
    refine yd_ask (c := xf_fr P k) (Q := fun r r' => ∃ n135 : Nat, wY_find_135 post (nI k) (nI (sd_nx P k)) (nI (sd_co P k)) f_size f_stackSize f_fetchTime f_bankTime f_fetched f_done n135 (nI (xf_fr P k)) r r' a_op a_d a_a a_b a_register a_word a_many a_latency a_number a_kind a_target a_first a_second a_bankOf a_issue a_read a_access a_ready a_write a_unit a_packs a_lost) H hk (by omega) hS N T ⟨sd_is P k + 1, ?_⟩
    refine yd_loop H hk hb hS N T ?_ (sd_is P k + 1) (xf_fr P k) a_lost (Nat.le_refl _) (by omega) (by omega) ?_
    · intro a_issue a_read a_access a_ready a_write a_unit a_lost g3 g4
      exact K _ _ _ _ _ _ _ _ _ ⟨g1, g3, g2, g4⟩
    · rw [show min (xf_fr P k) (sd_nx P k) - xf_fr P k = 0 by omega, show min (xf_fr P k) (sd_co P k) - sd_nx P k = 0 by omega, show min (xf_fr P k) (max (sd_co P k) (sd_hw P k)) - sd_co P k = 0 by omega, show xf_fr P k - max (sd_co P k) (sd_hw P k) = 0 by omega]
      exact hL
  have k62 : wY_find_62 post (nI k) (nI (sd_nx P k)) (nI (sd_nx P k)) (nI (xf_fr P k)) f_size f_stackSize f_fetchTime f_bankTime f_fetched f_done a_op a_d a_a a_b a_register a_word a_many a_latency a_number a_kind a_target a_first a_second a_bankOf a_issue a_read a_access a_ready a_write a_unit a_packs a_lost := by
    unfold wY_find_62
    have e2 : nI (sd_num P k) / 2 = nI (sd_num P k / 2) := pk_div (d := 2) (by omega) (by decide) (by decide)
    rw [ek, en, e2]
    refine ⟨ik, sh_20, nm_r (e' := nI (sd_fc P k) - 1) (by rw [r1]) ⟨sd_fc P k + 1, yf_loop (F := sd_fc P k) (G := sd_gS P) (f := sd_pk P k) (by omega) (by omega) (by omega) r1 hs (fun j hj => ⟨PK j hj, ls_pk H (by omega) j⟩) (sd_fc P k) (sd_fc P k + 1) (Nat.le_refl _) (by omega) ?_⟩⟩
    have hth : sd_in (sd_pk P k) (sd_num P k / 2) (sd_fc P k - sd_gS P) (sd_fc P k) = sd_th P k := rfl
    rw [hth]
    have eco : sd_co P k = sd_nx P k + (if sd_th P k = true then 0 else sd_gf P) := rfl
    by_cases z : sd_th P k = true
    · rw [if_pos z] at eco ⊢
      have eco' : sd_nx P k = sd_co P k := by omega
      have h117 := k117 f_fetched a_packs (by rw [(sd_fe_t z).1]; exact r1) (by
        intro j hj
        rw [(sd_fe_t z).1] at hj
        rw [(sd_fe_t z).2]; exact PK j hj)
      rw [← eco'] at h117
      exact br_f sh_10 h117
    · rw [if_neg z] at eco ⊢
      refine br_t rfl ⟨ik, sh_20, ?_⟩
      rw [r1, nI_clamp (n := sd_fc P k) (by omega)]
      refine ⟨vp_in_nI (by omega) (by decide), nm_e (nm_r (e' := nI (sd_fc P (k + 1))) (by rw [nI_1, (sd_fe_f z).1]) (nm_r (e' := nI (sd_co P k)) (by rw [hf, nI_add, eco]) (k117 _ _ rfl ?_)))⟩
      intro j hj
      rw [(sd_fe_f z).1] at hj
      rw [(sd_fe_f z).2]
      dsimp only
      by_cases e : j = sd_fc P k
      · rw [e, pk_us, if_pos rfl]
      · rw [pk_un e, if_neg e]; exact PK j (by omega)
  unfold wpY_find
  dsimp only
  by_cases h0 : k = 0
  · have e0 : nI k = 0 := by rw [h0]; rfl
    have e1 : nI (sd_nx P k) = 1 := by rw [h0]; rfl
    have e3 : nI (xf_fr P k) = 1 := by rw [h0]; rfl
    rw [e1, e3] at k62
    refine br_t e0 ?_
    unfold wY_find_41
    exact br_t e0 k62
  · obtain ⟨j, rfl⟩ : ∃ j, k = j + 1 := ⟨k - 1, by omega⟩
    have hne : ¬ nI (j + 1) = 0 := nI_ne0 (by omega) (by omega)
    have ij : vp_in (nI j) 60 := vp_in_nI (by omega) (by decide)
    have ej := nI_clamp (n := j) (by omega)
    obtain ⟨t1, t2, t3, t4, t5, t6⟩ := T j (by omega)
    have hkd := ls_kd P j
    have k41 : wY_find_41 post (nI (j + 1)) (nI (sd_nx P (j + 1))) f_size f_stackSize f_fetchTime f_bankTime f_fetched f_done a_op a_d a_a a_b a_register a_word a_many a_latency a_number a_kind a_target a_first a_second a_bankOf a_issue a_read a_access a_ready a_write a_unit a_packs a_lost := by
      unfold wY_find_41
      rw [nI_pred, ej, t1, nI_1]
      refine br_f hne ⟨ij, ?_⟩
      rw [← xf_frS]; exact k62
    rw [nI_pred, ej, (N j (by omega)).2.1, t1, t5]
    refine br_f hne ⟨ij, ?_⟩
    by_cases z5 : sd_kd P j = 5
    · rw [ls_nx5 z5] at k41
      refine br_t (by rw [z5]; rfl) ⟨ij, ?_⟩
      unfold wY_find_39
      rw [nI_1]; exact k41
    · rw [ls_nxn z5] at k41
      refine br_f (fun z => z5 ((nI_eq (b := 5) (by omega) (by decide)).mp z)) ⟨ij, ?_⟩
      unfold wY_find_39
      rw [nI_1]; exact k41
end
end
section
/-! the reference's run -/
theorem yk_kind {post : Int32 → Prop} {o : Nat} (ho : o ≤ 10) (K : post (nI (sd_kn o))) : wpY_kindOf post (nI o) := by
  unfold sd_kn at K
  unfold wpY_kindOf
  by_cases h0 : o = 0
  · rw [if_pos (by omega)] at K
    exact br_t (by rw [h0]; rfl) K
  rw [if_neg (by omega)] at K
  refine br_f (nI_ne0 (by omega) (by omega)) ?_
  by_cases h4 : o < 4
  · rw [if_pos h4] at K
    exact br_f (nI_ge (b := 4) h4 (by decide)) K
  rw [if_neg h4] at K
  refine br_t (nI_le (a := 4) (by omega) (by omega)) ?_
  by_cases e4 : o = 4
  · subst e4; exact br_t rfl K
  refine br_f (fun z => e4 ((nI_eq (b := 4) (by omega) (by decide)).mp z)) ?_
  by_cases e5 : o = 5
  · subst e5; exact br_t rfl K
  refine br_f (fun z => e5 ((nI_eq (b := 5) (by omega) (by decide)).mp z)) ?_
  rw [if_neg (by omega)] at K
  by_cases h8 : o < 8
  · rw [if_pos h8] at K
    exact br_f (nI_ge (b := 8) h8 (by decide)) K
  · rw [if_neg h8] at K
    exact br_t (nI_le (a := 8) (by omega) (by omega)) K
theorem yi_in {post : Int32 → Prop} {v w : Int32} {n : Nat} (hn : n < 2 ^ 31) (hw : w = nI n) (K1 : ∀ j, j < n → v = nI j → post 1) (K0 : (¬ ∃ j, j < n ∧ v = nI j) → post 0) : wpY_in post v w := by
  subst hw
  unfold wpY_in
  rcases pk_ix v hn with z | z | ⟨j, hj, e⟩
  · refine br_t z (K0 (fun ⟨j, hj, e⟩ => ?_))
    rw [e] at z; exact nI_pos (by omega) z
  · have h0 : ¬ v < 0 := by
      intro h
      have h1 := nI_pos' (n := n) hn
      exact absurd (Int32.lt_of_le_of_lt (Int32.le_trans h1 z) h) (Int32.lt_irrefl)
    refine br_f h0 (br_t z (K0 (fun ⟨j, hj, e⟩ => ?_)))
    rw [e] at z; exact nI_ge hj hn z
  · rw [e]
    exact br_f (nI_pos (by omega)) (br_f (nI_ge hj hn) (K1 j hj e))
section
variable {P : sd_Pg} {D k : Nat}
/-- the program in the reference -/
def ys_P (P : sd_Pg) (a_op a_d a_a a_b : Nat → Int32) : Prop := ∀ i, i < sd_gs P → a_op i = P.1 i ∧ a_d i = P.2.1 i ∧ a_a i = P.2.2.1 i ∧ a_b i = P.2.2.2.1 i
theorem yn_ext {number kind target first second bankOf bankOf' : Nat → Int32} (N : ys_NT P k number kind target first second bankOf) (hb : ∀ j, j ≠ k → bankOf' j = bankOf j) (hb4 : sd_kd P k = 4 → bankOf' k = nI (sd_bk P k)) :
    ys_NT P (k + 1) (upd number k (nI (sd_num P k))) (upd kind k (nI (sd_kd P k))) (upd target k (sd_cn 8 (sd_tg P k))) (upd first k (sd_cn 8 (sd_fs P k))) (upd second k (sd_cn 8 (sd_sc P k))) bankOf' := by
  intro j hj
  by_cases e : j = k
  · subst e
    rw [pk_us, pk_us, pk_us, pk_us, pk_us]
    exact ⟨rfl, rfl, rfl, rfl, rfl, hb4⟩
  · rw [pk_un e, pk_un e, pk_un e, pk_un e, pk_un e, hb j e]
    exact N j (by omega)
end
section
variable {P : sd_Pg} {D k : Nat} {post : SY → Prop}
variable {f_size f_stackSize f_fetchTime f_bankTime f_fetched f_done : Int32}
variable {a_op a_d a_a a_b a_register a_word a_many a_latency a_number a_kind a_target a_first a_second a_bankOf a_issue a_read a_access a_ready a_write a_unit a_packs a_lost : Nat → Int32}
theorem yn_note (H : sd_OK P D) (hk : k < D) (hP : ys_P P a_op a_d a_a a_b) (hR : a_register = sd_RG P k)
    (N : ys_NT P k a_number a_kind a_target a_first a_second a_bankOf)
    (K : ∀ a_number a_kind a_target a_first a_second a_bankOf, ys_NT P (k + 1) a_number a_kind a_target a_first a_second a_bankOf → post (f_size, f_stackSize, f_fetchTime, f_bankTime, f_fetched, nI k, a_op, a_d, a_a, a_b, a_register, a_word, a_many, a_latency, a_number, a_kind, a_target, a_first, a_second, a_bankOf, a_issue, a_read, a_access, a_ready, a_write, a_unit, a_packs, a_lost)) :
    wpY_note post (f_size, f_stackSize, f_fetchTime, f_bankTime, f_fetched, nI k, a_op, a_d, a_a, a_b, a_register, a_word, a_many, a_latency, a_number, a_kind, a_target, a_first, a_second, a_bankOf, a_issue, a_read, a_access, a_ready, a_write, a_unit, a_packs, a_lost) (nI (sd_num P k)) := by
  have V := H.1
  have hD := H.2.1
  have L := H.2.2 k hk
  have h24 := V.1
  have hgs : sd_num P k < 24 := by have := L.1; omega
  have ho := ls_o V L
  have hvi := ls_vi V L.1
  obtain ⟨p1, p2, p3, p4⟩ := hP _ L.1
  have hop : a_op (sd_num P k) = nI (sd_o P k) := p1.trans hvi.1
  have ek := nI_clamp (n := k) (by omega)
  have en := nI_clamp (n := sd_num P k) (by omega)
  have ik : vp_in (nI k) 60 := vp_in_nI (by omega) (by decide)
  have ip : vp_in (nI (sd_num P k)) 24 := vp_in_nI hgs (by decide)
  have k117 : wY_note_117 post (nI (sd_num P k)) (nI (sd_o P k)) (nI k) (sd_cn 8 (sd_sc P k)) (nI k) f_size f_stackSize f_fetchTime f_bankTime f_fetched (nI k) a_op a_d a_a a_b a_register a_word a_many a_latency (upd a_number k (nI (sd_num P k))) (upd a_kind k (nI (sd_kd P k))) (upd a_target k (sd_cn 8 (sd_tg P k))) (upd a_first k (sd_cn 8 (sd_fs P k))) a_second a_bankOf a_issue a_read a_access a_ready a_write a_unit a_packs a_lost := by
    unfold wY_note_117
    have k135 : (sd_o P k = 6 ∨ sd_o P k = 7) → wY_note_135 post (nI (sd_num P k)) (nI k) f_size f_stackSize f_fetchTime f_bankTime f_fetched (nI k) a_op a_d a_a a_b a_register a_word a_many a_latency (upd a_number k (nI (sd_num P k))) (upd a_kind k (nI (sd_kd P k))) (upd a_target k (sd_cn 8 (sd_tg P k))) (upd a_first k (sd_cn 8 (sd_fs P k))) (upd a_second k (sd_cn 8 (sd_sc P k))) a_bankOf a_issue a_read a_access a_ready a_write a_unit a_packs a_lost := by
      intro h67
      obtain ⟨a8, ea⟩ := hvi.2.2.2.1 (by unfold sd_o at h67; omega) (by unfold sd_o at h67; omega)
      unfold wY_note_135
      rw [en, p3, p4, ea, nI_clamp (n := sd_ga P (sd_num P k)) (by omega), ek]
      refine ⟨ip, vp_in_nI a8 (by decide), ip, ik, nm_e (K _ _ _ _ _ _ (yn_ext N (fun j hj => pk_un hj) (fun _ => ?_)))⟩
      rw [pk_us]
      have efs : sd_fs P k = sd_ga P (sd_num P k) := if_pos ⟨by unfold sd_o at h67; omega, by unfold sd_o at h67; omega⟩
      have exs : sd_xs P k = a_register (sd_ga P (sd_num P k)) := by
        rw [hR, ← efs]; exact if_pos (by omega)
      obtain ⟨w, b, hw, hb4, ew, ewc, eb, ebc⟩ := xa_mask (sd_xs P k + sd_gB P (sd_num P k))
      obtain ⟨b', hb', eb'⟩ := pk_andE (sd_xs P k + sd_gB P (sd_num P k)) (m := 3) 2 (by decide)
      have ebk : sd_bk P k = b' := by
        unfold sd_bk; rw [eb']; exact nI_clamp (by omega)
      rw [ebk, ← eb', exs]; rfl
    rw [ek]
    refine ⟨ik, nm_e ?_⟩
    by_cases z6 : sd_o P k = 6
    · exact br_t (by rw [z6]; rfl) (k135 (Or.inl z6))
    refine br_f (fun z => z6 ((nI_eq (b := 6) (by omega) (by decide)).mp z)) ?_
    by_cases z7 : sd_o P k = 7
    · exact br_t (by rw [z7]; rfl) (k135 (Or.inr z7))
    refine br_f (fun z => z7 ((nI_eq (b := 7) (by omega) (by decide)).mp z)) ⟨ik, nm_e (K _ _ _ _ _ _ (yn_ext N (fun j hj => pk_un hj) (fun h4 => ?_)))⟩
    have := ls_kd4.mp h4
    omega
  have k101 : ¬ (0 < sd_o P k ∧ sd_o P k < 6) → wY_note_101 post (nI (sd_num P k)) (nI (sd_o P k)) (nI k) (nI k) f_size f_stackSize f_fetchTime f_bankTime f_fetched (nI k) a_op a_d a_a a_b a_register a_word a_many a_latency (upd a_number k (nI (sd_num P k))) (upd a_kind k (nI (sd_kd P k))) (upd a_target k (sd_cn 8 (sd_tg P k))) (upd a_first k (sd_cn 8 (sd_fs P k))) a_second a_bankOf a_issue a_read a_access a_ready a_write a_unit a_packs a_lost := by
    intro hno
    unfold wY_note_101
    by_cases z7 : sd_o P k = 7
    · obtain ⟨d8, ed⟩ := hvi.2.2.1 (by unfold sd_o at z7; omega)
      have esc : sd_sc P k = sd_gd P (sd_num P k) := (if_neg hno).trans (if_pos z7)
      rw [esc, sd_cn_lt d8, ← ed, ← p2] at k117
      refine br_t (by rw [z7]; rfl) ⟨ip, ?_⟩
      rw [en]; exact k117
    · have esc : sd_sc P k = 8 := (if_neg hno).trans (if_neg z7)
      rw [esc, sd_cn_ge (Nat.le_refl _)] at k117
      exact br_f (fun z => z7 ((nI_eq (b := 7) (by omega) (by decide)).mp z)) k117
  have k76 : wY_note_76 post (nI (sd_num P k)) (nI (sd_o P k)) (nI k) (sd_cn 8 (sd_fs P k)) (nI k) f_size f_stackSize f_fetchTime f_bankTime f_fetched (nI k) a_op a_d a_a a_b a_register a_word a_many a_latency (upd a_number k (nI (sd_num P k))) (upd a_kind k (nI (sd_kd P k))) (upd a_target k (sd_cn 8 (sd_tg P k))) a_first a_second a_bankOf a_issue a_read a_access a_ready a_write a_unit a_packs a_lost := by
    unfold wY_note_76
    rw [ek]
    refine ⟨ik, nm_e ?_⟩
    by_cases h0 : sd_o P k = 0
    · exact br_t (by rw [h0]; decide) (k101 (by omega))
    refine br_f (nI_nle (by omega) (by omega)) ?_
    by_cases h6 : 6 ≤ sd_o P k
    · exact br_t (nI_le (a := 6) h6 (by omega)) (k101 (by omega))
    obtain ⟨b8, eb⟩ := hvi.2.2.2.2.1 (by unfold sd_o at h0; omega) (by unfold sd_o at h6; omega)
    have esc : sd_sc P k = sd_gb P (sd_num P k) := if_pos ⟨by unfold sd_o at h0; omega, by unfold sd_o at h6; omega⟩
    rw [esc, sd_cn_lt b8, ← eb, ← p4] at k117
    refine br_f (nI_ge (b := 6) (by omega) (by decide)) ⟨ip, ?_⟩
    rw [en]; exact k117
  have k50 : wY_note_50 post (nI (sd_num P k)) (nI (sd_o P k)) (nI k) (sd_cn 8 (sd_tg P k)) (nI k) f_size f_stackSize f_fetchTime f_bankTime f_fetched (nI k) a_op a_d a_a a_b a_register a_word a_many a_latency (upd a_number k (nI (sd_num P k))) (upd a_kind k (nI (sd_kd P k))) a_target a_first a_second a_bankOf a_issue a_read a_access a_ready a_write a_unit a_packs a_lost := by
    have k75 : ¬ (0 < sd_o P k ∧ sd_o P k < 9) → wY_note_75 post (nI (sd_num P k)) (nI (sd_o P k)) (nI k) (nI k) f_size f_stackSize f_fetchTime f_bankTime f_fetched (nI k) a_op a_d a_a a_b a_register a_word a_many a_latency (upd a_number k (nI (sd_num P k))) (upd a_kind k (nI (sd_kd P k))) (upd a_target k (sd_cn 8 (sd_tg P k))) a_first a_second a_bankOf a_issue a_read a_access a_ready a_write a_unit a_packs a_lost := by
      intro hno
      unfold wY_note_75
      rw [show sd_fs P k = 8 from if_neg hno, sd_cn_ge (Nat.le_refl _)] at k76
      exact k76
    unfold wY_note_50
    rw [ek]
    refine ⟨ik, nm_e ?_⟩
    by_cases h0 : sd_o P k = 0
    · exact br_t (by rw [h0]; decide) (k75 (by omega))
    refine br_f (nI_nle (by omega) (by omega)) ?_
    by_cases h9 : 9 ≤ sd_o P k
    · exact br_t (nI_le (a := 9) h9 (by omega)) (k75 (by omega))
    obtain ⟨a8, ea⟩ := hvi.2.2.2.1 (by unfold sd_o at h0; omega) (by unfold sd_o at h9; omega)
    have efs : sd_fs P k = sd_ga P (sd_num P k) := if_pos ⟨by unfold sd_o at h0; omega, by unfold sd_o at h9; omega⟩
    rw [efs, sd_cn_lt a8, ← ea, ← p3] at k76
    refine br_f (nI_ge (b := 9) (by omega) (by decide)) ⟨ip, ?_⟩
    rw [en]; exact k76
  unfold wpY_note
  dsimp only
  rw [en, hop, ek]
  refine ⟨ip, nm_e ⟨ik, nm_e (yk_kind (by omega) ⟨ik, nm_e ?_⟩)⟩⟩
  by_cases h7 : 7 ≤ sd_o P k
  · rw [ls_tg8 h7, sd_cn_ge (Nat.le_refl _)] at k50
    exact br_t (nI_le (a := 7) h7 (by omega)) k50
  · obtain ⟨d8, ed⟩ := hvi.2.2.1 (by unfold sd_o at h7; omega)
    have etg : sd_tg P k = sd_gd P (sd_num P k) := if_pos (by unfold sd_o at h7; omega)
    rw [etg, sd_cn_lt d8, ← ed, ← p2] at k50
    exact br_f (nI_ge (b := 7) (by omega) (by decide)) ⟨ip, k50⟩
end
section
variable {P : sd_Pg} {D k : Nat} {post : Int32 → SY → Prop}
variable {f_size f_stackSize f_fetchTime f_bankTime f_fetched f_done : Int32}
variable {a_op a_d a_a a_b a_register a_word a_many a_latency a_number a_kind a_target a_first a_second a_bankOf a_issue a_read a_access a_ready a_write a_unit a_packs a_lost : Nat → Int32}
theorem yc_59 {x y : Int32} (H : sd_OK P D) (hk : k < D) (hP : ys_P P a_op a_d a_a a_b)
    (hx : 0 < sd_o P k → sd_o P k < 9 → x = sd_xs P k) (hy : 0 < sd_o P k → sd_o P k < 6 → y = sd_ys P k)
    (K : post (nI (sd_num P (k + 1))) (f_size, f_stackSize, f_fetchTime, f_bankTime, f_fetched, f_done, a_op, a_d, a_a, a_b, sd_RG P (k + 1), sd_WD P (k + 1), a_many, a_latency, a_number, a_kind, a_target, a_first, a_second, a_bankOf, a_issue, a_read, a_access, a_ready, a_write, a_unit, a_packs, a_lost)) :
    wY_carryOut_59 post (nI (sd_num P k)) x y f_size f_stackSize f_fetchTime f_bankTime f_fetched f_done a_op a_d a_a a_b (sd_RG P k) (sd_WD P k) a_many a_latency a_number a_kind a_target a_first a_second a_bankOf a_issue a_read a_access a_ready a_write a_unit a_packs a_lost := by
  have V := H.1
  have L := H.2.2 k hk
  have h24 := V.1
  have hgs : sd_num P k < 24 := by have := L.1; omega
  have ho := ls_o V L
  have hvi := ls_vi V L.1
  obtain ⟨p1, p2, p3, p4⟩ := hP _ L.1
  have hop : a_op (sd_num P k) = nI (sd_o P k) := p1.trans hvi.1
  have en := nI_clamp (n := sd_num P k) (by omega)
  have ip : vp_in (nI (sd_num P k)) 24 := vp_in_nI hgs (by decide)
  have eB : a_b (sd_num P k) = sd_gB P (sd_num P k) := p4
  have eA : a_a (sd_num P k) = sd_gA P (sd_num P k) := p3
  have ns := sd_numS P k
  have rs := sd_RGS P k
  have ws := sd_WDS P k
  unfold wY_carryOut_59
  rw [en, hop, eA, eB]
  refine ⟨ip, nm_e ⟨ip, nm_e ⟨ip, nm_e (br_f (nI_pos (by omega)) ?_)⟩⟩⟩
  by_cases h9 : sd_o P k = 9
  · obtain ⟨b24, eb⟩ := hvi.2.2.2.2.2 (by unfold sd_o at h9; omega)
    rw [if_pos (Or.inl h9)] at ns
    rw [ls_tg8 (by omega), if_neg (by omega)] at rs
    rw [if_neg (by omega)] at ws
    refine br_t (nI_lt (a := 8) (by omega) (by omega)) ⟨ip, ?_⟩
    rw [ns, rs, ws, ← eb] at K
    exact K
  refine br_f (nI_nlt (a := 8) (by omega) (by decide)) ?_
  by_cases h8 : sd_o P k = 8
  · obtain ⟨b24, eb⟩ := hvi.2.2.2.2.2 (by unfold sd_o at h8; omega)
    have ex := hx (by omega) (by omega)
    rw [ls_tg8 (by omega), if_neg (by omega)] at rs
    rw [if_neg (by omega)] at ws
    rw [h8, ex]
    refine br_f (by decide) (br_f (by decide) (br_f (by decide) (br_f (by decide) (br_f (by decide) (br_f (by decide) (br_f (by decide) (br_f (by decide) (br_t rfl ?_))))))))
    by_cases zx : sd_xs P k = 0
    · rw [if_pos (Or.inr ⟨h8, zx⟩)] at ns
      rw [ns, rs, ws, ← eb] at K
      exact br_t zx ⟨ip, K⟩
    · rw [if_neg (fun z => by rcases z with z | z; exact h9 z; exact zx z.2)] at ns
      rw [ns, rs, ws] at K
      refine br_f zx ?_
      rw [nI_1]; exact K
  have hns : sd_num P (k + 1) = sd_num P k + 1 := by rw [ns, if_neg (by omega)]
  obtain ⟨d8, ed⟩ := hvi.2.2.1 (by unfold sd_o at h8 h9 ho; omega)
  have eD : a_d (sd_num P k) = nI (sd_gd P (sd_num P k)) := p2.trans ed
  have id8 : vp_in (nI (sd_gd P (sd_num P k))) 8 := vp_in_nI d8 (by decide)
  have edc := nI_clamp (n := sd_gd P (sd_num P k)) (by omega)
  rw [hns] at K
  rw [eD, edc, nI_1]
  by_cases h7 : sd_o P k = 7
  · have ex := hx (by omega) (by omega)
    have esc : sd_sc P k = sd_gd P (sd_num P k) := (if_neg (by unfold sd_o at h7; omega)).trans (if_pos h7)
    have eys : sd_ys P k = sd_RG P k (sd_gd P (sd_num P k)) := by rw [← esc]; exact if_pos (by omega)
    rw [ls_tg8 (by omega), if_neg (by omega)] at rs
    rw [if_pos h7] at ws
    obtain ⟨w, b, hw, hb4, ew, ewc, eb, ebc⟩ := xa_mask (sd_xs P k + sd_gB P (sd_num P k))
    have eww : sd_ww P k = w := ewc
    rw [rs, ws, eww, eys] at K
    rw [h7, ex, ew, nI_clamp (n := w) (by omega)]
    exact br_f (by decide) (br_f (by decide) (br_f (by decide) (br_f (by decide) (br_f (by decide) (br_f (by decide) (br_f (by decide) (br_t rfl ⟨id8, vp_in_nI hw (by decide), nm_e K⟩)))))))
  have etg : sd_tg P k = sd_gd P (sd_num P k) := if_pos (by unfold sd_o at h7 h8 h9 ho; omega)
  rw [if_pos (by omega), etg] at rs
  rw [if_neg h7] at ws
  rw [rs, ws] at K
  by_cases h6 : sd_o P k = 6
  · have ex := hx (by omega) (by omega)
    obtain ⟨w, b, hw, hb4, ew, ewc, eb, ebc⟩ := xa_mask (sd_xs P k + sd_gB P (sd_num P k))
    have eww : sd_ww P k = w := ewc
    have evv : sd_vv P k = sd_WD P k w := by
      unfold sd_vv sd_yv
      rw [h6, if_pos rfl, eww]; rfl
    rw [evv] at K
    rw [h6, ex, ew, nI_clamp (n := w) (by omega)]
    exact br_f (by decide) (br_f (by decide) (br_f (by decide) (br_f (by decide) (br_f (by decide) (br_f (by decide) (br_t rfl ⟨vp_in_nI hw (by decide), id8, nm_e K⟩))))))
  have eyv : sd_yv P k = sd_ys P k := xx_yvs h6
  have evv : sd_vv P k = sd_rs (sd_o P k) (sd_gA P (sd_num P k)) (sd_xs P k) (sd_ys P k) := by unfold sd_vv; rw [eyv]
  rw [evv] at K
  by_cases h0 : sd_o P k = 0
  · rw [h0] at K ⊢
    exact br_t rfl ⟨ip, id8, nm_e K⟩
  have ex := hx (by omega) (by omega)
  have ey := hy (by omega) (by omega)
  rw [ex, ey]
  have h5 : sd_o P k = 1 ∨ sd_o P k = 2 ∨ sd_o P k = 3 ∨ sd_o P k = 4 ∨ sd_o P k = 5 := by omega
  rcases h5 with h | h | h | h | h
  · rw [h] at K ⊢
    exact br_f (by decide) (br_t rfl ⟨id8, nm_e K⟩)
  · rw [h] at K ⊢
    exact br_f (by decide) (br_f (by decide) (br_t rfl ⟨id8, nm_e K⟩))
  · rw [h] at K ⊢
    refine br_f (by decide) (br_f (by decide) (br_f (by decide) (br_t rfl (br_c (fun z => ⟨id8, nm_e ?_⟩) (fun z => ⟨id8, nm_e ?_⟩)))))
    · rw [show sd_rs 3 (sd_gA P (sd_num P k)) (sd_xs P k) (sd_ys P k) = 0 from if_pos z] at K; exact K
    · rw [show sd_rs 3 (sd_gA P (sd_num P k)) (sd_xs P k) (sd_ys P k) = 1 from if_neg z] at K; exact K
  · rw [h] at K ⊢
    exact br_f (by decide) (br_f (by decide) (br_f (by decide) (br_f (by decide) (br_t rfl ⟨id8, nm_e K⟩))))
  · rw [h] at K ⊢
    refine br_f (by decide) (br_f (by decide) (br_f (by decide) (br_f (by decide) (br_f (by decide) (br_t rfl (br_c (fun z => ⟨id8, nm_e ?_⟩) (fun z => ⟨z, id8, nm_e ?_⟩)))))))
    · rw [show sd_rs 5 (sd_gA P (sd_num P k)) (sd_xs P k) (sd_ys P k) = 0 from if_pos z] at K; exact K
    · rw [show sd_rs 5 (sd_gA P (sd_num P k)) (sd_xs P k) (sd_ys P k) = sd_xs P k / sd_ys P k from if_neg z] at K; exact K
theorem yc_carry (H : sd_OK P D) (hk : k < D) (hP : ys_P P a_op a_d a_a a_b)
    (K : post (nI (sd_num P (k + 1))) (f_size, f_stackSize, f_fetchTime, f_bankTime, f_fetched, f_done, a_op, a_d, a_a, a_b, sd_RG P (k + 1), sd_WD P (k + 1), a_many, a_latency, a_number, a_kind, a_target, a_first, a_second, a_bankOf, a_issue, a_read, a_access, a_ready, a_write, a_unit, a_packs, a_lost)) :
    wpY_carryOut post (f_size, f_stackSize, f_fetchTime, f_bankTime, f_fetched, f_done, a_op, a_d, a_a, a_b, sd_RG P k, sd_WD P k, a_many, a_latency, a_number, a_kind, a_target, a_first, a_second, a_bankOf, a_issue, a_read, a_access, a_ready, a_write, a_unit, a_packs, a_lost) (nI (sd_num P k)) := by
  have V := H.1
  have L := H.2.2 k hk
  have h24 := V.1
  have hgs : sd_num P k < 24 := by have := L.1; omega
  have hvi := ls_vi V L.1
  obtain ⟨p1, p2, p3, p4⟩ := hP _ L.1
  have en := nI_clamp (n := sd_num P k) (by omega)
  have ip : vp_in (nI (sd_num P k)) 24 := vp_in_nI hgs (by decide)
  have k29 : ∀ x : Int32, (0 < sd_o P k → sd_o P k < 9 → x = sd_xs P k) → wY_carryOut_29 post (nI (sd_num P k)) x f_size f_stackSize f_fetchTime f_bankTime f_fetched f_done a_op a_d a_a a_b (sd_RG P k) (sd_WD P k) a_many a_latency a_number a_kind a_target a_first a_second a_bankOf a_issue a_read a_access a_ready a_write a_unit a_packs a_lost := by
    intro x hx
    unfold wY_carryOut_29
    rw [en]
    refine ⟨ip, yi_in (n := 8) (by decide) rfl ?_ ?_⟩
    · intro j hj e
      refine br_f sh_10 ⟨ip, ?_⟩
      rw [e, nI_clamp (n := j) (by omega)]
      refine ⟨vp_in_nI hj (by decide), yc_59 H hk hP hx (fun h1 h2 => ?_) K⟩
      obtain ⟨b8, eb⟩ := hvi.2.2.2.2.1 (by unfold sd_o at h1; omega) (by unfold sd_o at h2; omega)
      have esc : sd_sc P k = sd_gb P (sd_num P k) := if_pos ⟨by unfold sd_o at h1; omega, by unfold sd_o at h2; omega⟩
      have ej : j = sd_gb P (sd_num P k) := (nI_eq (by omega) (by omega)).mp (by rw [← e, p4, eb])
      rw [ej, ← esc]; exact (if_pos (by omega)).symm
    · intro hno
      refine br_t rfl (yc_59 H hk hP hx (fun h1 h2 => ?_) K)
      obtain ⟨b8, eb⟩ := hvi.2.2.2.2.1 (by unfold sd_o at h1; omega) (by unfold sd_o at h2; omega)
      exact absurd ⟨_, b8, by rw [p4, eb]⟩ hno
  unfold wpY_carryOut
  dsimp only
  rw [en]
  refine ⟨ip, yi_in (n := 8) (by decide) rfl ?_ ?_⟩
  · intro j hj e
    refine br_f sh_10 ⟨ip, ?_⟩
    rw [e, nI_clamp (n := j) (by omega)]
    refine ⟨vp_in_nI hj (by decide), k29 _ (fun h1 h2 => ?_)⟩
    obtain ⟨a8, ea⟩ := hvi.2.2.2.1 (by unfold sd_o at h1; omega) (by unfold sd_o at h2; omega)
    have efs : sd_fs P k = sd_ga P (sd_num P k) := if_pos ⟨by unfold sd_o at h1; omega, by unfold sd_o at h2; omega⟩
    have ej : j = sd_ga P (sd_num P k) := (nI_eq (by omega) (by omega)).mp (by rw [← e, p3, ea])
    rw [ej, ← efs]; exact (if_pos (by omega)).symm
  · intro hno
    refine br_t rfl (k29 _ (fun h1 h2 => ?_))
    obtain ⟨a8, ea⟩ := hvi.2.2.2.1 (by unfold sd_o at h1; omega) (by unfold sd_o at h2; omega)
    exact absurd ⟨_, a8, by rw [p3, ea]⟩ hno
end
section
variable {P : sd_Pg} {D : Nat} {out : Int32} {post : Int32 → SY → Prop}
variable {f_size f_stackSize f_fetchTime f_bankTime : Int32} {a_op a_d a_a a_b a_many a_latency : Nat → Int32}
theorem yr_run33 (H : sd_OK P D) (hl : f_size = nI (sd_gs P)) (hb : f_bankTime = nI (sd_gt P)) (hs : f_stackSize = nI (sd_gS P)) (hf : f_fetchTime = nI (sd_gf P)) (hS : ys_ST P a_many a_latency) (hP : ys_P P a_op a_d a_a a_b) (hO : xf_OUT P D out)
    (K : ∀ f_fetched a_number a_kind a_target a_first a_second a_bankOf a_issue a_read a_access a_ready a_write a_unit a_packs a_lost, ys_NT P D a_number a_kind a_target a_first a_second a_bankOf → ys_R P D f_fetched a_issue a_read a_access a_ready a_write a_unit a_packs a_lost → post out (f_size, f_stackSize, f_fetchTime, f_bankTime, f_fetched, nI D, a_op, a_d, a_a, a_b, sd_RG P D, sd_WD P D, a_many, a_latency, a_number, a_kind, a_target, a_first, a_second, a_bankOf, a_issue, a_read, a_access, a_ready, a_write, a_unit, a_packs, a_lost)) :
    ∀ n k (f_fetched : Int32) (a_number a_kind a_target a_first a_second a_bankOf a_issue a_read a_access a_ready a_write a_unit a_packs a_lost : Nat → Int32), k ≤ D → D < n + k → ys_NT P k a_number a_kind a_target a_first a_second a_bankOf → ys_R P k f_fetched a_issue a_read a_access a_ready a_write a_unit a_packs a_lost →
      wY_run_33 post n (nI (sd_num P k)) f_size f_stackSize f_fetchTime f_bankTime f_fetched (nI k) a_op a_d a_a a_b (sd_RG P k) (sd_WD P k) a_many a_latency a_number a_kind a_target a_first a_second a_bankOf a_issue a_read a_access a_ready a_write a_unit a_packs a_lost := by
  have V := H.1
  have hD := H.2.1
  have h24 := V.1
  intro n
  induction n with
  | zero => intro k; intros; omega
  | succ n ih =>
    intro k f_fetched a_number a_kind a_target a_first a_second a_bankOf a_issue a_read a_access a_ready a_write a_unit a_packs a_lost hk hn N R
    have hnum := ls_num H hk
    have en := nI_clamp (n := sd_num P k) (by omega)
    rw [wY_run_33]
    dsimp only
    rw [en]
    refine yi_in (n := sd_gs P) (by omega) hl ?_ ?_
    · intro j hj e
      have ej : sd_num P k = j := (nI_eq (by omega) (by omega)).mp e
      have hlt : sd_num P k < sd_gs P := by omega
      have hvi := ls_vi V hlt
      have hop : a_op (sd_num P k) = nI (sd_o P k) := (hP _ hlt).1.trans hvi.1
      have ho : sd_o P k ≤ 10 := hvi.2.1
      rw [hop]
      refine br_f sh_10 ⟨vp_in_nI (by omega) (by decide), ?_⟩
      by_cases z10 : sd_o P k = 10
      · refine br_t (by rw [z10]; rfl) ?_
        have hkD : k = D := by
          rcases Nat.lt_or_ge k D with z | z
          · exact absurd z10 (H.2.2 k z).2
          · omega
        subst hkD
        rcases hO with ⟨_, o2, _⟩ | ⟨_, o3⟩
        · exact absurd z10 o2.2
        · rw [o3] at K; exact K _ _ _ _ _ _ _ _ _ _ _ _ _ _ _ N R
      refine br_f (fun z => z10 ((nI_eq (b := 10) (by omega) (by decide)).mp z)) ?_
      by_cases hkD : k = D
      · subst hkD
        rcases hO with ⟨o1, o2, o3⟩ | ⟨o1, _⟩
        · refine br_t (by rw [o1]; rfl) ?_
          rw [o3] at K; exact K _ _ _ _ _ _ _ _ _ _ _ _ _ _ _ N R
        · exact absurd ⟨hlt, z10⟩ o1
      refine br_f (fun z => by have := (nI_eq (a := k) (b := 60) (by omega) (by decide)).mp z; omega) ?_
      refine yn_note H (by omega) hP rfl N ?_
      intro a_number a_kind a_target a_first a_second a_bankOf N'
      dsimp only
      refine yd_find H (by omega) hb hs hf hS N' R ?_
      intro f_fetched a_issue a_read a_access a_ready a_write a_unit a_packs a_lost R'
      dsimp only
      refine nm_r (nI_1 k) (yc_carry H (by omega) hP ?_)
      dsimp only
      exact ih (k + 1) _ _ _ _ _ _ _ _ _ _ _ _ _ _ _ (by omega) (by omega) N' R'
    · intro hno
      refine br_t rfl ?_
      have hkD : k = D := by
        rcases Nat.lt_or_ge k D with z | z
        · exact absurd ⟨_, (H.2.2 k z).1, rfl⟩ hno
        · omega
      subst hkD
      rcases hO with ⟨_, o2, _⟩ | ⟨_, o3⟩
      · exact absurd ⟨_, o2.1, rfl⟩ hno
      · rw [o3] at K; exact K _ _ _ _ _ _ _ _ _ _ _ _ _ _ _ N R
end
section
variable {P : sd_Pg} {D : Nat} {out : Int32} {post : Int32 → SY → Prop}
variable {f_size f_stackSize f_fetchTime f_bankTime f_fetched f_done : Int32}
variable {a_op a_d a_a a_b a_register a_word a_many a_latency a_number a_kind a_target a_first a_second a_bankOf a_issue a_read a_access a_ready a_write a_unit a_packs : Nat → Int32}
theorem yr_lost {x1 : Int32} (K : ∀ a_lost : Nat → Int32, (∀ u, u < 7 → a_lost u = 0) → ∃ n, wY_run_33 post n x1 f_size f_stackSize f_fetchTime f_bankTime f_fetched f_done a_op a_d a_a a_b a_register a_word a_many a_latency a_number a_kind a_target a_first a_second a_bankOf a_issue a_read a_access a_ready a_write a_unit a_packs a_lost) :
    ∀ n i (a_lost : Nat → Int32), i ≤ 7 → 7 < n + i → (∀ u, u < i → a_lost u = 0) → wY_run_14 post x1 f_size f_stackSize f_fetchTime f_bankTime f_fetched f_done n (nI i) a_op a_d a_a a_b a_register a_word a_many a_latency a_number a_kind a_target a_first a_second a_bankOf a_issue a_read a_access a_ready a_write a_unit a_packs a_lost := by
  intro n
  induction n with
  | zero => intro i; intros; omega
  | succ n ih =>
    intro i a_lost h1 h2 h3
    rw [wY_run_14]
    dsimp only
    by_cases hi : 7 ≤ i
    · have e : i = 7 := by omega
      subst e
      exact br_t (nI_le (a := 7) (b := 7) (by decide) (by decide)) (K _ h3)
    rw [nI_clamp (n := i) (by omega)]
    refine br_f (nI_ge (b := 7) (by omega) (by decide)) ⟨vp_in_nI (by omega) (by decide), nm_e (nm_r (nI_1 i) (ih (i + 1) _ (by omega) (by omega) ?_))⟩
    intro u hu
    by_cases e : u = i
    · subst e; exact pk_us
    · rw [pk_un e]; exact h3 u (by omega)
end
section
variable {P : sd_Pg} {D : Nat} {out : Int32} {post : Int32 → SY → Prop}
variable {f_size f_stackSize f_fetchTime f_bankTime f_fetched f_done : Int32}
variable {a_op a_d a_a a_b a_register a_word a_many a_latency a_number a_kind a_target a_first a_second a_bankOf a_issue a_read a_access a_ready a_write a_unit a_packs a_lost : Nat → Int32}
theorem yr_run (H : sd_OK P D) (hl : f_size = nI (sd_gs P)) (hb : f_bankTime = nI (sd_gt P)) (hs : f_stackSize = nI (sd_gS P)) (hf : f_fetchTime = nI (sd_gf P)) (hS : ys_ST P a_many a_latency) (hP : ys_P P a_op a_d a_a a_b) (hO : xf_OUT P D out)
    (hr : a_register = sd_gR P) (hw : a_word = sd_gM P)
    (K : ∀ f_fetched a_number a_kind a_target a_first a_second a_bankOf a_issue a_read a_access a_ready a_write a_unit a_packs a_lost, ys_NT P D a_number a_kind a_target a_first a_second a_bankOf → ys_R P D f_fetched a_issue a_read a_access a_ready a_write a_unit a_packs a_lost → post out (f_size, f_stackSize, f_fetchTime, f_bankTime, f_fetched, nI D, a_op, a_d, a_a, a_b, sd_RG P D, sd_WD P D, a_many, a_latency, a_number, a_kind, a_target, a_first, a_second, a_bankOf, a_issue, a_read, a_access, a_ready, a_write, a_unit, a_packs, a_lost)) :
    wpY_run post (f_size, f_stackSize, f_fetchTime, f_bankTime, f_fetched, f_done, a_op, a_d, a_a, a_b, a_register, a_word, a_many, a_latency, a_number, a_kind, a_target, a_first, a_second, a_bankOf, a_issue, a_read, a_access, a_ready, a_write, a_unit, a_packs, a_lost) := by
  refine ⟨8, yr_lost ?_ 8 0 a_lost (by decide) (by decide) (fun u hu => absurd hu (Nat.not_lt_zero _))⟩
  intro a_lost g
  rw [hr, hw]
  refine ⟨D + 1, yr_run33 H hl hb hs hf hS hP hO K (D + 1) 0 0 _ _ _ _ _ _ _ _ _ _ _ _ _ _ (Nat.zero_le _) (by omega) (fun j hj => absurd hj (Nat.not_lt_zero _)) ⟨rfl, fun j hj => absurd hj (Nat.not_lt_zero _), fun j hj => absurd hj (Nat.not_lt_zero _), ?_⟩⟩
  exact ⟨g 0 (by decide), g 1 (by decide), g 2 (by decide), g 3 (by decide), g 4 (by decide), g 5 (by decide), g 6 (by decide)⟩
end
end
section
/-! the relation -/
/-- the same program -/
def sr_P (f_length : Int32) (a_op a_into a_left a_right : Nat → Int32) (y_f_size : Int32) (y_a_op y_a_d y_a_a y_a_b : Nat → Int32) : Prop := ∃ L : Nat, L ≤ 24 ∧ f_length = nI L ∧ y_f_size = nI L ∧ ∀ i, i < L → sd_VI (y_a_op i) (y_a_d i) (y_a_a i) (y_a_b i) ∧ a_op i = y_a_op i ∧ ((y_a_op i).toNatClampNeg < 8 → a_into i = y_a_d i) ∧ a_left i = y_a_a i ∧ a_right i = y_a_b i
/-- the same machine -/
def sr_C (f_bankTime f_size f_fetchTime : Int32) (a_many a_latency : Nat → Int32) (y_f_bankTime y_f_stackSize y_f_fetchTime : Int32) (y_a_many y_a_latency : Nat → Int32) : Prop := (∃ q : Nat, 1 ≤ q ∧ q ≤ 8 ∧ f_bankTime = nI q ∧ y_f_bankTime = nI q) ∧ (∃ q : Nat, 1 ≤ q ∧ q ≤ 4 ∧ f_size = nI q ∧ y_f_stackSize = nI q) ∧ (∃ q : Nat, q ≤ 6 ∧ f_fetchTime = nI q ∧ y_f_fetchTime = nI q) ∧ ∀ k, k < 6 → (∃ q : Nat, 1 ≤ q ∧ q ≤ 3 ∧ a_many k = nI q ∧ y_a_many k = nI q) ∧ (∃ q : Nat, 1 ≤ q ∧ q ≤ 8 ∧ a_latency k = nI q ∧ y_a_latency k = nI q)
/-- the same tables of the last run -/
def sr_D (f_done f_cycles : Int32) (a_which a_kinds a_times a_unit a_lost : Nat → Int32) (y_f_done : Int32) (y_a_number y_a_kind y_a_issue y_a_read y_a_ready y_a_write y_a_unit y_a_lost : Nat → Int32) : Prop := (∃ D : Nat, D ≤ 60 ∧ f_done = nI D ∧ y_f_done = nI D ∧ (∀ k, k < D → a_which k = y_a_number k ∧ a_kinds k = y_a_kind k ∧ a_unit k = y_a_unit k ∧ a_times (4 * k) = y_a_issue k ∧ a_times (4 * k + 1) = y_a_read k ∧ a_times (4 * k + 2) = y_a_ready k ∧ a_times (4 * k + 3) = y_a_write k) ∧ ∃ (q : Nat) (w : Nat → Nat), f_cycles = nI q ∧ q ≤ 2000 ∧ (∀ k, k < D → y_a_write k = nI (w k) ∧ w k ≤ q) ∧ (q = 0 ∨ ∃ k, k < D ∧ w k = q)) ∧ ∀ j, j < 7 → a_lost j = y_a_lost j
def i_Rel (k : Nat) (u : SX) (v : SY) : Prop := match u, v with
  | (f_length, f_bankTime, f_size, f_fetchTime, f_atWork, f_pc, f_ready, f_branching, f_ended, f_outcome, f_cycle, f_accesses, f_memories, f_done, f_cycles, a_op, a_into, a_left, a_right, a_register, a_word, a_many, a_latency, a_work, a_place, a_first, a_second, a_awaitsFirst, a_awaitsSecond, a_x, a_y, a_hasRead, a_accessed, a_due, a_writer, a_bankFree, a_packs, a_turn, a_which, a_kinds, a_times, a_unit, a_lost), (y_f_size, y_f_stackSize, y_f_fetchTime, y_f_bankTime, y_f_fetched, y_f_done, y_a_op, y_a_d, y_a_a, y_a_b, y_a_register, y_a_word, y_a_many, y_a_latency, y_a_number, y_a_kind, y_a_target, y_a_first, y_a_second, y_a_bankOf, y_a_issue, y_a_read, y_a_access, y_a_ready, y_a_write, y_a_unit, y_a_packs, y_a_lost) => sr_P f_length a_op a_into a_left a_right y_f_size y_a_op y_a_d y_a_a y_a_b ∧ sr_C f_bankTime f_size f_fetchTime a_many a_latency y_f_bankTime y_f_stackSize y_f_fetchTime y_a_many y_a_latency ∧ (y_a_register = a_register ∧ y_a_word = a_word) ∧ sr_D f_done f_cycles a_which a_kinds a_times a_unit a_lost y_f_done y_a_number y_a_kind y_a_issue y_a_read y_a_ready y_a_write y_a_unit y_a_lost
theorem zz_el {Q : SX → SY → Prop} {k : Nat} (h : ∀ (f_length f_bankTime f_size f_fetchTime f_atWork f_pc f_ready f_branching f_ended f_outcome f_cycle f_accesses f_memories f_done f_cycles : Int32) (a_op a_into a_left a_right a_register a_word a_many a_latency a_work a_place a_first a_second a_awaitsFirst a_awaitsSecond a_x a_y a_hasRead a_accessed a_due a_writer a_bankFree a_packs a_turn a_which a_kinds a_times a_unit a_lost : Nat → Int32) (y_f_size y_f_stackSize y_f_fetchTime y_f_bankTime y_f_fetched y_f_done : Int32) (y_a_op y_a_d y_a_a y_a_b y_a_register y_a_word y_a_many y_a_latency y_a_number y_a_kind y_a_target y_a_first y_a_second y_a_bankOf y_a_issue y_a_read y_a_access y_a_ready y_a_write y_a_unit y_a_packs y_a_lost : Nat → Int32), sr_P f_length a_op a_into a_left a_right y_f_size y_a_op y_a_d y_a_a y_a_b → sr_C f_bankTime f_size f_fetchTime a_many a_latency y_f_bankTime y_f_stackSize y_f_fetchTime y_a_many y_a_latency → y_a_register = a_register → y_a_word = a_word → sr_D f_done f_cycles a_which a_kinds a_times a_unit a_lost y_f_done y_a_number y_a_kind y_a_issue y_a_read y_a_ready y_a_write y_a_unit y_a_lost → Q (f_length, f_bankTime, f_size, f_fetchTime, f_atWork, f_pc, f_ready, f_branching, f_ended, f_outcome, f_cycle, f_accesses, f_memories, f_done, f_cycles, a_op, a_into, a_left, a_right, a_register, a_word, a_many, a_latency, a_work, a_place, a_first, a_second, a_awaitsFirst, a_awaitsSecond, a_x, a_y, a_hasRead, a_accessed, a_due, a_writer, a_bankFree, a_packs, a_turn, a_which, a_kinds, a_times, a_unit, a_lost) (y_f_size, y_f_stackSize, y_f_fetchTime, y_f_bankTime, y_f_fetched, y_f_done, y_a_op, y_a_d, y_a_a, y_a_b, y_a_register, y_a_word, y_a_many, y_a_latency, y_a_number, y_a_kind, y_a_target, y_a_first, y_a_second, y_a_bankOf, y_a_issue, y_a_read, y_a_access, y_a_ready, y_a_write, y_a_unit, y_a_packs, y_a_lost)) :
    ∀ {u : SX} {v : SY}, i_Rel k u v → Q u v
  | (f_length, f_bankTime, f_size, f_fetchTime, f_atWork, f_pc, f_ready, f_branching, f_ended, f_outcome, f_cycle, f_accesses, f_memories, f_done, f_cycles, a_op, a_into, a_left, a_right, a_register, a_word, a_many, a_latency, a_work, a_place, a_first, a_second, a_awaitsFirst, a_awaitsSecond, a_x, a_y, a_hasRead, a_accessed, a_due, a_writer, a_bankFree, a_packs, a_turn, a_which, a_kinds, a_times, a_unit, a_lost), (y_f_size, y_f_stackSize, y_f_fetchTime, y_f_bankTime, y_f_fetched, y_f_done, y_a_op, y_a_d, y_a_a, y_a_b, y_a_register, y_a_word, y_a_many, y_a_latency, y_a_number, y_a_kind, y_a_target, y_a_first, y_a_second, y_a_bankOf, y_a_issue, y_a_read, y_a_access, y_a_ready, y_a_write, y_a_unit, y_a_packs, y_a_lost), I => h f_length f_bankTime f_size f_fetchTime f_atWork f_pc f_ready f_branching f_ended f_outcome f_cycle f_accesses f_memories f_done f_cycles a_op a_into a_left a_right a_register a_word a_many a_latency a_work a_place a_first a_second a_awaitsFirst a_awaitsSecond a_x a_y a_hasRead a_accessed a_due a_writer a_bankFree a_packs a_turn a_which a_kinds a_times a_unit a_lost y_f_size y_f_stackSize y_f_fetchTime y_f_bankTime y_f_fetched y_f_done y_a_op y_a_d y_a_a y_a_b y_a_register y_a_word y_a_many y_a_latency y_a_number y_a_kind y_a_target y_a_first y_a_second y_a_bankOf y_a_issue y_a_read y_a_access y_a_ready y_a_write y_a_unit y_a_packs y_a_lost I.1 I.2.1 I.2.2.1.1 I.2.2.1.2 I.2.2.2
theorem i_up {k : Nat} {u : SX} {v : SY} (h : i_Rel k u v) : i_Rel (k + 5) u v := h
theorem xn_no {post : Int32 → Prop} {v w : Int32} {n : Nat} (hn : n < 2 ^ 31) (hw : w = nI n) (K1 : ∀ j, j < n → v = nI j → post 0) (K0 : (¬ ∃ j, j < n ∧ v = nI j) → post 1) : wpX_no post v w := by
  subst hw
  unfold wpX_no
  rcases pk_ix v hn with z | z | ⟨j, hj, e⟩
  · refine br_t z (K0 (fun ⟨j, hj, e⟩ => ?_))
    rw [e] at z; exact nI_pos (by omega) z
  · have h0 : ¬ v < 0 := by
      intro h
      have h1 := nI_pos' (n := n) hn
      exact absurd (Int32.lt_of_le_of_lt (Int32.le_trans h1 z) h) (Int32.lt_irrefl)
    refine br_f h0 (br_f (fun h => absurd (Int32.lt_of_le_of_lt z h) (Int32.lt_irrefl)) (K0 (fun ⟨j, hj, e⟩ => ?_)))
    rw [e] at z; exact nI_ge hj hn z
  · have e2 := e
    rw [e]
    exact br_f (nI_pos (by omega)) (br_t (nI_lt hj hn) (K1 j hj e2))
end
section
/-! the simple methods -/
section
variable {post : Int32 → SX → Prop} {v1 v2 v3 v4 : Int32}
variable {f_length f_bankTime f_size f_fetchTime f_atWork f_pc f_ready f_branching f_ended f_outcome f_cycle f_accesses f_memories f_done f_cycles : Int32}
variable {a_op a_into a_left a_right a_register a_word a_many a_latency a_work a_place a_first a_second a_awaitsFirst a_awaitsSecond a_x a_y a_hasRead a_accessed a_due a_writer a_bankFree a_packs a_turn a_which a_kinds a_times a_unit a_lost : Nat → Int32}
theorem ae_inv {p : Nat} (hp : p < 11) (h : sd_VI (nI p) v2 v3 v4) : (p < 8 → ∃ q, q < 8 ∧ v2 = nI q) ∧ (0 < p → p < 9 → ∃ q, q < 8 ∧ v3 = nI q) ∧ (0 < p → p < 6 → ∃ q, q < 8 ∧ v4 = nI q) ∧ (p = 8 ∨ p = 9 → ∃ q, q < 24 ∧ v4 = nI q) := by
  obtain ⟨p', e, h1, h2⟩ := h
  have e2 : p = p' := (nI_eq (by omega) (by omega)).mp e
  subst e2; exact h2
theorem ae_x (Kb : ¬ sd_VI v1 v2 v3 v4 → post (-1) (f_length, f_bankTime, f_size, f_fetchTime, f_atWork, f_pc, f_ready, f_branching, f_ended, f_outcome, f_cycle, f_accesses, f_memories, f_done, f_cycles, a_op, a_into, a_left, a_right, a_register, a_word, a_many, a_latency, a_work, a_place, a_first, a_second, a_awaitsFirst, a_awaitsSecond, a_x, a_y, a_hasRead, a_accessed, a_due, a_writer, a_bankFree, a_packs, a_turn, a_which, a_kinds, a_times, a_unit, a_lost)) (Kf : sd_VI v1 v2 v3 v4 → wX_add_101 post v1 v2 v3 v4 f_length f_bankTime f_size f_fetchTime f_atWork f_pc f_ready f_branching f_ended f_outcome f_cycle f_accesses f_memories f_done f_cycles a_op a_into a_left a_right a_register a_word a_many a_latency a_work a_place a_first a_second a_awaitsFirst a_awaitsSecond a_x a_y a_hasRead a_accessed a_due a_writer a_bankFree a_packs a_turn a_which a_kinds a_times a_unit a_lost) : wpX_add post (f_length, f_bankTime, f_size, f_fetchTime, f_atWork, f_pc, f_ready, f_branching, f_ended, f_outcome, f_cycle, f_accesses, f_memories, f_done, f_cycles, a_op, a_into, a_left, a_right, a_register, a_word, a_many, a_latency, a_work, a_place, a_first, a_second, a_awaitsFirst, a_awaitsSecond, a_x, a_y, a_hasRead, a_accessed, a_due, a_writer, a_bankFree, a_packs, a_turn, a_which, a_kinds, a_times, a_unit, a_lost) v1 v2 v3 v4 := by
  unfold wpX_add
  dsimp only
  refine xn_no (n := 11) (by decide) rfl ?_ ?_
  · intro p hp e1
    subst e1
    have k77 : (p < 8 → ∃ q, q < 8 ∧ v2 = nI q) → (0 < p → p < 9 → ∃ q, q < 8 ∧ v3 = nI q) → (0 < p → p < 6 → ∃ q, q < 8 ∧ v4 = nI q) → wX_add_77 post (nI p) v2 v3 v4 f_length f_bankTime f_size f_fetchTime f_atWork f_pc f_ready f_branching f_ended f_outcome f_cycle f_accesses f_memories f_done f_cycles a_op a_into a_left a_right a_register a_word a_many a_latency a_work a_place a_first a_second a_awaitsFirst a_awaitsSecond a_x a_y a_hasRead a_accessed a_due a_writer a_bankFree a_packs a_turn a_which a_kinds a_times a_unit a_lost := by
      intro c1 c2 c3
      have k89 : (p = 8 ∨ p = 9) → wX_add_89 post (nI p) v2 v3 v4 f_length f_bankTime f_size f_fetchTime f_atWork f_pc f_ready f_branching f_ended f_outcome f_cycle f_accesses f_memories f_done f_cycles a_op a_into a_left a_right a_register a_word a_many a_latency a_work a_place a_first a_second a_awaitsFirst a_awaitsSecond a_x a_y a_hasRead a_accessed a_due a_writer a_bankFree a_packs a_turn a_which a_kinds a_times a_unit a_lost := by
        intro h89
        unfold wX_add_89
        refine xn_no (n := 24) (by decide) rfl (fun j hj e => br_t rfl (Kf ⟨p, rfl, by omega, c1, c2, c3, fun _ => ⟨j, hj, e⟩⟩)) (fun hno => br_f sh_10 (Kb (fun h => hno ((ae_inv hp h).2.2.2 h89))))
      unfold wX_add_77
      by_cases z8 : p = 8
      · exact br_t (by rw [z8]; rfl) (k89 (Or.inl z8))
      refine br_f (fun z => z8 ((nI_eq (b := 8) (by omega) (by decide)).mp z)) ?_
      by_cases z9 : p = 9
      · exact br_t (by rw [z9]; rfl) (k89 (Or.inr z9))
      exact br_f (fun z => z9 ((nI_eq (b := 9) (by omega) (by decide)).mp z)) (Kf ⟨p, rfl, by omega, c1, c2, c3, fun h => by omega⟩)
    have k57 : (p < 8 → ∃ q, q < 8 ∧ v2 = nI q) → (0 < p → p < 9 → ∃ q, q < 8 ∧ v3 = nI q) → wX_add_57 post (nI p) v2 v3 v4 f_length f_bankTime f_size f_fetchTime f_atWork f_pc f_ready f_branching f_ended f_outcome f_cycle f_accesses f_memories f_done f_cycles a_op a_into a_left a_right a_register a_word a_many a_latency a_work a_place a_first a_second a_awaitsFirst a_awaitsSecond a_x a_y a_hasRead a_accessed a_due a_writer a_bankFree a_packs a_turn a_which a_kinds a_times a_unit a_lost := by
      intro c1 c2
      unfold wX_add_57
      by_cases z0 : p = 0
      · exact br_t (by rw [z0]; decide) (k77 c1 c2 (fun h => by omega))
      refine br_f (nI_nle (by omega) (by omega)) ?_
      by_cases z6 : 6 ≤ p
      · exact br_t (nI_le (a := 6) z6 (by omega)) (k77 c1 c2 (fun _ h => by omega))
      exact br_f (nI_ge (b := 6) (by omega) (by decide)) (xn_no (n := 8) (by decide) rfl (fun j hj e => br_t rfl (k77 c1 c2 (fun _ _ => ⟨j, hj, e⟩))) (fun hno => br_f sh_10 (Kb (fun h => hno ((ae_inv hp h).2.2.1 (by omega) (by omega))))))
    have k26 : (p < 8 → ∃ q, q < 8 ∧ v2 = nI q) → wX_add_26 post (nI p) v2 v3 v4 f_length f_bankTime f_size f_fetchTime f_atWork f_pc f_ready f_branching f_ended f_outcome f_cycle f_accesses f_memories f_done f_cycles a_op a_into a_left a_right a_register a_word a_many a_latency a_work a_place a_first a_second a_awaitsFirst a_awaitsSecond a_x a_y a_hasRead a_accessed a_due a_writer a_bankFree a_packs a_turn a_which a_kinds a_times a_unit a_lost := by
      intro c1
      unfold wX_add_26
      have k40 : ¬ (0 < p ∧ p < 9) → wX_add_40 post (nI p) v2 v3 v4 f_length f_bankTime f_size f_fetchTime f_atWork f_pc f_ready f_branching f_ended f_outcome f_cycle f_accesses f_memories f_done f_cycles a_op a_into a_left a_right a_register a_word a_many a_latency a_work a_place a_first a_second a_awaitsFirst a_awaitsSecond a_x a_y a_hasRead a_accessed a_due a_writer a_bankFree a_packs a_turn a_which a_kinds a_times a_unit a_lost := by
        intro h
        unfold wX_add_40 wX_add_41
        exact br_t rfl (k57 c1 (fun h1 h2 => absurd ⟨h1, h2⟩ h))
      by_cases z0 : p = 0
      · exact br_t (by rw [z0]; decide) (k40 (by omega))
      refine br_f (nI_nle (by omega) (by omega)) ?_
      by_cases z9 : 9 ≤ p
      · exact br_t (nI_le (a := 9) z9 (by omega)) (k40 (by omega))
      refine br_f (nI_ge (b := 9) (by omega) (by decide)) ?_
      unfold wX_add_41
      exact br_f sh_10 (xn_no (n := 8) (by decide) rfl (fun j hj e => br_t rfl (k57 c1 (fun _ _ => ⟨j, hj, e⟩))) (fun hno => br_f sh_10 (Kb (fun h => hno ((ae_inv hp h).2.1 (by omega) (by omega))))))
    refine br_t rfl ?_
    by_cases z8 : 8 ≤ p
    · exact br_t (nI_le (a := 8) z8 (by omega)) (k26 (fun h => by omega))
    exact br_f (nI_ge (b := 8) (by omega) (by decide)) (xn_no (n := 8) (by decide) rfl (fun j hj e => br_t rfl (k26 (fun _ => ⟨j, hj, e⟩))) (fun hno => br_f sh_10 (Kb (fun h => hno ((ae_inv hp h).1 (by omega))))))
  · intro hno
    exact br_f sh_10 (Kb (fun ⟨p, e, hp, _⟩ => hno ⟨p, by omega, e⟩))
end
section
variable {post : Int32 → SY → Prop} {v1 v2 v3 v4 : Int32}
variable {f_size f_stackSize f_fetchTime f_bankTime f_fetched f_done : Int32}
variable {a_op a_d a_a a_b a_register a_word a_many a_latency a_number a_kind a_target a_first a_second a_bankOf a_issue a_read a_access a_ready a_write a_unit a_packs a_lost : Nat → Int32}
theorem ae_y (Kb : ¬ sd_VI v1 v2 v3 v4 → post (-1) (f_size, f_stackSize, f_fetchTime, f_bankTime, f_fetched, f_done, a_op, a_d, a_a, a_b, a_register, a_word, a_many, a_latency, a_number, a_kind, a_target, a_first, a_second, a_bankOf, a_issue, a_read, a_access, a_ready, a_write, a_unit, a_packs, a_lost)) (Kf : sd_VI v1 v2 v3 v4 → wY_add_101 post v1 v2 v3 v4 f_size f_stackSize f_fetchTime f_bankTime f_fetched f_done a_op a_d a_a a_b a_register a_word a_many a_latency a_number a_kind a_target a_first a_second a_bankOf a_issue a_read a_access a_ready a_write a_unit a_packs a_lost) : wpY_add post (f_size, f_stackSize, f_fetchTime, f_bankTime, f_fetched, f_done, a_op, a_d, a_a, a_b, a_register, a_word, a_many, a_latency, a_number, a_kind, a_target, a_first, a_second, a_bankOf, a_issue, a_read, a_access, a_ready, a_write, a_unit, a_packs, a_lost) v1 v2 v3 v4 := by
  unfold wpY_add
  dsimp only
  refine yi_in (n := 11) (by decide) rfl ?_ ?_
  · intro p hp e1
    subst e1
    have k77 : (p < 8 → ∃ q, q < 8 ∧ v2 = nI q) → (0 < p → p < 9 → ∃ q, q < 8 ∧ v3 = nI q) → (0 < p → p < 6 → ∃ q, q < 8 ∧ v4 = nI q) → wY_add_77 post (nI p) v2 v3 v4 f_size f_stackSize f_fetchTime f_bankTime f_fetched f_done a_op a_d a_a a_b a_register a_word a_many a_latency a_number a_kind a_target a_first a_second a_bankOf a_issue a_read a_access a_ready a_write a_unit a_packs a_lost := by
      intro c1 c2 c3
      have k89 : (p = 8 ∨ p = 9) → wY_add_89 post (nI p) v2 v3 v4 f_size f_stackSize f_fetchTime f_bankTime f_fetched f_done a_op a_d a_a a_b a_register a_word a_many a_latency a_number a_kind a_target a_first a_second a_bankOf a_issue a_read a_access a_ready a_write a_unit a_packs a_lost := by
        intro h89
        unfold wY_add_89
        refine yi_in (n := 24) (by decide) rfl (fun j hj e => br_f sh_10 (Kf ⟨p, rfl, by omega, c1, c2, c3, fun _ => ⟨j, hj, e⟩⟩)) (fun hno => br_t rfl (Kb (fun h => hno ((ae_inv hp h).2.2.2 h89))))
      unfold wY_add_77
      by_cases z8 : p = 8
      · exact br_t (by rw [z8]; rfl) (k89 (Or.inl z8))
      refine br_f (fun z => z8 ((nI_eq (b := 8) (by omega) (by decide)).mp z)) ?_
      by_cases z9 : p = 9
      · exact br_t (by rw [z9]; rfl) (k89 (Or.inr z9))
      exact br_f (fun z => z9 ((nI_eq (b := 9) (by omega) (by decide)).mp z)) (Kf ⟨p, rfl, by omega, c1, c2, c3, fun h => by omega⟩)
    have k62 : ∀ x5 : Int32, ((x5 = 1 ∧ 0 < p ∧ p < 6) ∨ (x5 = 0 ∧ ¬ (0 < p ∧ p < 6))) → (p < 8 → ∃ q, q < 8 ∧ v2 = nI q) → (0 < p → p < 9 → ∃ q, q < 8 ∧ v3 = nI q) → wY_add_62 post (nI p) v2 v3 v4 x5 f_size f_stackSize f_fetchTime f_bankTime f_fetched f_done a_op a_d a_a a_b a_register a_word a_many a_latency a_number a_kind a_target a_first a_second a_bankOf a_issue a_read a_access a_ready a_write a_unit a_packs a_lost := by
      intro x5 h5 c1 c2
      unfold wY_add_62
      rcases h5 with ⟨e, h⟩ | ⟨e, h⟩
      · rw [e]
        exact br_f sh_10 (yi_in (n := 8) (by decide) rfl (fun j hj e => br_f sh_10 (k77 c1 c2 (fun _ _ => ⟨j, hj, e⟩))) (fun hno => br_t rfl (Kb (fun h' => hno ((ae_inv hp h').2.2.1 (by omega) (by omega))))))
      · rw [e]
        exact br_t rfl (k77 c1 c2 (fun h1 h2 => absurd ⟨h1, h2⟩ h))
    have k43 : ∀ x5 : Int32, ((x5 = 1 ∧ 0 < p ∧ p < 6) ∨ (x5 = 0 ∧ ¬ (0 < p ∧ p < 6))) → (p < 8 → ∃ q, q < 8 ∧ v2 = nI q) → wY_add_43 post (nI p) v2 v3 v4 x5 f_size f_stackSize f_fetchTime f_bankTime f_fetched f_done a_op a_d a_a a_b a_register a_word a_many a_latency a_number a_kind a_target a_first a_second a_bankOf a_issue a_read a_access a_ready a_write a_unit a_packs a_lost := by
      intro x5 h5 c1
      unfold wY_add_43
      by_cases z0 : p = 0
      · exact br_t (by rw [z0]; decide) (k62 x5 h5 c1 (fun h => by omega))
      refine br_f (nI_nle (by omega) (by omega)) ?_
      by_cases z9 : 9 ≤ p
      · exact br_t (nI_le (a := 9) z9 (by omega)) (k62 x5 h5 c1 (fun _ h => by omega))
      exact br_f (nI_ge (b := 9) (by omega) (by decide)) (yi_in (n := 8) (by decide) rfl (fun j hj e => br_f sh_10 (k62 x5 h5 c1 (fun _ _ => ⟨j, hj, e⟩))) (fun hno => br_t rfl (Kb (fun h => hno ((ae_inv hp h).2.1 (by omega) (by omega))))))
    have k26 : ∀ x5 : Int32, ((x5 = 1 ∧ 0 < p ∧ p < 6) ∨ (x5 = 0 ∧ ¬ (0 < p ∧ p < 6))) → wY_add_26 post (nI p) v2 v3 v4 x5 f_size f_stackSize f_fetchTime f_bankTime f_fetched f_done a_op a_d a_a a_b a_register a_word a_many a_latency a_number a_kind a_target a_first a_second a_bankOf a_issue a_read a_access a_ready a_write a_unit a_packs a_lost := by
      intro x5 h5
      unfold wY_add_26
      by_cases z8 : 8 ≤ p
      · exact br_t (nI_le (a := 8) z8 (by omega)) (k43 x5 h5 (fun h => by omega))
      exact br_f (nI_ge (b := 8) (by omega) (by decide)) (yi_in (n := 8) (by decide) rfl (fun j hj e => br_f sh_10 (k43 x5 h5 (fun _ => ⟨j, hj, e⟩))) (fun hno => br_t rfl (Kb (fun h => hno ((ae_inv hp h).1 (by omega))))))
    refine br_f sh_10 ?_
    by_cases z0 : p = 0
    · exact br_t (by rw [z0]; decide) (k26 0 (Or.inr ⟨rfl, by omega⟩))
    refine br_f (nI_nle (by omega) (by omega)) ?_
    by_cases z6 : 6 ≤ p
    · exact br_t (nI_le (a := 6) z6 (by omega)) (k26 0 (Or.inr ⟨rfl, by omega⟩))
    exact br_f (nI_ge (b := 6) (by omega) (by decide)) (k26 1 (Or.inl ⟨rfl, by omega, by omega⟩))
  · intro hno
    exact br_t rfl (Kb (fun ⟨p, e, hp, _⟩ => hno ⟨p, by omega, e⟩))
end
set_option maxRecDepth 4000 in
theorem i_vc_add {k : Nat} {u : SX} {v : SY} (I : i_Rel k u v) (hk : k + 5 ≤ 2560) (v1 : Int32) (v2 : Int32) (v3 : Int32) (v4 : Int32) : wpX_add (fun r u' => wpY_add (fun r' v' => r' = r ∧ i_Rel (k + 5) u' v') v v1 v2 v3 v4) u v1 v2 v3 v4 := by
  refine zz_el (Q := fun u v => wpX_add (fun r u' => wpY_add (fun r' v' => r' = r ∧ i_Rel (k + 5) u' v') v v1 v2 v3 v4) u v1 v2 v3 v4) ?_ I
  intro f_length f_bankTime f_size f_fetchTime f_atWork f_pc f_ready f_branching f_ended f_outcome f_cycle f_accesses f_memories f_done f_cycles a_op a_into a_left a_right a_register a_word a_many a_latency a_work a_place a_first a_second a_awaitsFirst a_awaitsSecond a_x a_y a_hasRead a_accessed a_due a_writer a_bankFree a_packs a_turn a_which a_kinds a_times a_unit a_lost y_f_size y_f_stackSize y_f_fetchTime y_f_bankTime y_f_fetched y_f_done y_a_op y_a_d y_a_a y_a_b y_a_register y_a_word y_a_many y_a_latency y_a_number y_a_kind y_a_target y_a_first y_a_second y_a_bankOf y_a_issue y_a_read y_a_access y_a_ready y_a_write y_a_unit y_a_packs y_a_lost hP hC hr hw hD
  obtain ⟨L, hL, e1, e2, hI⟩ := hP
  subst e1 e2
  refine ae_x ?_ ?_
  · intro hn
    exact ae_y (fun _ => ⟨rfl, ⟨L, hL, rfl, rfl, hI⟩, hC, ⟨hr, hw⟩, hD⟩) (fun h => absurd h hn)
  intro hv
  unfold wX_add_101
  by_cases h24 : L = 24
  · refine br_t (by rw [h24]; rfl) (ae_y (fun h => absurd hv h) (fun _ => ?_))
    unfold wY_add_101
    exact br_t (by rw [h24]; rfl) ⟨rfl, ⟨L, hL, rfl, rfl, hI⟩, hC, ⟨hr, hw⟩, hD⟩
  have hne : ¬ nI L = 24 := fun z => h24 ((nI_eq (b := 24) (by omega) (by decide)).mp z)
  have hL1 : L + 1 ≤ 24 := by omega
  have il : vp_in (nI L) 24 := vp_in_nI (by omega) (by decide)
  have el := nI_clamp (n := L) (by omega)
  obtain ⟨p, ep, hp, g1, g2⟩ := hv
  have hv : sd_VI v1 v2 v3 v4 := ⟨p, ep, hp, g1, g2⟩
  refine br_f hne ⟨il, ?_⟩
  rw [el, show vp_nar .byte v1.toInt8.toInt32 = v1 from by rw [ep]; exact sh_b (by omega)]
  have go : ∀ z0 : Int32, (p < 8 → vp_nar .byte z0.toInt8.toInt32 = v2) → wX_add_143 (fun r u' => wpY_add (fun r' v' => r' = r ∧ i_Rel (k + 5) u' v') (nI L, y_f_stackSize, y_f_fetchTime, y_f_bankTime, y_f_fetched, y_f_done, y_a_op, y_a_d, y_a_a, y_a_b, y_a_register, y_a_word, y_a_many, y_a_latency, y_a_number, y_a_kind, y_a_target, y_a_first, y_a_second, y_a_bankOf, y_a_issue, y_a_read, y_a_access, y_a_ready, y_a_write, y_a_unit, y_a_packs, y_a_lost) v1 v2 v3 v4) v3 v4 z0 (nI L) (nI L) f_bankTime f_size f_fetchTime f_atWork f_pc f_ready f_branching f_ended f_outcome f_cycle f_accesses f_memories f_done f_cycles (upd a_op L v1) a_into a_left a_right a_register a_word a_many a_latency a_work a_place a_first a_second a_awaitsFirst a_awaitsSecond a_x a_y a_hasRead a_accessed a_due a_writer a_bankFree a_packs a_turn a_which a_kinds a_times a_unit a_lost := by
    intro z0 hz
    unfold wX_add_143
    rw [el]
    refine ⟨il, nm_e ⟨il, nm_e ⟨il, nm_e (nm_r (nI_1 L) (ae_y (fun h => absurd hv h) (fun _ => ?_)))⟩⟩⟩
    unfold wY_add_101
    rw [el]
    refine br_f hne ⟨il, nm_e ⟨il, nm_e ⟨il, nm_e ⟨il, nm_e (nm_r (nI_1 L) ⟨(nI_1 L).symm, ⟨L + 1, hL1, rfl, rfl, ?_⟩, hC, ⟨hr, hw⟩, hD⟩)⟩⟩⟩⟩
    intro i hi
    by_cases e : i = L
    · subst e
      rw [pk_us, pk_us, pk_us, pk_us, pk_us, pk_us, pk_us, pk_us]
      refine ⟨hv, rfl, fun h => hz ?_, rfl, rfl⟩
      rw [ep, nI_clamp (by omega)] at h
      exact h
    · rw [pk_un e, pk_un e, pk_un e, pk_un e, pk_un e, pk_un e, pk_un e, pk_un e]
      exact hI i (by omega)
  refine nm_e ?_
  by_cases z8 : 8 ≤ p
  · exact br_t (by rw [ep]; exact nI_le (a := 8) z8 (by omega)) (go 0 (fun h => by omega))
  · refine br_f (by rw [ep]; exact nI_ge (b := 8) (by omega) (by decide)) (go v2 (fun h => ?_))
    obtain ⟨q, hq, eq⟩ := g1 h
    rw [eq]; exact sh_b (by omega)
theorem i_vc_clear {k : Nat} {u : SX} {v : SY} (I : i_Rel k u v) (hk : k + 5 ≤ 2560) : wpX_clear (fun r u' => wpY_clear (fun r' v' => r' = r ∧ i_Rel (k + 5) u' v') v) u := by
  refine zz_el (Q := fun u v => wpX_clear (fun r u' => wpY_clear (fun r' v' => r' = r ∧ i_Rel (k + 5) u' v') v) u) ?_ I
  intro f_length f_bankTime f_size f_fetchTime f_atWork f_pc f_ready f_branching f_ended f_outcome f_cycle f_accesses f_memories f_done f_cycles a_op a_into a_left a_right a_register a_word a_many a_latency a_work a_place a_first a_second a_awaitsFirst a_awaitsSecond a_x a_y a_hasRead a_accessed a_due a_writer a_bankFree a_packs a_turn a_which a_kinds a_times a_unit a_lost y_f_size y_f_stackSize y_f_fetchTime y_f_bankTime y_f_fetched y_f_done y_a_op y_a_d y_a_a y_a_b y_a_register y_a_word y_a_many y_a_latency y_a_number y_a_kind y_a_target y_a_first y_a_second y_a_bankOf y_a_issue y_a_read y_a_access y_a_ready y_a_write y_a_unit y_a_packs y_a_lost hP hC hr hw hD
  obtain ⟨L, hL, e1, e2, hI⟩ := hP
  subst e1 e2
  exact ⟨rfl, ⟨0, by omega, rfl, rfl, fun i hi => absurd hi (Nat.not_lt_zero _)⟩, hC, ⟨hr, hw⟩, hD⟩
theorem ue_rng (v : Int32) {n : Nat} (hn : n < 100) : v < 1 ∨ nI n < v ∨ ∃ j, j < n ∧ v = nI (j + 1) := by
  rcases pk_ix v (n := n + 1) (by omega) with z | z | ⟨j, hj, e⟩
  · exact Or.inl (Int32.lt_of_lt_of_le z (by decide))
  · refine Or.inr (Or.inl (Int32.lt_of_lt_of_le (nI_lt (show n < n + 1 by omega) (by omega)) z))
  · by_cases h : j = 0
    · refine Or.inl ?_
      rw [e, h]; decide
    · exact Or.inr (Or.inr ⟨j - 1, by omega, by rw [e]; exact congrArg nI (by omega)⟩)
theorem ue_pm {v : Int32} {j : Nat} : v - 1 = nI j ↔ v = nI (j + 1) := by
  constructor
  · intro h
    rw [← nI_1, ← h, Int32.sub_add_cancel]
  · intro h; rw [h, nI_pred]
theorem i_vc_units {k : Nat} {u : SX} {v : SY} (I : i_Rel k u v) (hk : k + 5 ≤ 2560) (v1 : Int32) (v2 : Int32) (v3 : Int32) : wpX_units (fun r u' => wpY_units (fun r' v' => r' = r ∧ i_Rel (k + 5) u' v') v v1 v2 v3) u v1 v2 v3 := by
  refine zz_el (Q := fun u v => wpX_units (fun r u' => wpY_units (fun r' v' => r' = r ∧ i_Rel (k + 5) u' v') v v1 v2 v3) u v1 v2 v3) ?_ I
  intro f_length f_bankTime f_size f_fetchTime f_atWork f_pc f_ready f_branching f_ended f_outcome f_cycle f_accesses f_memories f_done f_cycles a_op a_into a_left a_right a_register a_word a_many a_latency a_work a_place a_first a_second a_awaitsFirst a_awaitsSecond a_x a_y a_hasRead a_accessed a_due a_writer a_bankFree a_packs a_turn a_which a_kinds a_times a_unit a_lost y_f_size y_f_stackSize y_f_fetchTime y_f_bankTime y_f_fetched y_f_done y_a_op y_a_d y_a_a y_a_b y_a_register y_a_word y_a_many y_a_latency y_a_number y_a_kind y_a_target y_a_first y_a_second y_a_bankOf y_a_issue y_a_read y_a_access y_a_ready y_a_write y_a_unit y_a_packs y_a_lost hP hC hr hw hD
  have bad : ¬ ((∃ j, j < 6 ∧ v1 = nI j) ∧ (∃ j, j < 3 ∧ v2 = nI (j + 1)) ∧ (∃ j, j < 8 ∧ v3 = nI (j + 1))) → wpY_units (fun r' v' => r' = 0 ∧ i_Rel (k + 5) (f_length, f_bankTime, f_size, f_fetchTime, f_atWork, f_pc, f_ready, f_branching, f_ended, f_outcome, f_cycle, f_accesses, f_memories, f_done, f_cycles, a_op, a_into, a_left, a_right, a_register, a_word, a_many, a_latency, a_work, a_place, a_first, a_second, a_awaitsFirst, a_awaitsSecond, a_x, a_y, a_hasRead, a_accessed, a_due, a_writer, a_bankFree, a_packs, a_turn, a_which, a_kinds, a_times, a_unit, a_lost) v') (y_f_size, y_f_stackSize, y_f_fetchTime, y_f_bankTime, y_f_fetched, y_f_done, y_a_op, y_a_d, y_a_a, y_a_b, y_a_register, y_a_word, y_a_many, y_a_latency, y_a_number, y_a_kind, y_a_target, y_a_first, y_a_second, y_a_bankOf, y_a_issue, y_a_read, y_a_access, y_a_ready, y_a_write, y_a_unit, y_a_packs, y_a_lost) v1 v2 v3 := by
    intro hn
    have fin : (0 : Int32) = 0 ∧ i_Rel (k + 5) (f_length, f_bankTime, f_size, f_fetchTime, f_atWork, f_pc, f_ready, f_branching, f_ended, f_outcome, f_cycle, f_accesses, f_memories, f_done, f_cycles, a_op, a_into, a_left, a_right, a_register, a_word, a_many, a_latency, a_work, a_place, a_first, a_second, a_awaitsFirst, a_awaitsSecond, a_x, a_y, a_hasRead, a_accessed, a_due, a_writer, a_bankFree, a_packs, a_turn, a_which, a_kinds, a_times, a_unit, a_lost) (y_f_size, y_f_stackSize, y_f_fetchTime, y_f_bankTime, y_f_fetched, y_f_done, y_a_op, y_a_d, y_a_a, y_a_b, y_a_register, y_a_word, y_a_many, y_a_latency, y_a_number, y_a_kind, y_a_target, y_a_first, y_a_second, y_a_bankOf, y_a_issue, y_a_read, y_a_access, y_a_ready, y_a_write, y_a_unit, y_a_packs, y_a_lost) := ⟨rfl, hP, hC, ⟨hr, hw⟩, hD⟩
    unfold wpY_units
    dsimp only
    refine yi_in (n := 6) (by decide) rfl ?_ (fun _ => br_t rfl fin)
    intro j hj e
    refine br_f sh_10 ?_
    by_cases z1 : v2 < 1
    · exact br_t z1 fin
    refine br_f z1 ?_
    by_cases z3 : (3 : Int32) < v2
    · exact br_t z3 fin
    refine br_f z3 ?_
    by_cases z4 : v3 < 1
    · exact br_t z4 fin
    refine br_f z4 ?_
    by_cases z5 : v3 ≤ 8
    · refine absurd ⟨⟨j, hj, e⟩, ?_, ?_⟩ hn
      · rcases ue_rng v2 (n := 3) (by decide) with h | h | h
        · exact absurd h z1
        · exact absurd h z3
        · exact h
      · rcases ue_rng v3 (n := 8) (by decide) with h | h | h
        · exact absurd h z4
        · exact absurd (Int32.lt_of_lt_of_le h z5) (Int32.lt_irrefl)
        · exact h
    · exact br_f z5 fin
  unfold wpX_units
  dsimp only
  refine xn_no (n := 6) (by decide) rfl ?_ (fun hno => br_f sh_10 (bad (fun h => hno h.1)))
  intro j1 hj1 ej1
  refine br_t rfl (xn_no (n := 3) (by decide) rfl ?_ (fun hno => br_f sh_10 (bad (fun ⟨_, ⟨j, hj, e⟩, _⟩ => hno ⟨j, hj, ue_pm.mpr e⟩))))
  intro j2 hj2 ej2
  refine br_t rfl (xn_no (n := 8) (by decide) rfl ?_ (fun hno => br_f sh_10 (bad (fun ⟨_, _, ⟨j, hj, e⟩⟩ => hno ⟨j, hj, ue_pm.mpr e⟩))))
  intro j3 hj3 ej3
  have e2 := ue_pm.mp ej2
  have e3 := ue_pm.mp ej3
  subst ej1 e2 e3
  have il : vp_in (nI j1) 6 := vp_in_nI hj1 (by decide)
  rw [nI_clamp (n := j1) (by omega), sh_b (n := j2 + 1) (by omega), sh_b (n := j3 + 1) (by omega)]
  refine br_t rfl ⟨il, nm_e ⟨il, nm_e ?_⟩⟩
  unfold wpY_units
  dsimp only
  refine yi_in (n := 6) (by decide) rfl ?_ (fun hno => absurd ⟨j1, hj1, rfl⟩ hno)
  intro _ _ _
  rw [nI_clamp (n := j1) (by omega)]
  refine br_f sh_10 (br_f (nI_nlt (b := 1) (by omega) (by omega)) (br_f (nI_nlt (a := 3) (by omega) (by decide)) (br_f (nI_nlt (b := 1) (by omega) (by omega)) (br_t (nI_le (b := 8) (by omega) (by decide)) ⟨il, nm_e ⟨il, nm_e ⟨rfl, hP, ⟨hC.1, hC.2.1, hC.2.2.1, ?_⟩, ⟨hr, hw⟩, hD⟩⟩⟩))))
  intro q hq
  by_cases e : q = j1
  · subst e
    rw [pk_us, pk_us, pk_us, pk_us]
    exact ⟨⟨j2 + 1, by omega, by omega, rfl, rfl⟩, ⟨j3 + 1, by omega, by omega, rfl, rfl⟩⟩
  · rw [pk_un e, pk_un e, pk_un e, pk_un e]
    exact hC.2.2.2 q hq
theorem i_vc_fetch {k : Nat} {u : SX} {v : SY} (I : i_Rel k u v) (hk : k + 5 ≤ 2560) (v1 : Int32) (v2 : Int32) : wpX_fetch (fun r u' => wpY_fetch (fun r' v' => r' = r ∧ i_Rel (k + 5) u' v') v v1 v2) u v1 v2 := by
  refine zz_el (Q := fun u v => wpX_fetch (fun r u' => wpY_fetch (fun r' v' => r' = r ∧ i_Rel (k + 5) u' v') v v1 v2) u v1 v2) ?_ I
  intro f_length f_bankTime f_size f_fetchTime f_atWork f_pc f_ready f_branching f_ended f_outcome f_cycle f_accesses f_memories f_done f_cycles a_op a_into a_left a_right a_register a_word a_many a_latency a_work a_place a_first a_second a_awaitsFirst a_awaitsSecond a_x a_y a_hasRead a_accessed a_due a_writer a_bankFree a_packs a_turn a_which a_kinds a_times a_unit a_lost y_f_size y_f_stackSize y_f_fetchTime y_f_bankTime y_f_fetched y_f_done y_a_op y_a_d y_a_a y_a_b y_a_register y_a_word y_a_many y_a_latency y_a_number y_a_kind y_a_target y_a_first y_a_second y_a_bankOf y_a_issue y_a_read y_a_access y_a_ready y_a_write y_a_unit y_a_packs y_a_lost hP hC hr hw hD
  have fin : (0 : Int32) = 0 ∧ i_Rel (k + 5) (f_length, f_bankTime, f_size, f_fetchTime, f_atWork, f_pc, f_ready, f_branching, f_ended, f_outcome, f_cycle, f_accesses, f_memories, f_done, f_cycles, a_op, a_into, a_left, a_right, a_register, a_word, a_many, a_latency, a_work, a_place, a_first, a_second, a_awaitsFirst, a_awaitsSecond, a_x, a_y, a_hasRead, a_accessed, a_due, a_writer, a_bankFree, a_packs, a_turn, a_which, a_kinds, a_times, a_unit, a_lost) (y_f_size, y_f_stackSize, y_f_fetchTime, y_f_bankTime, y_f_fetched, y_f_done, y_a_op, y_a_d, y_a_a, y_a_b, y_a_register, y_a_word, y_a_many, y_a_latency, y_a_number, y_a_kind, y_a_target, y_a_first, y_a_second, y_a_bankOf, y_a_issue, y_a_read, y_a_access, y_a_ready, y_a_write, y_a_unit, y_a_packs, y_a_lost) := ⟨rfl, hP, hC, ⟨hr, hw⟩, hD⟩
  unfold wpX_fetch
  dsimp only
  refine br_c (fun z => br_t z fin) (fun z => br_c (fun z2 => br_f z (br_t z2 fin)) (fun z2 => ?_))
  refine xn_no (n := 7) (by decide) rfl ?_ ?_
  · intro j hj e
    refine br_t rfl (br_f z (br_f z2 (yi_in (n := 7) (by decide) rfl (fun _ _ _ => br_f sh_10 ⟨rfl, hP, ⟨hC.1, ?_, ⟨j, by omega, e, e⟩, hC.2.2.2⟩, ⟨hr, hw⟩, hD⟩) (fun hno => absurd ⟨j, hj, e⟩ hno))))
    rcases ue_rng v1 (n := 4) (by decide) with h | h | ⟨q, hq, eq⟩
    · exact absurd h z
    · exact absurd h z2
    · exact ⟨q + 1, by omega, by omega, eq, eq⟩
  · intro hno
    exact br_f sh_10 (br_f z (br_f z2 (yi_in (n := 7) (by decide) rfl (fun j hj e => absurd ⟨j, hj, e⟩ hno) (fun _ => br_t rfl fin))))
theorem i_vc_bank {k : Nat} {u : SX} {v : SY} (I : i_Rel k u v) (hk : k + 5 ≤ 2560) (v1 : Int32) : wpX_bank (fun r u' => wpY_bank (fun r' v' => r' = r ∧ i_Rel (k + 5) u' v') v v1) u v1 := by
  refine zz_el (Q := fun u v => wpX_bank (fun r u' => wpY_bank (fun r' v' => r' = r ∧ i_Rel (k + 5) u' v') v v1) u v1) ?_ I
  intro f_length f_bankTime f_size f_fetchTime f_atWork f_pc f_ready f_branching f_ended f_outcome f_cycle f_accesses f_memories f_done f_cycles a_op a_into a_left a_right a_register a_word a_many a_latency a_work a_place a_first a_second a_awaitsFirst a_awaitsSecond a_x a_y a_hasRead a_accessed a_due a_writer a_bankFree a_packs a_turn a_which a_kinds a_times a_unit a_lost y_f_size y_f_stackSize y_f_fetchTime y_f_bankTime y_f_fetched y_f_done y_a_op y_a_d y_a_a y_a_b y_a_register y_a_word y_a_many y_a_latency y_a_number y_a_kind y_a_target y_a_first y_a_second y_a_bankOf y_a_issue y_a_read y_a_access y_a_ready y_a_write y_a_unit y_a_packs y_a_lost hP hC hr hw hD
  have fin : (0 : Int32) = 0 ∧ i_Rel (k + 5) (f_length, f_bankTime, f_size, f_fetchTime, f_atWork, f_pc, f_ready, f_branching, f_ended, f_outcome, f_cycle, f_accesses, f_memories, f_done, f_cycles, a_op, a_into, a_left, a_right, a_register, a_word, a_many, a_latency, a_work, a_place, a_first, a_second, a_awaitsFirst, a_awaitsSecond, a_x, a_y, a_hasRead, a_accessed, a_due, a_writer, a_bankFree, a_packs, a_turn, a_which, a_kinds, a_times, a_unit, a_lost) (y_f_size, y_f_stackSize, y_f_fetchTime, y_f_bankTime, y_f_fetched, y_f_done, y_a_op, y_a_d, y_a_a, y_a_b, y_a_register, y_a_word, y_a_many, y_a_latency, y_a_number, y_a_kind, y_a_target, y_a_first, y_a_second, y_a_bankOf, y_a_issue, y_a_read, y_a_access, y_a_ready, y_a_write, y_a_unit, y_a_packs, y_a_lost) := ⟨rfl, hP, hC, ⟨hr, hw⟩, hD⟩
  unfold wpX_bank
  dsimp only
  refine br_c (fun z => br_t z fin) (fun z => br_c (fun z2 => br_f z (br_t z2 ⟨rfl, hP, ⟨?_, hC.2⟩, ⟨hr, hw⟩, hD⟩)) (fun z2 => br_f z (br_f z2 fin)))
  rcases ue_rng v1 (n := 8) (by decide) with h | h | ⟨q, hq, eq⟩
  · exact absurd h z
  · exact absurd (Int32.lt_of_lt_of_le h z2) (Int32.lt_irrefl)
  · exact ⟨q + 1, by omega, by omega, eq, eq⟩
theorem i_vc_poke {k : Nat} {u : SX} {v : SY} (I : i_Rel k u v) (hk : k + 5 ≤ 2560) (v1 : Int32) (v2 : Int32) : wpX_poke (fun r u' => wpY_poke (fun r' v' => r' = r ∧ i_Rel (k + 5) u' v') v v1 v2) u v1 v2 := by
  refine zz_el (Q := fun u v => wpX_poke (fun r u' => wpY_poke (fun r' v' => r' = r ∧ i_Rel (k + 5) u' v') v v1 v2) u v1 v2) ?_ I
  intro f_length f_bankTime f_size f_fetchTime f_atWork f_pc f_ready f_branching f_ended f_outcome f_cycle f_accesses f_memories f_done f_cycles a_op a_into a_left a_right a_register a_word a_many a_latency a_work a_place a_first a_second a_awaitsFirst a_awaitsSecond a_x a_y a_hasRead a_accessed a_due a_writer a_bankFree a_packs a_turn a_which a_kinds a_times a_unit a_lost y_f_size y_f_stackSize y_f_fetchTime y_f_bankTime y_f_fetched y_f_done y_a_op y_a_d y_a_a y_a_b y_a_register y_a_word y_a_many y_a_latency y_a_number y_a_kind y_a_target y_a_first y_a_second y_a_bankOf y_a_issue y_a_read y_a_access y_a_ready y_a_write y_a_unit y_a_packs y_a_lost hP hC hr hw hD
  subst hr hw
  unfold wpX_poke
  dsimp only
  refine xn_no (n := 32) (by decide) rfl ?_ (fun hno => br_f sh_10 (by unfold wpY_poke; dsimp only; exact yi_in (n := 32) (by decide) rfl (fun j hj e => absurd ⟨j, hj, e⟩ hno) (fun _ => br_t rfl ⟨rfl, hP, hC, ⟨rfl, rfl⟩, hD⟩)))
  intro j hj e
  subst e
  have ij : vp_in (nI j) 32 := vp_in_nI hj (by decide)
  refine br_t rfl ⟨ij, nm_e ?_⟩
  unfold wpY_poke
  dsimp only
  exact yi_in (n := 32) (by decide) rfl (fun _ _ _ => br_f sh_10 ⟨ij, nm_e ⟨rfl, hP, hC, ⟨rfl, rfl⟩, hD⟩⟩) (fun hno => absurd ⟨j, hj, rfl⟩ hno)
theorem i_vc_set {k : Nat} {u : SX} {v : SY} (I : i_Rel k u v) (hk : k + 5 ≤ 2560) (v1 : Int32) (v2 : Int32) : wpX_set (fun r u' => wpY_set (fun r' v' => r' = r ∧ i_Rel (k + 5) u' v') v v1 v2) u v1 v2 := by
  refine zz_el (Q := fun u v => wpX_set (fun r u' => wpY_set (fun r' v' => r' = r ∧ i_Rel (k + 5) u' v') v v1 v2) u v1 v2) ?_ I
  intro f_length f_bankTime f_size f_fetchTime f_atWork f_pc f_ready f_branching f_ended f_outcome f_cycle f_accesses f_memories f_done f_cycles a_op a_into a_left a_right a_register a_word a_many a_latency a_work a_place a_first a_second a_awaitsFirst a_awaitsSecond a_x a_y a_hasRead a_accessed a_due a_writer a_bankFree a_packs a_turn a_which a_kinds a_times a_unit a_lost y_f_size y_f_stackSize y_f_fetchTime y_f_bankTime y_f_fetched y_f_done y_a_op y_a_d y_a_a y_a_b y_a_register y_a_word y_a_many y_a_latency y_a_number y_a_kind y_a_target y_a_first y_a_second y_a_bankOf y_a_issue y_a_read y_a_access y_a_ready y_a_write y_a_unit y_a_packs y_a_lost hP hC hr hw hD
  subst hr hw
  unfold wpX_set
  dsimp only
  refine xn_no (n := 8) (by decide) rfl ?_ (fun hno => br_f sh_10 (by unfold wpY_set; dsimp only; exact yi_in (n := 8) (by decide) rfl (fun j hj e => absurd ⟨j, hj, e⟩ hno) (fun _ => br_t rfl ⟨rfl, hP, hC, ⟨rfl, rfl⟩, hD⟩)))
  intro j hj e
  subst e
  have ij : vp_in (nI j) 8 := vp_in_nI hj (by decide)
  refine br_t rfl ⟨ij, nm_e ?_⟩
  unfold wpY_set
  dsimp only
  exact yi_in (n := 8) (by decide) rfl (fun _ _ _ => br_f sh_10 ⟨ij, nm_e ⟨rfl, hP, hC, ⟨rfl, rfl⟩, hD⟩⟩) (fun hno => absurd ⟨j, hj, rfl⟩ hno)
section
variable {w : Nat}
variable {f_length f_bankTime f_size f_fetchTime f_atWork f_pc f_ready f_branching f_ended f_outcome f_cycle f_accesses f_memories f_done f_cycles : Int32}
variable {a_op a_into a_left a_right a_many a_latency a_work a_place a_first a_second a_awaitsFirst a_awaitsSecond a_x a_y a_hasRead a_accessed a_due a_writer a_bankFree a_packs a_turn a_which a_kinds a_times a_unit a_lost : Nat → Int32}
theorem ex_x (hw : w < 25) : ∀ d j (a_register a_word : Nat → Int32), j + d = 8 → ∃ reg wd : Nat → Int32, (∀ post : Int32 → SX → Prop, post 1 (f_length, f_bankTime, f_size, f_fetchTime, f_atWork, f_pc, f_ready, f_branching, f_ended, f_outcome, f_cycle, f_accesses, f_memories, f_done, f_cycles, a_op, a_into, a_left, a_right, reg, wd, a_many, a_latency, a_work, a_place, a_first, a_second, a_awaitsFirst, a_awaitsSecond, a_x, a_y, a_hasRead, a_accessed, a_due, a_writer, a_bankFree, a_packs, a_turn, a_which, a_kinds, a_times, a_unit, a_lost) → wX_exchange_13 post (nI w) f_length f_bankTime f_size f_fetchTime f_atWork f_pc f_ready f_branching f_ended f_outcome f_cycle f_accesses f_memories f_done f_cycles (d + 1) (nI j) a_op a_into a_left a_right a_register a_word a_many a_latency a_work a_place a_first a_second a_awaitsFirst a_awaitsSecond a_x a_y a_hasRead a_accessed a_due a_writer a_bankFree a_packs a_turn a_which a_kinds a_times a_unit a_lost) ∧ ∀ (post : Int32 → SY → Prop) {y_f_size y_f_stackSize y_f_fetchTime y_f_bankTime y_f_fetched y_f_done : Int32} {y_a_op y_a_d y_a_a y_a_b y_a_many y_a_latency y_a_number y_a_kind y_a_target y_a_first y_a_second y_a_bankOf y_a_issue y_a_read y_a_access y_a_ready y_a_write y_a_unit y_a_packs y_a_lost : Nat → Int32}, post 1 (y_f_size, y_f_stackSize, y_f_fetchTime, y_f_bankTime, y_f_fetched, y_f_done, y_a_op, y_a_d, y_a_a, y_a_b, reg, wd, y_a_many, y_a_latency, y_a_number, y_a_kind, y_a_target, y_a_first, y_a_second, y_a_bankOf, y_a_issue, y_a_read, y_a_access, y_a_ready, y_a_write, y_a_unit, y_a_packs, y_a_lost) → wY_exchange_13 post (nI w) y_f_size y_f_stackSize y_f_fetchTime y_f_bankTime y_f_fetched y_f_done (d + 1) (nI j) y_a_op y_a_d y_a_a y_a_b a_register a_word y_a_many y_a_latency y_a_number y_a_kind y_a_target y_a_first y_a_second y_a_bankOf y_a_issue y_a_read y_a_access y_a_ready y_a_write y_a_unit y_a_packs y_a_lost := by
  intro d
  induction d with
  | zero =>
    intro j a_register a_word hj
    have h : (8 : Int32) ≤ nI j := nI_le (a := 8) (by omega) (by omega)
    exact ⟨a_register, a_word, fun post K => br_t h K, fun post => by intros; exact br_t h (by assumption)⟩
  | succ d ih =>
    intro j a_register a_word hj
    have h : ¬ (8 : Int32) ≤ nI j := nI_ge (b := 8) (by omega) (by decide)
    obtain ⟨reg, wd, hX, hY⟩ := ih (j + 1) (upd a_register j (a_word (w + j))) (upd a_word (w + j) (a_register j)) (by omega)
    have ij : vp_in (nI j) 8 := vp_in_nI (by omega) (by decide)
    have iw : vp_in (nI (w + j)) 32 := vp_in_nI (by omega) (by decide)
    refine ⟨reg, wd, fun post K => ?_, fun post => ?_⟩
    · rw [wX_exchange_13]
      dsimp only
      rw [nI_add, nI_clamp (n := j) (by omega), nI_clamp (n := w + j) (by omega)]
      exact br_f h ⟨ij, nm_e ⟨iw, ij, nm_e ⟨iw, nm_e (nm_r (nI_1 j) (hX post K))⟩⟩⟩
    · intros
      rw [wY_exchange_13]
      dsimp only
      rw [nI_add, nI_clamp (n := j) (by omega), nI_clamp (n := w + j) (by omega)]
      refine br_f h ⟨ij, nm_e ⟨iw, ij, nm_e ⟨iw, nm_e (nm_r (nI_1 j) (hY post ?_))⟩⟩⟩
      assumption
end
theorem i_vc_exchange {k : Nat} {u : SX} {v : SY} (I : i_Rel k u v) (hk : k + 5 ≤ 2560) (v1 : Int32) : wpX_exchange (fun r u' => wpY_exchange (fun r' v' => r' = r ∧ i_Rel (k + 5) u' v') v v1) u v1 := by
  refine zz_el (Q := fun u v => wpX_exchange (fun r u' => wpY_exchange (fun r' v' => r' = r ∧ i_Rel (k + 5) u' v') v v1) u v1) ?_ I
  intro f_length f_bankTime f_size f_fetchTime f_atWork f_pc f_ready f_branching f_ended f_outcome f_cycle f_accesses f_memories f_done f_cycles a_op a_into a_left a_right a_register a_word a_many a_latency a_work a_place a_first a_second a_awaitsFirst a_awaitsSecond a_x a_y a_hasRead a_accessed a_due a_writer a_bankFree a_packs a_turn a_which a_kinds a_times a_unit a_lost y_f_size y_f_stackSize y_f_fetchTime y_f_bankTime y_f_fetched y_f_done y_a_op y_a_d y_a_a y_a_b y_a_register y_a_word y_a_many y_a_latency y_a_number y_a_kind y_a_target y_a_first y_a_second y_a_bankOf y_a_issue y_a_read y_a_access y_a_ready y_a_write y_a_unit y_a_packs y_a_lost hP hC hr hw hD
  subst hr hw
  unfold wpX_exchange
  dsimp only
  refine xn_no (n := 25) (by decide) rfl ?_ (fun hno => br_f sh_10 (by unfold wpY_exchange; dsimp only; exact yi_in (n := 25) (by decide) rfl (fun j hj e => absurd ⟨j, hj, e⟩ hno) (fun _ => br_t rfl ⟨rfl, hP, hC, ⟨rfl, rfl⟩, hD⟩)))
  intro w hw e
  subst e
  obtain ⟨reg, wd, hX, hY⟩ := ex_x (f_length := f_length) (f_bankTime := f_bankTime) (f_size := f_size) (f_fetchTime := f_fetchTime) (f_atWork := f_atWork) (f_pc := f_pc) (f_ready := f_ready) (f_branching := f_branching) (f_ended := f_ended) (f_outcome := f_outcome) (f_cycle := f_cycle) (f_accesses := f_accesses) (f_memories := f_memories) (f_done := f_done) (f_cycles := f_cycles) (a_op := a_op) (a_into := a_into) (a_left := a_left) (a_right := a_right) (a_many := a_many) (a_latency := a_latency) (a_work := a_work) (a_place := a_place) (a_first := a_first) (a_second := a_second) (a_awaitsFirst := a_awaitsFirst) (a_awaitsSecond := a_awaitsSecond) (a_x := a_x) (a_y := a_y) (a_hasRead := a_hasRead) (a_accessed := a_accessed) (a_due := a_due) (a_writer := a_writer) (a_bankFree := a_bankFree) (a_packs := a_packs) (a_turn := a_turn) (a_which := a_which) (a_kinds := a_kinds) (a_times := a_times) (a_unit := a_unit) (a_lost := a_lost) hw 8 0 y_a_register y_a_word rfl
  refine br_t rfl ⟨9, hX _ ?_⟩
  unfold wpY_exchange
  dsimp only
  exact yi_in (n := 25) (by decide) rfl (fun _ _ _ => br_f sh_10 ⟨9, hY _ ⟨rfl, hP, hC, ⟨rfl, rfl⟩, hD⟩⟩) (fun hno => absurd ⟨w, hw, rfl⟩ hno)
theorem i_vc_peek {k : Nat} {u : SX} {v : SY} (I : i_Rel k u v) (hk : k + 5 ≤ 2560) (v1 : Int32) : wpX_peek (fun r => wpY_peek (fun r' => r' = r ∧ i_Rel (k + 5) u v) v v1) u v1 := by
  refine zz_el (Q := fun u v => wpX_peek (fun r => wpY_peek (fun r' => r' = r ∧ i_Rel (k + 5) u v) v v1) u v1) ?_ I
  intro f_length f_bankTime f_size f_fetchTime f_atWork f_pc f_ready f_branching f_ended f_outcome f_cycle f_accesses f_memories f_done f_cycles a_op a_into a_left a_right a_register a_word a_many a_latency a_work a_place a_first a_second a_awaitsFirst a_awaitsSecond a_x a_y a_hasRead a_accessed a_due a_writer a_bankFree a_packs a_turn a_which a_kinds a_times a_unit a_lost y_f_size y_f_stackSize y_f_fetchTime y_f_bankTime y_f_fetched y_f_done y_a_op y_a_d y_a_a y_a_b y_a_register y_a_word y_a_many y_a_latency y_a_number y_a_kind y_a_target y_a_first y_a_second y_a_bankOf y_a_issue y_a_read y_a_access y_a_ready y_a_write y_a_unit y_a_packs y_a_lost hP hC hr hw hD
  subst hr hw
  unfold wpX_peek
  dsimp only
  refine xn_no (n := 32) (by decide) rfl ?_ (fun hno => br_f sh_10 (by unfold wpY_peek; dsimp only; exact yi_in (n := 32) (by decide) rfl (fun j hj e => absurd ⟨j, hj, e⟩ hno) (fun _ => br_t rfl ⟨rfl, hP, hC, ⟨rfl, rfl⟩, hD⟩)))
  intro j hj e
  subst e
  have ij : vp_in (nI j) 32 := vp_in_nI hj (by decide)
  refine br_t rfl ⟨ij, ?_⟩
  unfold wpY_peek
  dsimp only
  exact yi_in (n := 32) (by decide) rfl (fun _ _ _ => br_f sh_10 ⟨ij, rfl, hP, hC, ⟨rfl, rfl⟩, hD⟩) (fun hno => absurd ⟨j, hj, rfl⟩ hno)
theorem i_vc_value {k : Nat} {u : SX} {v : SY} (I : i_Rel k u v) (hk : k + 5 ≤ 2560) (v1 : Int32) : wpX_value (fun r => wpY_value (fun r' => r' = r ∧ i_Rel (k + 5) u v) v v1) u v1 := by
  refine zz_el (Q := fun u v => wpX_value (fun r => wpY_value (fun r' => r' = r ∧ i_Rel (k + 5) u v) v v1) u v1) ?_ I
  intro f_length f_bankTime f_size f_fetchTime f_atWork f_pc f_ready f_branching f_ended f_outcome f_cycle f_accesses f_memories f_done f_cycles a_op a_into a_left a_right a_register a_word a_many a_latency a_work a_place a_first a_second a_awaitsFirst a_awaitsSecond a_x a_y a_hasRead a_accessed a_due a_writer a_bankFree a_packs a_turn a_which a_kinds a_times a_unit a_lost y_f_size y_f_stackSize y_f_fetchTime y_f_bankTime y_f_fetched y_f_done y_a_op y_a_d y_a_a y_a_b y_a_register y_a_word y_a_many y_a_latency y_a_number y_a_kind y_a_target y_a_first y_a_second y_a_bankOf y_a_issue y_a_read y_a_access y_a_ready y_a_write y_a_unit y_a_packs y_a_lost hP hC hr hw hD
  subst hr hw
  unfold wpX_value
  dsimp only
  refine xn_no (n := 8) (by decide) rfl ?_ (fun hno => br_f sh_10 (by unfold wpY_value; dsimp only; exact yi_in (n := 8) (by decide) rfl (fun j hj e => absurd ⟨j, hj, e⟩ hno) (fun _ => br_t rfl ⟨rfl, hP, hC, ⟨rfl, rfl⟩, hD⟩)))
  intro j hj e
  subst e
  have ij : vp_in (nI j) 8 := vp_in_nI hj (by decide)
  refine br_t rfl ⟨ij, ?_⟩
  unfold wpY_value
  dsimp only
  exact yi_in (n := 8) (by decide) rfl (fun _ _ _ => br_f sh_10 ⟨ij, rfl, hP, hC, ⟨rfl, rfl⟩, hD⟩) (fun hno => absurd ⟨j, hj, rfl⟩ hno)
theorem i_vc_done {k : Nat} {u : SX} {v : SY} (I : i_Rel k u v) (hk : k + 5 ≤ 2560) : wpX_done (fun r => wpY_done (fun r' => r' = r ∧ i_Rel (k + 5) u v) v) u := by
  refine zz_el (Q := fun u v => wpX_done (fun r => wpY_done (fun r' => r' = r ∧ i_Rel (k + 5) u v) v) u) ?_ I
  intro f_length f_bankTime f_size f_fetchTime f_atWork f_pc f_ready f_branching f_ended f_outcome f_cycle f_accesses f_memories f_done f_cycles a_op a_into a_left a_right a_register a_word a_many a_latency a_work a_place a_first a_second a_awaitsFirst a_awaitsSecond a_x a_y a_hasRead a_accessed a_due a_writer a_bankFree a_packs a_turn a_which a_kinds a_times a_unit a_lost y_f_size y_f_stackSize y_f_fetchTime y_f_bankTime y_f_fetched y_f_done y_a_op y_a_d y_a_a y_a_b y_a_register y_a_word y_a_many y_a_latency y_a_number y_a_kind y_a_target y_a_first y_a_second y_a_bankOf y_a_issue y_a_read y_a_access y_a_ready y_a_write y_a_unit y_a_packs y_a_lost hP hC hr hw hD
  obtain ⟨⟨D, h1, h2, h3, h4⟩, h5⟩ := hD
  exact ⟨h3.trans h2.symm, hP, hC, ⟨hr, hw⟩, ⟨⟨D, h1, h2, h3, h4⟩, h5⟩⟩
theorem i_vc_lost {k : Nat} {u : SX} {v : SY} (I : i_Rel k u v) (hk : k + 5 ≤ 2560) (v1 : Int32) : wpX_lost (fun r => wpY_lost (fun r' => r' = r ∧ i_Rel (k + 5) u v) v v1) u v1 := by
  refine zz_el (Q := fun u v => wpX_lost (fun r => wpY_lost (fun r' => r' = r ∧ i_Rel (k + 5) u v) v v1) u v1) ?_ I
  intro f_length f_bankTime f_size f_fetchTime f_atWork f_pc f_ready f_branching f_ended f_outcome f_cycle f_accesses f_memories f_done f_cycles a_op a_into a_left a_right a_register a_word a_many a_latency a_work a_place a_first a_second a_awaitsFirst a_awaitsSecond a_x a_y a_hasRead a_accessed a_due a_writer a_bankFree a_packs a_turn a_which a_kinds a_times a_unit a_lost y_f_size y_f_stackSize y_f_fetchTime y_f_bankTime y_f_fetched y_f_done y_a_op y_a_d y_a_a y_a_b y_a_register y_a_word y_a_many y_a_latency y_a_number y_a_kind y_a_target y_a_first y_a_second y_a_bankOf y_a_issue y_a_read y_a_access y_a_ready y_a_write y_a_unit y_a_packs y_a_lost hP hC hr hw hD
  unfold wpX_lost
  dsimp only
  refine xn_no (n := 7) (by decide) rfl ?_ (fun hno => br_f sh_10 (by unfold wpY_lost; dsimp only; exact yi_in (n := 7) (by decide) rfl (fun j hj e => absurd ⟨j, hj, e⟩ hno) (fun _ => br_t rfl ⟨rfl, hP, hC, ⟨hr, hw⟩, hD⟩)))
  intro j hj e
  subst e
  have ij : vp_in (nI j) 7 := vp_in_nI hj (by decide)
  refine br_t rfl ⟨ij, ?_⟩
  unfold wpY_lost
  dsimp only
  refine yi_in (n := 7) (by decide) rfl (fun _ _ _ => br_f sh_10 ⟨ij, ?_, hP, hC, ⟨hr, hw⟩, hD⟩) (fun hno => absurd ⟨j, hj, rfl⟩ hno)
  rw [nI_clamp (n := j) (by omega)]; exact (hD.2 j hj).symm
theorem i_vc_time {k : Nat} {u : SX} {v : SY} (I : i_Rel k u v) (hk : k + 5 ≤ 2560) (v1 : Int32) (v2 : Int32) : wpX_time (fun r => wpY_time (fun r' => r' = r ∧ i_Rel (k + 5) u v) v v1 v2) u v1 v2 := by
  refine zz_el (Q := fun u v => wpX_time (fun r => wpY_time (fun r' => r' = r ∧ i_Rel (k + 5) u v) v v1 v2) u v1 v2) ?_ I
  intro f_length f_bankTime f_size f_fetchTime f_atWork f_pc f_ready f_branching f_ended f_outcome f_cycle f_accesses f_memories f_done f_cycles a_op a_into a_left a_right a_register a_word a_many a_latency a_work a_place a_first a_second a_awaitsFirst a_awaitsSecond a_x a_y a_hasRead a_accessed a_due a_writer a_bankFree a_packs a_turn a_which a_kinds a_times a_unit a_lost y_f_size y_f_stackSize y_f_fetchTime y_f_bankTime y_f_fetched y_f_done y_a_op y_a_d y_a_a y_a_b y_a_register y_a_word y_a_many y_a_latency y_a_number y_a_kind y_a_target y_a_first y_a_second y_a_bankOf y_a_issue y_a_read y_a_access y_a_ready y_a_write y_a_unit y_a_packs y_a_lost hP hC hr hw hD
  have hD' := hD
  obtain ⟨⟨D, h1, h2, h3, h4, h6⟩, h5⟩ := hD
  unfold wpX_time
  dsimp only
  have bad : ¬ ((∃ j, j < D ∧ v1 = nI j) ∧ (∃ j, j < 6 ∧ v2 = nI j)) → wpY_time (fun r' => r' = -1 ∧ i_Rel (k + 5) (f_length, f_bankTime, f_size, f_fetchTime, f_atWork, f_pc, f_ready, f_branching, f_ended, f_outcome, f_cycle, f_accesses, f_memories, f_done, f_cycles, a_op, a_into, a_left, a_right, a_register, a_word, a_many, a_latency, a_work, a_place, a_first, a_second, a_awaitsFirst, a_awaitsSecond, a_x, a_y, a_hasRead, a_accessed, a_due, a_writer, a_bankFree, a_packs, a_turn, a_which, a_kinds, a_times, a_unit, a_lost) (y_f_size, y_f_stackSize, y_f_fetchTime, y_f_bankTime, y_f_fetched, y_f_done, y_a_op, y_a_d, y_a_a, y_a_b, y_a_register, y_a_word, y_a_many, y_a_latency, y_a_number, y_a_kind, y_a_target, y_a_first, y_a_second, y_a_bankOf, y_a_issue, y_a_read, y_a_access, y_a_ready, y_a_write, y_a_unit, y_a_packs, y_a_lost)) (y_f_size, y_f_stackSize, y_f_fetchTime, y_f_bankTime, y_f_fetched, y_f_done, y_a_op, y_a_d, y_a_a, y_a_b, y_a_register, y_a_word, y_a_many, y_a_latency, y_a_number, y_a_kind, y_a_target, y_a_first, y_a_second, y_a_bankOf, y_a_issue, y_a_read, y_a_access, y_a_ready, y_a_write, y_a_unit, y_a_packs, y_a_lost) v1 v2 := by
    intro hn
    unfold wpY_time
    dsimp only
    refine yi_in (n := D) (by omega) h3 ?_ (fun _ => br_t rfl ⟨rfl, hP, hC, ⟨hr, hw⟩, hD'⟩)
    intro j hj e
    refine br_f sh_10 (yi_in (n := 6) (by decide) rfl ?_ (fun _ => br_t rfl ⟨rfl, hP, hC, ⟨hr, hw⟩, hD'⟩))
    intro j2 hj2 e2
    exact absurd ⟨⟨j, hj, e⟩, ⟨j2, hj2, e2⟩⟩ hn
  refine xn_no (n := D) (by omega) h2 ?_ (fun hno => br_f sh_10 (bad (fun h => hno h.1)))
  intro j hj e
  subst e
  refine br_t rfl (xn_no (n := 6) (by decide) rfl ?_ (fun hno => br_f sh_10 (bad (fun h => hno h.2))))
  intro t ht e
  subst e
  have ij : vp_in (nI j) 60 := vp_in_nI (by omega) (by decide)
  have ej := nI_clamp (n := j) (by omega)
  obtain ⟨t0, t00, t5, t1, t2, t3, t4⟩ := h4 j hj
  have yy : ∀ r : Int32, (t = 0 → r = y_a_number j) → (t = 1 → r = y_a_issue j) → (t = 2 → r = y_a_read j) → (t = 3 → r = y_a_ready j) → (t = 4 → r = y_a_write j) → (t = 5 → r = y_a_unit j) → wpY_time (fun r' => r' = r ∧ i_Rel (k + 5) (f_length, f_bankTime, f_size, f_fetchTime, f_atWork, f_pc, f_ready, f_branching, f_ended, f_outcome, f_cycle, f_accesses, f_memories, f_done, f_cycles, a_op, a_into, a_left, a_right, a_register, a_word, a_many, a_latency, a_work, a_place, a_first, a_second, a_awaitsFirst, a_awaitsSecond, a_x, a_y, a_hasRead, a_accessed, a_due, a_writer, a_bankFree, a_packs, a_turn, a_which, a_kinds, a_times, a_unit, a_lost) (y_f_size, y_f_stackSize, y_f_fetchTime, y_f_bankTime, y_f_fetched, y_f_done, y_a_op, y_a_d, y_a_a, y_a_b, y_a_register, y_a_word, y_a_many, y_a_latency, y_a_number, y_a_kind, y_a_target, y_a_first, y_a_second, y_a_bankOf, y_a_issue, y_a_read, y_a_access, y_a_ready, y_a_write, y_a_unit, y_a_packs, y_a_lost)) (y_f_size, y_f_stackSize, y_f_fetchTime, y_f_bankTime, y_f_fetched, y_f_done, y_a_op, y_a_d, y_a_a, y_a_b, y_a_register, y_a_word, y_a_many, y_a_latency, y_a_number, y_a_kind, y_a_target, y_a_first, y_a_second, y_a_bankOf, y_a_issue, y_a_read, y_a_access, y_a_ready, y_a_write, y_a_unit, y_a_packs, y_a_lost) (nI j) (nI t) := by
    intro r q0 q1 q2 q3 q4 q5
    unfold wpY_time
    dsimp only
    refine yi_in (n := D) (by omega) h3 ?_ (fun hno => absurd ⟨j, hj, rfl⟩ hno)
    intro _ _ _
    refine br_f sh_10 (yi_in (n := 6) (by decide) rfl ?_ (fun hno => absurd ⟨t, ht, rfl⟩ hno))
    intro _ _ _
    rw [ej]
    have fin : i_Rel (k + 5) (f_length, f_bankTime, f_size, f_fetchTime, f_atWork, f_pc, f_ready, f_branching, f_ended, f_outcome, f_cycle, f_accesses, f_memories, f_done, f_cycles, a_op, a_into, a_left, a_right, a_register, a_word, a_many, a_latency, a_work, a_place, a_first, a_second, a_awaitsFirst, a_awaitsSecond, a_x, a_y, a_hasRead, a_accessed, a_due, a_writer, a_bankFree, a_packs, a_turn, a_which, a_kinds, a_times, a_unit, a_lost) (y_f_size, y_f_stackSize, y_f_fetchTime, y_f_bankTime, y_f_fetched, y_f_done, y_a_op, y_a_d, y_a_a, y_a_b, y_a_register, y_a_word, y_a_many, y_a_latency, y_a_number, y_a_kind, y_a_target, y_a_first, y_a_second, y_a_bankOf, y_a_issue, y_a_read, y_a_access, y_a_ready, y_a_write, y_a_unit, y_a_packs, y_a_lost) := ⟨hP, hC, ⟨hr, hw⟩, hD'⟩
    refine br_f sh_10 ?_
    have ht6 : t = 0 ∨ t = 1 ∨ t = 2 ∨ t = 3 ∨ t = 4 ∨ t = 5 := by omega
    rcases ht6 with z | z | z | z | z | z
    · rw [z]; exact br_t rfl ⟨ij, (q0 z).symm, fin⟩
    · rw [z]; exact br_f (by decide) (br_t rfl ⟨ij, (q1 z).symm, fin⟩)
    · rw [z]; exact br_f (by decide) (br_f (by decide) (br_t rfl ⟨ij, (q2 z).symm, fin⟩))
    · rw [z]; exact br_f (by decide) (br_f (by decide) (br_f (by decide) (br_t rfl ⟨ij, (q3 z).symm, fin⟩)))
    · rw [z]; exact br_f (by decide) (br_f (by decide) (br_f (by decide) (br_f (by decide) (br_t rfl ⟨ij, (q4 z).symm, fin⟩))))
    · rw [z]; exact br_f (by decide) (br_f (by decide) (br_f (by decide) (br_f (by decide) (br_f (by decide) ⟨ij, (q5 z).symm, fin⟩))))
  refine br_t rfl ?_
  by_cases z0 : t = 0
  · refine br_t (by rw [z0]; rfl) ⟨ij, yy _ ?_ ?_ ?_ ?_ ?_ ?_⟩ <;> intro z <;> first | (rw [ej]; exact t0) | omega
  refine br_f (nI_ne0 (by omega) (by omega)) ?_
  by_cases z5 : t = 5
  · refine br_t (by rw [z5]; rfl) ⟨ij, yy _ ?_ ?_ ?_ ?_ ?_ ?_⟩ <;> intro z <;> first | (rw [ej]; exact t5) | omega
  refine br_f (fun z => z5 ((nI_eq (b := 5) (by omega) (by decide)).mp z)) ?_
  rw [show (4 : Int32) * nI j = nI (4 * j) from pk_mul 4 j, nI_add, show nI (4 * j + t) - 1 = nI (4 * j + t - 1) from pk_sub (b := 1) (by omega), nI_clamp (n := 4 * j + t - 1) (by omega)]
  refine ⟨vp_in_nI (by omega) (by decide), yy _ ?_ ?_ ?_ ?_ ?_ ?_⟩
  · intro z; omega
  · intro z; rw [show 4 * j + t - 1 = 4 * j by omega]; exact t1
  · intro z; rw [show 4 * j + t - 1 = 4 * j + 1 by omega]; exact t2
  · intro z; rw [show 4 * j + t - 1 = 4 * j + 2 by omega]; exact t3
  · intro z; rw [show 4 * j + t - 1 = 4 * j + 3 by omega]; exact t4
  · intro z; omega
end
section
/-! the start, cycles, busy, run -/
section
variable {post : Int32 → Prop}
variable {f_size f_stackSize f_fetchTime f_bankTime f_fetched f_done : Int32}
variable {a_op a_d a_a a_b a_register a_word a_many a_latency a_number a_kind a_target a_first a_second a_bankOf a_issue a_read a_access a_ready a_write a_unit a_packs a_lost : Nat → Int32}
theorem cy_loop {D : Nat} {w : Nat → Nat} (hD : D ≤ 60) (e : f_done = nI D) (hw : ∀ k, k < D → a_write k = nI (w k) ∧ w k ≤ 2000) (K : post (nI (sd_mx w D))) :
    ∀ n j, j ≤ D → D < n + j → wY_cycles_4 post f_size f_stackSize f_fetchTime f_bankTime f_fetched f_done a_op a_d a_a a_b a_register a_word a_many a_latency a_number a_kind a_target a_first a_second a_bankOf a_issue a_read a_access a_ready a_write a_unit a_packs a_lost n (nI (sd_mx w j)) (nI j) := by
  intro n
  induction n with
  | zero => intro j; intros; omega
  | succ n ih =>
    intro j h1 h2
    rw [wY_cycles_4]
    dsimp only
    by_cases hj : D ≤ j
    · have e2 : j = D := by omega
      subst e2
      exact br_t (by rw [e]; exact nI_le (Nat.le_refl _) (by omega)) K
    obtain ⟨w1, w2⟩ := hw j (by omega)
    have ij : vp_in (nI j) 60 := vp_in_nI (by omega) (by decide)
    have ih' := ih (j + 1) (by omega) (by omega)
    have es : sd_mx w (j + 1) = max (sd_mx w j) (w j) := rfl
    have hb : sd_mx w j ≤ 2000 := sd_mx_le (fun i hi => (hw i (by omega)).2)
    rw [es] at ih'
    rw [nI_clamp (n := j) (by omega), w1]
    refine br_f (by rw [e]; exact nI_ge (by omega) (by omega)) ⟨ij, ?_⟩
    by_cases z : w j ≤ sd_mx w j
    · rw [show max (sd_mx w j) (w j) = sd_mx w j by omega] at ih'
      exact br_t (nI_le z (by omega)) (nm_r (nI_1 j) ih')
    · rw [show max (sd_mx w j) (w j) = w j by omega] at ih'
      exact br_f (nI_ge (by omega) (by omega)) ⟨ij, nm_e (nm_r (nI_1 j) ih')⟩
end
theorem i_vc_cycles {k : Nat} {u : SX} {v : SY} (I : i_Rel k u v) (hk : k + 5 ≤ 2560) : wpX_cycles (fun r => wpY_cycles (fun r' => r' = r ∧ i_Rel (k + 5) u v) v) u := by
  refine zz_el (Q := fun u v => wpX_cycles (fun r => wpY_cycles (fun r' => r' = r ∧ i_Rel (k + 5) u v) v) u) ?_ I
  intro f_length f_bankTime f_size f_fetchTime f_atWork f_pc f_ready f_branching f_ended f_outcome f_cycle f_accesses f_memories f_done f_cycles a_op a_into a_left a_right a_register a_word a_many a_latency a_work a_place a_first a_second a_awaitsFirst a_awaitsSecond a_x a_y a_hasRead a_accessed a_due a_writer a_bankFree a_packs a_turn a_which a_kinds a_times a_unit a_lost y_f_size y_f_stackSize y_f_fetchTime y_f_bankTime y_f_fetched y_f_done y_a_op y_a_d y_a_a y_a_b y_a_register y_a_word y_a_many y_a_latency y_a_number y_a_kind y_a_target y_a_first y_a_second y_a_bankOf y_a_issue y_a_read y_a_access y_a_ready y_a_write y_a_unit y_a_packs y_a_lost hP hC hr hw hD
  have hD' := hD
  obtain ⟨⟨D, h1, h2, h3, h4, q, w, q1, q2, q3, q4⟩, h5⟩ := hD
  unfold wpX_cycles wpY_cycles
  dsimp only
  refine ⟨D + 1, cy_loop (w := w) h1 h3 (fun j hj => ⟨(q3 j hj).1, by have := (q3 j hj).2; omega⟩) ?_ (D + 1) 0 (Nat.zero_le _) (by omega)⟩
  refine ⟨?_, hP, hC, ⟨hr, hw⟩, hD'⟩
  rw [q1]
  refine congrArg nI ?_
  have hle : sd_mx w D ≤ q := sd_mx_le (fun j hj => (q3 j hj).2)
  rcases q4 with z | ⟨j, hj, e⟩
  · omega
  · have := sd_mx_ge (f := w) hj
    omega
section
variable {v1 v2 : Int32}
variable {f_length f_bankTime f_size f_fetchTime f_atWork f_pc f_ready f_branching f_ended f_outcome f_cycle f_accesses f_memories f_done f_cycles : Int32}
variable {a_op a_into a_left a_right a_register a_word a_many a_latency a_work a_place a_first a_second a_awaitsFirst a_awaitsSecond a_x a_y a_hasRead a_accessed a_due a_writer a_bankFree a_packs a_turn a_which a_kinds a_times a_unit a_lost : Nat → Int32}
variable {y_f_size y_f_stackSize y_f_fetchTime y_f_bankTime y_f_fetched y_f_done : Int32}
variable {y_a_op y_a_d y_a_a y_a_b y_a_register y_a_word y_a_many y_a_latency y_a_number y_a_kind y_a_target y_a_first y_a_second y_a_bankOf y_a_issue y_a_read y_a_access y_a_ready y_a_write y_a_unit y_a_packs y_a_lost : Nat → Int32}
theorem bu_loop {D : Nat} (hD : D ≤ 60) (e1 : f_done = nI D) (e2 : y_f_done = nI D) (h : ∀ k, k < D → a_kinds k = y_a_kind k ∧ a_times (4 * k) = y_a_issue k ∧ a_times (4 * k + 3) = y_a_write k) :
    ∀ d j (x3 : Int32), j + d = D → ∃ r : Int32, (∀ post : Int32 → Prop, post r → wX_busy_16 post v1 v2 f_length f_bankTime f_size f_fetchTime f_atWork f_pc f_ready f_branching f_ended f_outcome f_cycle f_accesses f_memories f_done f_cycles a_op a_into a_left a_right a_register a_word a_many a_latency a_work a_place a_first a_second a_awaitsFirst a_awaitsSecond a_x a_y a_hasRead a_accessed a_due a_writer a_bankFree a_packs a_turn a_which a_kinds a_times a_unit a_lost (d + 1) x3 (nI j)) ∧ ∀ post : Int32 → Prop, post r → wY_busy_16 post v1 v2 y_f_size y_f_stackSize y_f_fetchTime y_f_bankTime y_f_fetched y_f_done y_a_op y_a_d y_a_a y_a_b y_a_register y_a_word y_a_many y_a_latency y_a_number y_a_kind y_a_target y_a_first y_a_second y_a_bankOf y_a_issue y_a_read y_a_access y_a_ready y_a_write y_a_unit y_a_packs y_a_lost (d + 1) x3 (nI j) := by
  intro d
  induction d with
  | zero =>
    intro j x3 hj
    have hle : nI D ≤ nI j := nI_le (by omega) (by omega)
    exact ⟨x3, fun post K => br_t (by rw [e1]; exact hle) K, fun post K => br_t (by rw [e2]; exact hle) K⟩
  | succ d ih =>
    intro j x3 hj
    have hge : ¬ nI D ≤ nI j := nI_ge (by omega) (by omega)
    have ij : vp_in (nI j) 60 := vp_in_nI (by omega) (by decide)
    have i4 : vp_in (nI (4 * j)) 240 := vp_in_nI (by omega) (by decide)
    have i43 : vp_in (nI (4 * j + 3)) 240 := vp_in_nI (by omega) (by decide)
    obtain ⟨t1, t2, t3⟩ := h j (by omega)
    have E : (4 : Int32) * nI j = nI (4 * j) := pk_mul 4 j
    have E3 : nI (4 * j) + 3 = nI (4 * j + 3) := nI_add _ 3
    have sX : ∀ (post : Int32 → Prop), ((y_a_kind j = v1 → (v2 < y_a_issue j → wX_busy_16 post v1 v2 f_length f_bankTime f_size f_fetchTime f_atWork f_pc f_ready f_branching f_ended f_outcome f_cycle f_accesses f_memories f_done f_cycles a_op a_into a_left a_right a_register a_word a_many a_latency a_work a_place a_first a_second a_awaitsFirst a_awaitsSecond a_x a_y a_hasRead a_accessed a_due a_writer a_bankFree a_packs a_turn a_which a_kinds a_times a_unit a_lost (d + 1) x3 (nI (j + 1))) ∧ (¬ v2 < y_a_issue j → (y_a_write j < v2 → wX_busy_16 post v1 v2 f_length f_bankTime f_size f_fetchTime f_atWork f_pc f_ready f_branching f_ended f_outcome f_cycle f_accesses f_memories f_done f_cycles a_op a_into a_left a_right a_register a_word a_many a_latency a_work a_place a_first a_second a_awaitsFirst a_awaitsSecond a_x a_y a_hasRead a_accessed a_due a_writer a_bankFree a_packs a_turn a_which a_kinds a_times a_unit a_lost (d + 1) x3 (nI (j + 1))) ∧ (¬ y_a_write j < v2 → wX_busy_16 post v1 v2 f_length f_bankTime f_size f_fetchTime f_atWork f_pc f_ready f_branching f_ended f_outcome f_cycle f_accesses f_memories f_done f_cycles a_op a_into a_left a_right a_register a_word a_many a_latency a_work a_place a_first a_second a_awaitsFirst a_awaitsSecond a_x a_y a_hasRead a_accessed a_due a_writer a_bankFree a_packs a_turn a_which a_kinds a_times a_unit a_lost (d + 1) (x3 + 1) (nI (j + 1))))) ∧ (¬ y_a_kind j = v1 → wX_busy_16 post v1 v2 f_length f_bankTime f_size f_fetchTime f_atWork f_pc f_ready f_branching f_ended f_outcome f_cycle f_accesses f_memories f_done f_cycles a_op a_into a_left a_right a_register a_word a_many a_latency a_work a_place a_first a_second a_awaitsFirst a_awaitsSecond a_x a_y a_hasRead a_accessed a_due a_writer a_bankFree a_packs a_turn a_which a_kinds a_times a_unit a_lost (d + 1) x3 (nI (j + 1)))) → wX_busy_16 post v1 v2 f_length f_bankTime f_size f_fetchTime f_atWork f_pc f_ready f_branching f_ended f_outcome f_cycle f_accesses f_memories f_done f_cycles a_op a_into a_left a_right a_register a_word a_many a_latency a_work a_place a_first a_second a_awaitsFirst a_awaitsSecond a_x a_y a_hasRead a_accessed a_due a_writer a_bankFree a_packs a_turn a_which a_kinds a_times a_unit a_lost (d + 1 + 1) x3 (nI j) := by
      intro post K
      rw [wX_busy_16]
      dsimp only
      rw [E, E3, nI_clamp (n := j) (by omega), nI_clamp (n := 4 * j) (by omega), nI_clamp (n := 4 * j + 3) (by omega), t1, t2, t3]
      exact br_f (by rw [e1]; exact hge) ⟨ij, ⟨fun z => ⟨i4, ⟨fun z2 => nm_r (nI_1 j) ((K.1 z).1 z2), fun z2 => ⟨i43, ⟨fun z3 => nm_r (nI_1 j) (((K.1 z).2 z2).1 z3), fun z3 => nm_e (nm_r (nI_1 j) (((K.1 z).2 z2).2 z3))⟩⟩⟩⟩, fun z => nm_r (nI_1 j) (K.2 z)⟩⟩
    have sY : ∀ (post : Int32 → Prop), ((y_a_kind j = v1 → (v2 < y_a_issue j → wY_busy_16 post v1 v2 y_f_size y_f_stackSize y_f_fetchTime y_f_bankTime y_f_fetched y_f_done y_a_op y_a_d y_a_a y_a_b y_a_register y_a_word y_a_many y_a_latency y_a_number y_a_kind y_a_target y_a_first y_a_second y_a_bankOf y_a_issue y_a_read y_a_access y_a_ready y_a_write y_a_unit y_a_packs y_a_lost (d + 1) x3 (nI (j + 1))) ∧ (¬ v2 < y_a_issue j → (y_a_write j < v2 → wY_busy_16 post v1 v2 y_f_size y_f_stackSize y_f_fetchTime y_f_bankTime y_f_fetched y_f_done y_a_op y_a_d y_a_a y_a_b y_a_register y_a_word y_a_many y_a_latency y_a_number y_a_kind y_a_target y_a_first y_a_second y_a_bankOf y_a_issue y_a_read y_a_access y_a_ready y_a_write y_a_unit y_a_packs y_a_lost (d + 1) x3 (nI (j + 1))) ∧ (¬ y_a_write j < v2 → wY_busy_16 post v1 v2 y_f_size y_f_stackSize y_f_fetchTime y_f_bankTime y_f_fetched y_f_done y_a_op y_a_d y_a_a y_a_b y_a_register y_a_word y_a_many y_a_latency y_a_number y_a_kind y_a_target y_a_first y_a_second y_a_bankOf y_a_issue y_a_read y_a_access y_a_ready y_a_write y_a_unit y_a_packs y_a_lost (d + 1) (x3 + 1) (nI (j + 1))))) ∧ (¬ y_a_kind j = v1 → wY_busy_16 post v1 v2 y_f_size y_f_stackSize y_f_fetchTime y_f_bankTime y_f_fetched y_f_done y_a_op y_a_d y_a_a y_a_b y_a_register y_a_word y_a_many y_a_latency y_a_number y_a_kind y_a_target y_a_first y_a_second y_a_bankOf y_a_issue y_a_read y_a_access y_a_ready y_a_write y_a_unit y_a_packs y_a_lost (d + 1) x3 (nI (j + 1)))) → wY_busy_16 post v1 v2 y_f_size y_f_stackSize y_f_fetchTime y_f_bankTime y_f_fetched y_f_done y_a_op y_a_d y_a_a y_a_b y_a_register y_a_word y_a_many y_a_latency y_a_number y_a_kind y_a_target y_a_first y_a_second y_a_bankOf y_a_issue y_a_read y_a_access y_a_ready y_a_write y_a_unit y_a_packs y_a_lost (d + 1 + 1) x3 (nI j) := by
      intro post K
      rw [wY_busy_16]
      dsimp only
      rw [nI_clamp (n := j) (by omega)]
      exact br_f (by rw [e2]; exact hge) ⟨ij, ⟨fun z => ⟨ij, ⟨fun z2 => nm_r (nI_1 j) ((K.1 z).1 z2), fun z2 => ⟨ij, ⟨fun z3 => nm_r (nI_1 j) (((K.1 z).2 z2).1 z3), fun z3 => nm_e (nm_r (nI_1 j) (((K.1 z).2 z2).2 z3))⟩⟩⟩⟩, fun z => nm_r (nI_1 j) (K.2 z)⟩⟩
    obtain ⟨r0, X0, Y0⟩ := ih (j + 1) x3 (by omega)
    obtain ⟨r1, X1, Y1⟩ := ih (j + 1) (x3 + 1) (by omega)
    by_cases z : y_a_kind j = v1
    case neg => exact ⟨r0, fun post K => sX post (br_f z (X0 post K)), fun post K => sY post (br_f z (Y0 post K))⟩
    by_cases z2 : v2 < y_a_issue j
    · exact ⟨r0, fun post K => sX post (br_t z (br_t z2 (X0 post K))), fun post K => sY post (br_t z (br_t z2 (Y0 post K)))⟩
    by_cases z3 : y_a_write j < v2
    · exact ⟨r0, fun post K => sX post (br_t z (br_f z2 (br_t z3 (X0 post K)))), fun post K => sY post (br_t z (br_f z2 (br_t z3 (Y0 post K))))⟩
    · exact ⟨r1, fun post K => sX post (br_t z (br_f z2 (br_f z3 (X1 post K)))), fun post K => sY post (br_t z (br_f z2 (br_f z3 (Y1 post K))))⟩
theorem bu_both {D : Nat} (hD : D ≤ 60) (e1 : f_done = nI D) (e2 : y_f_done = nI D) (h : ∀ k, k < D → a_kinds k = y_a_kind k ∧ a_times (4 * k) = y_a_issue k ∧ a_times (4 * k + 3) = y_a_write k) {R : Prop} (hR : R) :
    wpX_busy (fun r => wpY_busy (fun r' => r' = r ∧ R) (y_f_size, y_f_stackSize, y_f_fetchTime, y_f_bankTime, y_f_fetched, y_f_done, y_a_op, y_a_d, y_a_a, y_a_b, y_a_register, y_a_word, y_a_many, y_a_latency, y_a_number, y_a_kind, y_a_target, y_a_first, y_a_second, y_a_bankOf, y_a_issue, y_a_read, y_a_access, y_a_ready, y_a_write, y_a_unit, y_a_packs, y_a_lost) v1 v2) (f_length, f_bankTime, f_size, f_fetchTime, f_atWork, f_pc, f_ready, f_branching, f_ended, f_outcome, f_cycle, f_accesses, f_memories, f_done, f_cycles, a_op, a_into, a_left, a_right, a_register, a_word, a_many, a_latency, a_work, a_place, a_first, a_second, a_awaitsFirst, a_awaitsSecond, a_x, a_y, a_hasRead, a_accessed, a_due, a_writer, a_bankFree, a_packs, a_turn, a_which, a_kinds, a_times, a_unit, a_lost) v1 v2 := by
  unfold wpX_busy
  dsimp only
  refine xn_no (n := 6) (by decide) rfl ?_ ?_
  · intro j hj e
    obtain ⟨r, hX, hY⟩ := bu_loop (v1 := v1) (v2 := v2) (f_length := f_length) (f_bankTime := f_bankTime) (f_size := f_size) (f_fetchTime := f_fetchTime) (f_atWork := f_atWork) (f_pc := f_pc) (f_ready := f_ready) (f_branching := f_branching) (f_ended := f_ended) (f_outcome := f_outcome) (f_cycle := f_cycle) (f_accesses := f_accesses) (f_memories := f_memories) (f_done := f_done) (f_cycles := f_cycles) (a_op := a_op) (a_into := a_into) (a_left := a_left) (a_right := a_right) (a_register := a_register) (a_word := a_word) (a_many := a_many) (a_latency := a_latency) (a_work := a_work) (a_place := a_place) (a_first := a_first) (a_second := a_second) (a_awaitsFirst := a_awaitsFirst) (a_awaitsSecond := a_awaitsSecond) (a_x := a_x) (a_y := a_y) (a_hasRead := a_hasRead) (a_accessed := a_accessed) (a_due := a_due) (a_writer := a_writer) (a_bankFree := a_bankFree) (a_packs := a_packs) (a_turn := a_turn) (a_which := a_which) (a_kinds := a_kinds) (a_times := a_times) (a_unit := a_unit) (a_lost := a_lost) (y_f_size := y_f_size) (y_f_stackSize := y_f_stackSize) (y_f_fetchTime := y_f_fetchTime) (y_f_bankTime := y_f_bankTime) (y_f_fetched := y_f_fetched) (y_f_done := y_f_done) (y_a_op := y_a_op) (y_a_d := y_a_d) (y_a_a := y_a_a) (y_a_b := y_a_b) (y_a_register := y_a_register) (y_a_word := y_a_word) (y_a_many := y_a_many) (y_a_latency := y_a_latency) (y_a_number := y_a_number) (y_a_kind := y_a_kind) (y_a_target := y_a_target) (y_a_first := y_a_first) (y_a_second := y_a_second) (y_a_bankOf := y_a_bankOf) (y_a_issue := y_a_issue) (y_a_read := y_a_read) (y_a_access := y_a_access) (y_a_ready := y_a_ready) (y_a_write := y_a_write) (y_a_unit := y_a_unit) (y_a_packs := y_a_packs) (y_a_lost := y_a_lost) hD e1 e2 h D 0 0 (by omega)
    refine br_t rfl ⟨D + 1, hX _ ?_⟩
    unfold wpY_busy
    dsimp only
    exact yi_in (n := 6) (by decide) rfl (fun _ _ _ => br_f sh_10 ⟨D + 1, hY _ ⟨rfl, hR⟩⟩) (fun hno => absurd ⟨j, hj, e⟩ hno)
  · intro hno
    refine br_f sh_10 ?_
    unfold wpY_busy
    dsimp only
    exact yi_in (n := 6) (by decide) rfl (fun j hj e => absurd ⟨j, hj, e⟩ hno) (fun _ => br_t rfl ⟨rfl, hR⟩)
end
theorem i_vc_busy {k : Nat} {u : SX} {v : SY} (I : i_Rel k u v) (hk : k + 5 ≤ 2560) (v1 : Int32) (v2 : Int32) : wpX_busy (fun r => wpY_busy (fun r' => r' = r ∧ i_Rel (k + 5) u v) v v1 v2) u v1 v2 := by
  refine zz_el (Q := fun u v => wpX_busy (fun r => wpY_busy (fun r' => r' = r ∧ i_Rel (k + 5) u v) v v1 v2) u v1 v2) ?_ I
  intro f_length f_bankTime f_size f_fetchTime f_atWork f_pc f_ready f_branching f_ended f_outcome f_cycle f_accesses f_memories f_done f_cycles a_op a_into a_left a_right a_register a_word a_many a_latency a_work a_place a_first a_second a_awaitsFirst a_awaitsSecond a_x a_y a_hasRead a_accessed a_due a_writer a_bankFree a_packs a_turn a_which a_kinds a_times a_unit a_lost y_f_size y_f_stackSize y_f_fetchTime y_f_bankTime y_f_fetched y_f_done y_a_op y_a_d y_a_a y_a_b y_a_register y_a_word y_a_many y_a_latency y_a_number y_a_kind y_a_target y_a_first y_a_second y_a_bankOf y_a_issue y_a_read y_a_access y_a_ready y_a_write y_a_unit y_a_packs y_a_lost hP hC hr hw hD
  have hD' := hD
  obtain ⟨⟨D, h1, h2, h3, h4, h6⟩, h5⟩ := hD
  exact bu_both h1 h2 h3 (fun j hj => ⟨(h4 j hj).2.1, (h4 j hj).2.2.2.1, (h4 j hj).2.2.2.2.2.2⟩) (show i_Rel (k + 5) (f_length, f_bankTime, f_size, f_fetchTime, f_atWork, f_pc, f_ready, f_branching, f_ended, f_outcome, f_cycle, f_accesses, f_memories, f_done, f_cycles, a_op, a_into, a_left, a_right, a_register, a_word, a_many, a_latency, a_work, a_place, a_first, a_second, a_awaitsFirst, a_awaitsSecond, a_x, a_y, a_hasRead, a_accessed, a_due, a_writer, a_bankFree, a_packs, a_turn, a_which, a_kinds, a_times, a_unit, a_lost) (y_f_size, y_f_stackSize, y_f_fetchTime, y_f_bankTime, y_f_fetched, y_f_done, y_a_op, y_a_d, y_a_a, y_a_b, y_a_register, y_a_word, y_a_many, y_a_latency, y_a_number, y_a_kind, y_a_target, y_a_first, y_a_second, y_a_bankOf, y_a_issue, y_a_read, y_a_access, y_a_ready, y_a_write, y_a_unit, y_a_packs, y_a_lost) from ⟨hP, hC, ⟨hr, hw⟩, hD'⟩)
section
variable {post : SY → Prop}
variable {f_size f_stackSize f_fetchTime f_bankTime f_fetched f_done : Int32}
variable {a_op a_d a_a a_b a_register a_word a_latency a_number a_kind a_target a_first a_second a_bankOf a_issue a_read a_access a_ready a_write a_unit a_packs a_lost : Nat → Int32}
theorem in_y (K : ∀ a_many : Nat → Int32, (∀ u, u < 6 → a_many u = nI (if u = 0 ∨ u = 3 ∨ u = 5 then 1 else 2)) → post (f_size, f_stackSize, f_fetchTime, f_bankTime, f_fetched, f_done, a_op, a_d, a_a, a_b, a_register, a_word, a_many, upd (upd (upd (upd (upd (upd a_latency 0 1) 1 2) 2 4) 3 8) 4 3) 5 1, a_number, a_kind, a_target, a_first, a_second, a_bankOf, a_issue, a_read, a_access, a_ready, a_write, a_unit, a_packs, a_lost)) :
    ∀ n i (a_many : Nat → Int32), i ≤ 6 → 6 < n + i → (∀ u, u < i → a_many u = nI (if u = 0 ∨ u = 3 ∨ u = 5 then 1 else 2)) → wY_init_197 post f_size f_stackSize f_fetchTime f_bankTime f_fetched f_done n (nI i) a_op a_d a_a a_b a_register a_word a_many a_latency a_number a_kind a_target a_first a_second a_bankOf a_issue a_read a_access a_ready a_write a_unit a_packs a_lost := by
  intro n
  induction n with
  | zero => intro i; intros; omega
  | succ n ih =>
    intro i a_many h1 h2 h3
    rw [wY_init_197]
    dsimp only
    by_cases hi : 6 ≤ i
    · have e : i = 6 := by omega
      subst e
      exact br_t (nI_le (a := 6) (b := 6) (by decide) (by decide)) (nm_e (nm_e (nm_e (nm_e (nm_e (nm_e (K _ h3)))))))
    have ii : vp_in (nI i) 6 := vp_in_nI (by omega) (by decide)
    rw [nI_clamp (n := i) (by omega)]
    have go : ∀ x : Int32, x = nI (if i = 0 ∨ i = 3 ∨ i = 5 then 1 else 2) → wY_init_197 post f_size f_stackSize f_fetchTime f_bankTime f_fetched f_done n (nI (i + 1)) a_op a_d a_a a_b a_register a_word (upd a_many i x) a_latency a_number a_kind a_target a_first a_second a_bankOf a_issue a_read a_access a_ready a_write a_unit a_packs a_lost := by
      intro x ex
      refine ih (i + 1) _ (by omega) (by omega) ?_
      intro u hu
      by_cases e : u = i
      · rw [e, pk_us, ex]
      · rw [pk_un e]; exact h3 u (by omega)
    refine br_f (nI_ge (b := 6) (by omega) (by decide)) ?_
    by_cases z0 : i = 0
    · exact br_t (by rw [z0]; rfl) ⟨ii, nm_e (nm_r (nI_1 i) (go 1 (by rw [if_pos (by omega)]; rfl)))⟩
    refine br_f (nI_ne0 (by omega) (by omega)) ?_
    by_cases z3 : i = 3
    · exact br_t (by rw [z3]; rfl) ⟨ii, nm_e (nm_r (nI_1 i) (go 1 (by rw [if_pos (by omega)]; rfl)))⟩
    refine br_f (fun z => z3 ((nI_eq (b := 3) (by omega) (by decide)).mp z)) ?_
    by_cases z5 : i = 5
    · exact br_t (by rw [z5]; rfl) ⟨ii, nm_e (nm_r (nI_1 i) (go 1 (by rw [if_pos (by omega)]; rfl)))⟩
    exact br_f (fun z => z5 ((nI_eq (b := 5) (by omega) (by decide)).mp z)) ⟨ii, nm_e (nm_r (nI_1 i) (go 2 (by rw [if_neg (by omega)]; rfl)))⟩
end
theorem i_vc0 : wpX_init (fun u => wpY_init (fun v => i_Rel 0 u v)) := by
  unfold wpX_init
  have b1 : vp_nar .byte 1 = nI 1 := sh_b0 (n := 1) (by decide)
  have b2 : vp_nar .byte 2 = nI 2 := sh_b0 (n := 2) (by decide)
  have b3 : vp_nar .byte 3 = nI 3 := sh_b0 (n := 3) (by decide)
  have b4 : vp_nar .byte 4 = nI 4 := sh_b0 (n := 4) (by decide)
  have b8 : vp_nar .byte 8 = nI 8 := sh_b0 (n := 8) (by decide)
  rw [b1, b2, b3, b4, b8]
  refine nm_e (nm_e (nm_e (nm_e (nm_e (nm_e (nm_e (nm_e (nm_e (nm_e (nm_e (nm_e ?_)))))))))))
  refine ⟨7, in_y ?_ 7 0 (fun _ => 0) (by decide) (by decide) (fun u hu => absurd hu (Nat.not_lt_zero _))⟩
  intro a_many hm
  refine ⟨⟨0, by omega, rfl, rfl, fun i hi => absurd hi (Nat.not_lt_zero _)⟩, ⟨⟨4, by omega, by omega, rfl, rfl⟩, ⟨2, by omega, by omega, rfl, rfl⟩, ⟨2, by omega, rfl, rfl⟩, ?_⟩, ⟨rfl, rfl⟩, ⟨0, by omega, rfl, rfl, fun i hi => absurd hi (Nat.not_lt_zero _), 0, fun _ => 0, rfl, by omega, fun i hi => absurd hi (Nat.not_lt_zero _), Or.inl rfl⟩, fun j hj => rfl⟩
  intro k hk
  rw [hm k hk]
  have h6 : k = 0 ∨ k = 1 ∨ k = 2 ∨ k = 3 ∨ k = 4 ∨ k = 5 := by omega
  rcases h6 with z | z | z | z | z | z <;> subst z
  · exact ⟨⟨1, by omega, by omega, rfl, rfl⟩, ⟨1, by omega, by omega, rfl, rfl⟩⟩
  · exact ⟨⟨2, by omega, by omega, rfl, rfl⟩, ⟨2, by omega, by omega, rfl, rfl⟩⟩
  · exact ⟨⟨2, by omega, by omega, rfl, rfl⟩, ⟨4, by omega, by omega, rfl, rfl⟩⟩
  · exact ⟨⟨1, by omega, by omega, rfl, rfl⟩, ⟨8, by omega, by omega, rfl, rfl⟩⟩
  · exact ⟨⟨2, by omega, by omega, rfl, rfl⟩, ⟨3, by omega, by omega, rfl, rfl⟩⟩
  · exact ⟨⟨1, by omega, by omega, rfl, rfl⟩, ⟨1, by omega, by omega, rfl, rfl⟩⟩
/-- how long the program runs -/
theorem dx_ex (P : sd_Pg) : ∃ (D : Nat) (out : Int32), D ≤ 60 ∧ (∀ k, k < D → sd_LV P k) ∧ xf_OUT P D out := by
  have h : ∀ n, (∀ k, k < n → sd_LV P k) ∨ ∃ D, D < n ∧ (∀ k, k < D → sd_LV P k) ∧ ¬ sd_LV P D := by
    intro n
    induction n with
    | zero => exact Or.inl (fun k hk => absurd hk (Nat.not_lt_zero _))
    | succ n ih =>
      rcases ih with h | ⟨D, h1, h2⟩
      · by_cases z : sd_LV P n
        · refine Or.inl (fun k hk => ?_)
          by_cases e : k = n
          · rw [e]; exact z
          · exact h k (by omega)
        · exact Or.inr ⟨n, by omega, h, z⟩
      · exact Or.inr ⟨D, by omega, h2⟩
  rcases h 60 with h | ⟨D, h1, h2, h3⟩
  · by_cases z : sd_LV P 60
    · exact ⟨60, 1, Nat.le_refl _, h, Or.inl ⟨rfl, z, rfl⟩⟩
    · exact ⟨60, 0, Nat.le_refl _, h, Or.inr ⟨z, rfl⟩⟩
  · exact ⟨D, 0, by omega, h2, Or.inr ⟨h3, rfl⟩⟩
theorem i_vc_run {k : Nat} {u : SX} {v : SY} (I : i_Rel k u v) (hk : k + 5 ≤ 2560) : wpX_run (fun r u' => wpY_run (fun r' v' => r' = r ∧ i_Rel (k + 5) u' v') v) u := by
  refine zz_el (Q := fun u v => wpX_run (fun r u' => wpY_run (fun r' v' => r' = r ∧ i_Rel (k + 5) u' v') v) u) ?_ I
  intro f_length f_bankTime f_size f_fetchTime f_atWork f_pc f_ready f_branching f_ended f_outcome f_cycle f_accesses f_memories f_done f_cycles a_op a_into a_left a_right a_register a_word a_many a_latency a_work a_place a_first a_second a_awaitsFirst a_awaitsSecond a_x a_y a_hasRead a_accessed a_due a_writer a_bankFree a_packs a_turn a_which a_kinds a_times a_unit a_lost y_f_size y_f_stackSize y_f_fetchTime y_f_bankTime y_f_fetched y_f_done y_a_op y_a_d y_a_a y_a_b y_a_register y_a_word y_a_many y_a_latency y_a_number y_a_kind y_a_target y_a_first y_a_second y_a_bankOf y_a_issue y_a_read y_a_access y_a_ready y_a_write y_a_unit y_a_packs y_a_lost hP hC hr hw hD
  have hP' := hP
  have hC' := hC
  obtain ⟨L, hL, e1, e2, hI⟩ := hP
  obtain ⟨⟨bt', b1, b2, b3, b4⟩, ⟨ss, s1, s2, s3, s4⟩, ⟨ft, f1, f2, f3⟩, hmc⟩ := hC
  have hmm : ∀ q, q < 6 → (1 ≤ (y_a_many q).toNatClampNeg ∧ (y_a_many q).toNatClampNeg ≤ 3 ∧ 1 ≤ (y_a_latency q).toNatClampNeg ∧ (y_a_latency q).toNatClampNeg ≤ 8) ∧ (a_many q = nI (y_a_many q).toNatClampNeg ∧ a_latency q = nI (y_a_latency q).toNatClampNeg) ∧ (y_a_many q = nI (y_a_many q).toNatClampNeg ∧ y_a_latency q = nI (y_a_latency q).toNatClampNeg) := by
    intro q hq
    obtain ⟨⟨m, m1, m2, m3, m4⟩, ⟨l, l1, l2, l3, l4⟩⟩ := hmc q hq
    have em := nI_clamp (n := m) (by omega)
    have el := nI_clamp (n := l) (by omega)
    rw [m4, l4, em, el]
    exact ⟨⟨m1, m2, l1, l2⟩, ⟨m3, l3⟩, ⟨rfl, rfl⟩⟩
  have hx : ∃ P : sd_Pg, P = (y_a_op, y_a_d, y_a_a, y_a_b, L, (fun q => (y_a_many q).toNatClampNeg), (fun q => (y_a_latency q).toNatClampNeg), ss, ft, bt', a_register, a_word) := ⟨_, rfl⟩
  obtain ⟨P, eP⟩ := hx
  have V : sd_VP P := by
    rw [eP]
    exact ⟨hL, fun i hi => (hI i hi).1, fun q hq => (hmm q hq).1, ⟨s1, s2⟩, f1, ⟨b1, b2⟩⟩
  obtain ⟨D, out, hD60, hLV, hO⟩ := dx_ex P
  have H : sd_OK P D := ⟨V, hD60, hLV⟩
  have egs : sd_gs P = L := by rw [eP]; rfl
  have hS : xx_ST P a_op a_into a_left a_right a_many a_latency := by
    refine ⟨?_, ?_⟩
    · intro i hi
      have hv := ls_vi V hi
      rw [egs] at hi
      obtain ⟨g1, g2, g3, g4, g5⟩ := hI i hi
      have ep1 : P.1 i = y_a_op i := by rw [eP]
      have ep2 : P.2.1 i = y_a_d i := by rw [eP]
      have ep3 : sd_gA P i = y_a_a i := by rw [eP]; rfl
      have ep4 : sd_gB P i = y_a_b i := by rw [eP]; rfl
      refine ⟨by rw [g2, ← ep1]; exact hv.1, fun h => ?_, by rw [g4, ep3], by rw [g5, ep4]⟩
      rw [g3 (by rw [← ep1]; exact h), ← ep2]
      exact (hv.2.2.1 h).2
    · intro q hq
      have h := (hmm q hq).2.1
      rw [eP]; exact h
  have hS2 : ys_ST P y_a_many y_a_latency := by
    intro q hq
    have h := (hmm q hq).2.2
    rw [eP]; exact h
  have hPP : ys_P P y_a_op y_a_d y_a_a y_a_b := by
    rw [eP]; exact fun i _ => ⟨rfl, rfl, rfl, rfl⟩
  have hl1 : f_length = nI (sd_gs P) := by rw [egs]; exact e1
  have hl2 : y_f_size = nI (sd_gs P) := by rw [egs]; exact e2
  have hs1 : f_size = nI (sd_gS P) := by rw [eP]; exact s3
  have hs2 : y_f_stackSize = nI (sd_gS P) := by rw [eP]; exact s4
  have hf1 : f_fetchTime = nI (sd_gf P) := by rw [eP]; exact f2
  have hf2 : y_f_fetchTime = nI (sd_gf P) := by rw [eP]; exact f3
  have hb1 : f_bankTime = nI (sd_gt P) := by rw [eP]; exact b3
  have hb2 : y_f_bankTime = nI (sd_gt P) := by rw [eP]; exact b4
  have hr1 : a_register = sd_gR P := by rw [eP]; rfl
  have hw1 : a_word = sd_gM P := by rw [eP]; rfl
  have hr2 : y_a_register = sd_gR P := by rw [hr]; exact hr1
  have hw2 : y_a_word = sd_gM P := by rw [hw]; exact hw1
  refine rn_run (P := P) (D := D) (out := out) H hS hl1 hs1 hf1 hb1 hO hr1 hw1 ?_
  intro f_atWork f_pc f_ready f_branching f_ended f_cycle f_accesses f_memories f_done f_cycles a_register a_word a_work a_place a_first a_second a_awaitsFirst a_awaitsSecond a_x a_y a_hasRead a_accessed a_due a_writer a_bankFree a_packs a_turn a_which a_kinds a_times a_unit a_lost hE
  refine yr_run (P := P) (D := D) (out := out) H hl2 hb2 hs2 hf2 hS2 hPP hO hr2 hw2 ?_
  intro y_f_fetched y_a_number y_a_kind y_a_target y_a_first y_a_second y_a_bankOf y_a_issue y_a_read y_a_access y_a_ready y_a_write y_a_unit y_a_packs y_a_lost N R
  obtain ⟨x1, x2, x3, x4, x5, x6, q, q1, q2, q3, q4⟩ := hE
  obtain ⟨r1, T, r3, r4⟩ := R
  refine ⟨rfl, hP', hC', ⟨x2.symm, x3.symm⟩, ⟨D, hD60, x1, rfl, ?_, q, sd_wr P, q1, q2, ?_, q4⟩, ?_⟩
  · intro j hj
    obtain ⟨n1, n2, n3, n4, n5, n6⟩ := N j hj
    obtain ⟨t1, t2, t3, t4, t5, t6⟩ := T j hj
    obtain ⟨w1, w2, w3⟩ := x4 j hj
    obtain ⟨v1, v2, v3, v4⟩ := x5 j hj
    exact ⟨w1.trans n1.symm, w2.trans n2.symm, w3.trans t6.symm, v1.trans t1.symm, v2.trans t2.symm, v3.trans t4.symm, v4.trans t5.symm⟩
  · exact fun j hj => ⟨(T j hj).2.2.2.2.1, q3 j hj⟩
  · intro j hj
    have h7 : j = 0 ∨ j = 1 ∨ j = 2 ∨ j = 3 ∨ j = 4 ∨ j = 5 ∨ j = 6 := by omega
    rcases h7 with z | z | z | z | z | z | z
    · rw [z]; exact x6.1.trans r4.1.symm
    · rw [z]; exact x6.2.1.trans r4.2.1.symm
    · rw [z]; exact x6.2.2.1.trans r4.2.2.1.symm
    · rw [z]; exact x6.2.2.2.1.trans r4.2.2.2.1.symm
    · rw [z]; exact x6.2.2.2.2.1.trans r4.2.2.2.2.1.symm
    · rw [z]; exact x6.2.2.2.2.2.1.trans r4.2.2.2.2.2.1.symm
    · rw [z]; exact x6.2.2.2.2.2.2.trans r4.2.2.2.2.2.2.symm
end

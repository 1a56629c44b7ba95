section
/-! pure rows to paste: stores, nI and lN arithmetic, masks, shifts, narrowing, branches by naturals (pk_le, pk_lt, pk_eq), loops (lp1 .. lp16: the measure of the state; rp1 ..: recursion), negatives. Take what you need -/
theorem pk_us {f : Nat → Int32} {k : Nat} {x : Int32} : upd f k x k = x := if_pos rfl
theorem pk_un {f : Nat → Int32} {k j : Nat} {x : Int32} (h : j ≠ k) : upd f k x j = f j := if_neg h
theorem pk_uLs {f : Nat → Int64} {k : Nat} {x : Int64} : vp_updL f k x k = x := if_pos rfl
theorem pk_uLn {f : Nat → Int64} {k j : Nat} {x : Int64} (h : j ≠ k) : vp_updL f k x j = f j := if_neg h
theorem pk_sub {a b : Nat} (h : b ≤ a) : nI a - nI b = nI (a - b) := by
  obtain ⟨c, rfl⟩ : ∃ c, a = c + b := ⟨a - b, by omega⟩
  rw [← nI_add, Int32.add_sub_cancel, Nat.add_sub_cancel]
theorem pk_m1 (n : Nat) : nI (n + 1) + (-1) = nI n := by
  rw [← nI_1, Int32.add_assoc, show (1 : Int32) + (-1) = 0 from rfl, Int32.add_zero]
theorem pk_mul (a b : Nat) : nI a * nI b = nI (a * b) := (Int32.ofNat_mul a b).symm
theorem pk_div {a d : Nat} (ha : a < 2 ^ 31) (h0 : 0 < d) (hd : d < 2 ^ 31) : nI a / nI d = nI (a / d) := by
  apply Int32.toInt_inj.mp
  rw [lg_idiv_nonneg (by rw [nI_toInt ha]; omega) (by rw [nI_toInt hd]; omega), nI_toInt ha, nI_toInt hd, nI_toInt (Nat.lt_of_le_of_lt (Nat.div_le_self a d) ha)]
  first | rfl | exact (Int.natCast_ediv _ _).symm
theorem pk_rem {a d : Nat} (ha : a < 2 ^ 31) (h0 : 0 < d) (hd : d < 2 ^ 31) : nI a - nI a / nI d * nI d = nI (a % d) := by
  rw [pk_div ha h0 hd, pk_mul, pk_sub (Nat.div_mul_le_self a d)]
  exact congrArg nI (by have := Nat.div_add_mod' a d; omega)
theorem pk_sub_toInt {a b : Nat} (ha : a < 2 ^ 30) (hb : b < 2 ^ 30) : (nI a - nI b).toInt = (a : Int) - b := by
  rw [Int32.toInt_sub, nI_toInt (by omega), nI_toInt (by omega)]
  exact Int.bmod_eq_of_le (by omega) (by omega)
theorem pk_sneg {a b : Nat} (hb : b < 2 ^ 30) (h : a < b) : nI a - nI b < 0 := by
  rw [Int32.lt_iff_toInt_lt, pk_sub_toInt (by omega) hb, show (0 : Int32).toInt = 0 from by decide]
  omega
theorem pk_ix (x : Int32) {n : Nat} (hn : n < 2 ^ 31) : x < 0 ∨ nI n ≤ x ∨ ∃ j : Nat, j < n ∧ x = nI j := by
  by_cases h : x < 0
  · exact Or.inl h
  · obtain ⟨j, hj, rfl⟩ := nI_of h
    by_cases h2 : j < n
    · exact Or.inr (Or.inr ⟨j, h2, rfl⟩)
    · exact Or.inr (Or.inl (nI_le (by omega) hj))
theorem pk_le {x y : Int32} {A B : Prop} (a b : Nat) (f : a ≤ b → A) (g : b < a → B) (hx : x = nI a := by rfl) (hy : y = nI b := by rfl) (ha : a < 2 ^ 31 := by omega) (hb : b < 2 ^ 31 := by omega) : (x ≤ y → A) ∧ (¬ x ≤ y → B) := by
  subst hx hy
  rw [nI_leI ha hb]
  exact ⟨f, fun z => g (by omega)⟩
theorem pk_lt {x y : Int32} {A B : Prop} (a b : Nat) (f : a < b → A) (g : b ≤ a → B) (hx : x = nI a := by rfl) (hy : y = nI b := by rfl) (ha : a < 2 ^ 31 := by omega) (hb : b < 2 ^ 31 := by omega) : (x < y → A) ∧ (¬ x < y → B) := by
  subst hx hy
  rw [nI_ltI ha hb]
  exact ⟨f, fun z => g (by omega)⟩
theorem pk_eq {x y : Int32} {A B : Prop} (a b : Nat) (f : a = b → A) (g : a ≠ b → B) (hx : x = nI a := by rfl) (hy : y = nI b := by rfl) (ha : a < 2 ^ 31 := by omega) (hb : b < 2 ^ 31 := by omega) : (x = y → A) ∧ (¬ x = y → B) := by
  subst hx hy
  rw [nI_eq ha hb]
  exact ⟨f, g⟩
theorem pk_in {x : Int32} (n N : Nat) (h : n < N) (hx : x = nI n := by rfl) (hN : N < 2 ^ 31 := by omega) : vp_in x N := by
  subst hx
  exact vp_in_nI h hN
theorem pk_cl {x : Int32} (n : Nat) (hx : x = nI n := by rfl) (h : n < 2 ^ 31 := by omega) : x.toNatClampNeg = n := by
  subst hx
  exact nI_clamp h
theorem pk_tn {n : Nat} (h : n < 2 ^ 32) : (nI n).toBitVec.toNat = n := Nat.mod_eq_of_lt h
theorem pk_and (x : Int32) {m : Int32} (k : Nat) (hm : m.toBitVec.toNat = 2 ^ k - 1) : x &&& m = nI (x.toBitVec.toNat % 2 ^ k) := by
  apply Int32.toBitVec_inj.mp
  apply BitVec.eq_of_toNat_eq
  rw [Int32.toBitVec_and, BitVec.toNat_and, hm, Nat.and_two_pow_sub_one_eq_mod]
  show _ = (BitVec.ofNat 32 _).toNat
  rw [BitVec.toNat_ofNat]
  exact (Nat.mod_eq_of_lt (Nat.lt_of_le_of_lt (Nat.mod_le _ _) x.toBitVec.isLt)).symm
theorem pk_andN {n : Nat} (h : n < 2 ^ 32) {m : Int32} (k : Nat) (hm : m.toBitVec.toNat = 2 ^ k - 1) : nI n &&& m = nI (n % 2 ^ k) := by
  rw [pk_and _ k hm, pk_tn h]
theorem pk_andE (x : Int32) {m : Int32} (k : Nat) (hm : m.toBitVec.toNat = 2 ^ k - 1) : ∃ j : Nat, j < 2 ^ k ∧ x &&& m = nI j := ⟨_, Nat.mod_lt _ (Nat.two_pow_pos k), pk_and x k hm⟩
theorem pk_andIn (x : Int32) {m : Int32} (k : Nat) (hm : m.toBitVec.toNat = 2 ^ k - 1) (hk : k ≤ 30) : vp_in (x &&& m) (2 ^ k) := by
  obtain ⟨j, hj, e⟩ := pk_andE x k hm
  rw [e]
  exact vp_in_nI hj (Nat.lt_of_le_of_lt (Nat.pow_le_pow_right (by decide) hk) (by decide))
theorem pk_shl (a s : Int32) (k : Nat) (hs : (s.toBitVec.smod 32).toNat = k) : (a <<< s).toBitVec.toNat = a.toBitVec.toNat * 2 ^ k % 2 ^ 32 := by
  show (a.toBitVec <<< (s.toBitVec.smod 32).toNat).toNat = _
  rw [hs, BitVec.toNat_shiftLeft, Nat.shiftLeft_eq]
theorem pk_shlN {n : Nat} (s : Int32) (k : Nat) (hs : (s.toBitVec.smod 32).toNat = k) (h : n * 2 ^ k < 2 ^ 32) : nI n <<< s = nI (n * 2 ^ k) := by
  apply Int32.toBitVec_inj.mp
  apply BitVec.eq_of_toNat_eq
  have hn : n < 2 ^ 32 := Nat.lt_of_le_of_lt (Nat.le_mul_of_pos_right n (Nat.two_pow_pos k)) h
  rw [pk_shl _ _ k hs, pk_tn hn, pk_tn h, Nat.mod_eq_of_lt h]
theorem pk_shr (a s : Int32) (k : Nat) (hs : (s.toBitVec.smod 32).toNat = k) : (a >>> s).toInt = a.toInt >>> k := by
  show (a.toBitVec.sshiftRight (s.toBitVec.smod 32).toNat).toInt = _
  rw [hs, BitVec.toInt_sshiftRight]
  rfl
theorem pk_shrN {n : Nat} (h : n < 2 ^ 31) (s : Int32) (k : Nat) (hs : (s.toBitVec.smod 32).toNat = k) : nI n >>> s = nI (n / 2 ^ k) := by
  apply Int32.toInt_inj.mp
  have h2 : n / 2 ^ k ≤ n := Nat.div_le_self _ _
  rw [pk_shr _ _ k hs, nI_toInt h, nI_toInt (by omega), Int.shiftRight_eq_div_pow]
  rfl
theorem pk_ushr (x s : Int32) (k : Nat) (hs : ((s.toUInt32 &&& Int32.toUInt32 31).toBitVec % 32).toNat = k) : (x.toUInt32 >>> (s.toUInt32 &&& Int32.toUInt32 31)).toInt32.toBitVec.toNat = x.toBitVec.toNat / 2 ^ k := by
  have e : (x.toUInt32 >>> (s.toUInt32 &&& Int32.toUInt32 31)).toInt32.toBitVec = x.toBitVec >>> k := by
    rw [← hs]
    exact UInt32.toBitVec_shiftRight _ _
  rw [e, BitVec.toNat_ushiftRight, Nat.shiftRight_eq_div_pow]
theorem pk_ushrN {n : Nat} (hn : n < 2 ^ 32) (s : Int32) (k : Nat) (hs : ((s.toUInt32 &&& Int32.toUInt32 31).toBitVec % 32).toNat = k) : ((nI n).toUInt32 >>> (s.toUInt32 &&& Int32.toUInt32 31)).toInt32 = nI (n / 2 ^ k) := by
  apply Int32.toBitVec_inj.mp
  apply BitVec.eq_of_toNat_eq
  rw [pk_ushr _ s k hs, pk_tn hn, pk_tn (Nat.lt_of_le_of_lt (Nat.div_le_self _ _) hn)]
theorem pk_nb (z : Int32) : narrow .byte (.int z.toInt8.toInt32) = .int z.toInt8.toInt32 := congrArg Value.int (by simp)
theorem pk_ns (z : Int32) : narrow .short (.int z.toInt16.toInt32) = .int z.toInt16.toInt32 := congrArg Value.int (by simp)
theorem pk_fb (r : Int32) : fits .byte (.int r.toInt8.toInt32) = true := by
  have ⟨a, b⟩ := lg_i2b_range r
  have h1 : (-128 : Int32).toInt = -128 := by decide
  have h2 : (127 : Int32).toInt = 127 := by decide
  simp only [fits, Bool.and_eq_true, decide_eq_true_eq, Int32.le_iff_toInt_le, h1, h2]
  omega
theorem pk_fs (r : Int32) : fits .short (.int r.toInt16.toInt32) = true := by
  have ⟨a, b⟩ := lg_i2s_range r
  have h1 : (-32768 : Int32).toInt = -32768 := by decide
  have h2 : (32767 : Int32).toInt = 32767 := by decide
  simp only [fits, Bool.and_eq_true, decide_eq_true_eq, Int32.le_iff_toInt_le, h1, h2]
  omega
theorem pk_charN {q : Nat} (hq : q < 65536) : narrow .char (.int (nI q)) = .int (nI q) ∧ fits .char (.int (nI q)) = true := by
  constructor
  · have e : (nI q).toUInt32.toUInt16.toUInt32.toInt32 = nI q := by
      apply Int32.toBitVec_inj.mp
      apply BitVec.eq_of_toNat_eq
      show (nI q).toUInt32.toUInt16.toUInt32.toNat = q % 2 ^ 32
      rw [UInt16.toNat_toUInt32, UInt32.toNat_toUInt16, show (nI q).toUInt32.toNat = q % 2 ^ 32 from rfl]
      omega
    exact congrArg Value.int e
  · have a : (0 : Int32) ≤ nI q := nI_pos' (by omega)
    have b : nI q ≤ 65535 := nI_le (b := 65535) (by omega) (by decide)
    show (decide ((0 : Int32) ≤ nI q) && decide (nI q ≤ 65535)) = true
    rw [decide_eq_true a, decide_eq_true b]
    rfl
theorem pk_char (x : Int32) : (x.toUInt32 % 65536).toInt32 = nI (x.toBitVec.toNat % 65536) := by
  apply Int32.toBitVec_inj.mp
  apply BitVec.eq_of_toNat_eq
  rw [pk_tn (by omega)]
  show (x.toUInt32 % 65536).toNat = _
  rw [UInt32.toNat_mod]
  rfl
theorem pk_nc (x : Int32) : narrow .char (.int (x.toUInt32 % 65536).toInt32) = .int (x.toUInt32 % 65536).toInt32 := by
  rw [pk_char]
  exact (pk_charN (Nat.mod_lt _ (by decide))).1
theorem pk_fc (x : Int32) : fits .char (.int (x.toUInt32 % 65536).toInt32) = true := by
  rw [pk_char]
  exact (pk_charN (Nat.mod_lt _ (by decide))).2
theorem pk_vb (z : Int32) : vp_nar .byte z.toInt8.toInt32 = z.toInt8.toInt32 := by rw [vp_nar_byte]; simp
theorem pk_vs (z : Int32) : vp_nar .short z.toInt16.toInt32 = z.toInt16.toInt32 := by rw [vp_nar_short]; simp
theorem pk_vc (z : Int32) : vp_nar .char (z.toUInt32 % 65536).toInt32 = (z.toUInt32 % 65536).toInt32 := Value.int.inj (pk_nc z)
theorem pk_lT {n : Nat} (h : n < 2 ^ 63) : (lN n).toInt = (n : Int) := lg_ofNat_toInt h
theorem pk_lLT {a b : Nat} (ha : a < 2 ^ 63) (hb : b < 2 ^ 63) : lN a < lN b ↔ a < b := by
  rw [Int64.lt_iff_toInt_lt, pk_lT ha, pk_lT hb]; omega
theorem pk_lLE {a b : Nat} (ha : a < 2 ^ 63) (hb : b < 2 ^ 63) : lN a ≤ lN b ↔ a ≤ b := by
  rw [Int64.le_iff_toInt_le, pk_lT ha, pk_lT hb]; omega
theorem pk_lEQ {a b : Nat} (ha : a < 2 ^ 63) (hb : b < 2 ^ 63) : lN a = lN b ↔ a = b := by
  rw [← Int64.toInt_inj, pk_lT ha, pk_lT hb]; omega
theorem pk_lOf {x : Int64} (h : ¬ x < 0) : ∃ k : Nat, k < 2 ^ 63 ∧ x = lN k := by
  rw [Int64.lt_iff_toInt_lt] at h
  have h0 : (0 : Int64).toInt = 0 := by decide
  have hx := Int64.toInt_lt x
  refine ⟨x.toInt.toNat, by omega, Int64.toInt_inj.mp ?_⟩
  rw [pk_lT (by omega)]
  omega
theorem pk_lDiv {a b : Nat} (ha : a < 2 ^ 63) (h0 : 0 < b) (hb : b < 2 ^ 63) : lN a / lN b = lN (a / b) := by
  apply Int64.toInt_inj.mp
  rw [lg_ldiv_nonneg (by rw [pk_lT ha]; omega) (by rw [pk_lT hb]; omega), pk_lT ha, pk_lT hb, pk_lT (Nat.lt_of_le_of_lt (Nat.div_le_self a b) ha)]
  rfl
theorem pk_lRem {a b : Nat} (ha : a < 2 ^ 63) (h0 : 0 < b) (hb : b < 2 ^ 63) : lN a - lN a / lN b * lN b = lN (a % b) := by
  rw [pk_lDiv ha h0 hb, lN_mul, lN_sub (Nat.div_mul_le_self a b)]
  exact congrArg lN (by have := Nat.div_add_mod' a b; omega)
theorem pk_loop {σ : Type} (W : Nat → Nat → σ → Prop) (I : Nat → σ → Prop) (e i0 : Nat) (s : σ) (hi : i0 ≤ e) (h0 : I i0 s) (hx : ∀ n s, I e s → W (n + 1) e s)
    (hs : ∀ n i s, i < e → I i s → (∀ s', I (i + 1) s' → W n (i + 1) s') → W (n + 1) i s) : ∃ n, W n i0 s :=
  ⟨e + 1, loop_i W I e hx hs (e + 1) i0 s hi (by omega) h0⟩
theorem pk_loopD {σ : Type} (W : Nat → Nat → σ → Prop) (I : Nat → σ → Prop) (hx : ∀ n s, I 0 s → W (n + 1) 0 s)
    (hs : ∀ n i s, I (i + 1) s → (∀ s', I i s' → W n i s') → W (n + 1) (i + 1) s) : ∀ (e : Nat) (s : σ), I e s → W (e + 1) e s := by
  intro e
  induction e with
  | zero => exact fun s h => hx 0 s h
  | succ e ih => exact fun s h => hs (e + 1) e s h (fun s' h' => ih s' h')
theorem lp1 {A1 : Type} (W : Nat → A1 → Prop) (I : A1 → Prop) (μ : A1 → Nat) (hs : ∀ (n : Nat) (a1 : A1), I a1 → (∀ (b1 : A1), I b1 → μ b1 < μ a1 → W n b1) → W (n + 1) a1) (a1 : A1) (h : I a1) : ∃ n, W n a1 :=
  loop_m (σ := A1) (fun n s => W n s) (fun s => I s) (fun s => μ s) (fun n s hI hk => hs n s hI (fun b1 h9 hm => hk b1 h9 hm)) a1 h
theorem lp2 {A1 A2 : Type} (W : Nat → A1 → A2 → Prop) (I : A1 → A2 → Prop) (μ : A1 → A2 → Nat) (hs : ∀ (n : Nat) (a1 : A1) (a2 : A2), I a1 a2 → (∀ (b1 : A1) (b2 : A2), I b1 b2 → μ b1 b2 < μ a1 a2 → W n b1 b2) → W (n + 1) a1 a2) (a1 : A1) (a2 : A2) (h : I a1 a2) : ∃ n, W n a1 a2 :=
  loop_m (σ := A1 × A2) (fun n s => W n s.1 s.2) (fun s => I s.1 s.2) (fun s => μ s.1 s.2) (fun n s hI hk => hs n s.1 s.2 hI (fun b1 b2 h9 hm => hk (b1, b2) h9 hm)) (a1, a2) h
theorem lp3 {A1 A2 A3 : Type} (W : Nat → A1 → A2 → A3 → Prop) (I : A1 → A2 → A3 → Prop) (μ : A1 → A2 → A3 → Nat) (hs : ∀ (n : Nat) (a1 : A1) (a2 : A2) (a3 : A3), I a1 a2 a3 → (∀ (b1 : A1) (b2 : A2) (b3 : A3), I b1 b2 b3 → μ b1 b2 b3 < μ a1 a2 a3 → W n b1 b2 b3) → W (n + 1) a1 a2 a3) (a1 : A1) (a2 : A2) (a3 : A3) (h : I a1 a2 a3) : ∃ n, W n a1 a2 a3 :=
  loop_m (σ := A1 × A2 × A3) (fun n s => W n s.1 s.2.1 s.2.2) (fun s => I s.1 s.2.1 s.2.2) (fun s => μ s.1 s.2.1 s.2.2) (fun n s hI hk => hs n s.1 s.2.1 s.2.2 hI (fun b1 b2 b3 h9 hm => hk (b1, b2, b3) h9 hm)) (a1, a2, a3) h
theorem lp4 {A1 A2 A3 A4 : Type} (W : Nat → A1 → A2 → A3 → A4 → Prop) (I : A1 → A2 → A3 → A4 → Prop) (μ : A1 → A2 → A3 → A4 → Nat) (hs : ∀ (n : Nat) (a1 : A1) (a2 : A2) (a3 : A3) (a4 : A4), I a1 a2 a3 a4 → (∀ (b1 : A1) (b2 : A2) (b3 : A3) (b4 : A4), I b1 b2 b3 b4 → μ b1 b2 b3 b4 < μ a1 a2 a3 a4 → W n b1 b2 b3 b4) → W (n + 1) a1 a2 a3 a4) (a1 : A1) (a2 : A2) (a3 : A3) (a4 : A4) (h : I a1 a2 a3 a4) : ∃ n, W n a1 a2 a3 a4 :=
  loop_m (σ := A1 × A2 × A3 × A4) (fun n s => W n s.1 s.2.1 s.2.2.1 s.2.2.2) (fun s => I s.1 s.2.1 s.2.2.1 s.2.2.2) (fun s => μ s.1 s.2.1 s.2.2.1 s.2.2.2) (fun n s hI hk => hs n s.1 s.2.1 s.2.2.1 s.2.2.2 hI (fun b1 b2 b3 b4 h9 hm => hk (b1, b2, b3, b4) h9 hm)) (a1, a2, a3, a4) h
theorem lp5 {A1 A2 A3 A4 A5 : Type} (W : Nat → A1 → A2 → A3 → A4 → A5 → Prop) (I : A1 → A2 → A3 → A4 → A5 → Prop) (μ : A1 → A2 → A3 → A4 → A5 → Nat) (hs : ∀ (n : Nat) (a1 : A1) (a2 : A2) (a3 : A3) (a4 : A4) (a5 : A5), I a1 a2 a3 a4 a5 → (∀ (b1 : A1) (b2 : A2) (b3 : A3) (b4 : A4) (b5 : A5), I b1 b2 b3 b4 b5 → μ b1 b2 b3 b4 b5 < μ a1 a2 a3 a4 a5 → W n b1 b2 b3 b4 b5) → W (n + 1) a1 a2 a3 a4 a5) (a1 : A1) (a2 : A2) (a3 : A3) (a4 : A4) (a5 : A5) (h : I a1 a2 a3 a4 a5) : ∃ n, W n a1 a2 a3 a4 a5 :=
  loop_m (σ := A1 × A2 × A3 × A4 × A5) (fun n s => W n s.1 s.2.1 s.2.2.1 s.2.2.2.1 s.2.2.2.2) (fun s => I s.1 s.2.1 s.2.2.1 s.2.2.2.1 s.2.2.2.2) (fun s => μ s.1 s.2.1 s.2.2.1 s.2.2.2.1 s.2.2.2.2) (fun n s hI hk => hs n s.1 s.2.1 s.2.2.1 s.2.2.2.1 s.2.2.2.2 hI (fun b1 b2 b3 b4 b5 h9 hm => hk (b1, b2, b3, b4, b5) h9 hm)) (a1, a2, a3, a4, a5) h
theorem lp6 {A1 A2 A3 A4 A5 A6 : Type} (W : Nat → A1 → A2 → A3 → A4 → A5 → A6 → Prop) (I : A1 → A2 → A3 → A4 → A5 → A6 → Prop) (μ : A1 → A2 → A3 → A4 → A5 → A6 → Nat) (hs : ∀ (n : Nat) (a1 : A1) (a2 : A2) (a3 : A3) (a4 : A4) (a5 : A5) (a6 : A6), I a1 a2 a3 a4 a5 a6 → (∀ (b1 : A1) (b2 : A2) (b3 : A3) (b4 : A4) (b5 : A5) (b6 : A6), I b1 b2 b3 b4 b5 b6 → μ b1 b2 b3 b4 b5 b6 < μ a1 a2 a3 a4 a5 a6 → W n b1 b2 b3 b4 b5 b6) → W (n + 1) a1 a2 a3 a4 a5 a6) (a1 : A1) (a2 : A2) (a3 : A3) (a4 : A4) (a5 : A5) (a6 : A6) (h : I a1 a2 a3 a4 a5 a6) : ∃ n, W n a1 a2 a3 a4 a5 a6 :=
  loop_m (σ := A1 × A2 × A3 × A4 × A5 × A6) (fun n s => W n s.1 s.2.1 s.2.2.1 s.2.2.2.1 s.2.2.2.2.1 s.2.2.2.2.2) (fun s => I s.1 s.2.1 s.2.2.1 s.2.2.2.1 s.2.2.2.2.1 s.2.2.2.2.2) (fun s => μ s.1 s.2.1 s.2.2.1 s.2.2.2.1 s.2.2.2.2.1 s.2.2.2.2.2) (fun n s hI hk => hs n s.1 s.2.1 s.2.2.1 s.2.2.2.1 s.2.2.2.2.1 s.2.2.2.2.2 hI (fun b1 b2 b3 b4 b5 b6 h9 hm => hk (b1, b2, b3, b4, b5, b6) h9 hm)) (a1, a2, a3, a4, a5, a6) h
theorem lp7 {A1 A2 A3 A4 A5 A6 A7 : Type} (W : Nat → A1 → A2 → A3 → A4 → A5 → A6 → A7 → Prop) (I : A1 → A2 → A3 → A4 → A5 → A6 → A7 → Prop) (μ : A1 → A2 → A3 → A4 → A5 → A6 → A7 → Nat) (hs : ∀ (n : Nat) (a1 : A1) (a2 : A2) (a3 : A3) (a4 : A4) (a5 : A5) (a6 : A6) (a7 : A7), I a1 a2 a3 a4 a5 a6 a7 → (∀ (b1 : A1) (b2 : A2) (b3 : A3) (b4 : A4) (b5 : A5) (b6 : A6) (b7 : A7), I b1 b2 b3 b4 b5 b6 b7 → μ b1 b2 b3 b4 b5 b6 b7 < μ a1 a2 a3 a4 a5 a6 a7 → W n b1 b2 b3 b4 b5 b6 b7) → W (n + 1) a1 a2 a3 a4 a5 a6 a7) (a1 : A1) (a2 : A2) (a3 : A3) (a4 : A4) (a5 : A5) (a6 : A6) (a7 : A7) (h : I a1 a2 a3 a4 a5 a6 a7) : ∃ n, W n a1 a2 a3 a4 a5 a6 a7 :=
  loop_m (σ := A1 × A2 × A3 × A4 × A5 × A6 × A7) (fun n s => W n s.1 s.2.1 s.2.2.1 s.2.2.2.1 s.2.2.2.2.1 s.2.2.2.2.2.1 s.2.2.2.2.2.2) (fun s => I s.1 s.2.1 s.2.2.1 s.2.2.2.1 s.2.2.2.2.1 s.2.2.2.2.2.1 s.2.2.2.2.2.2) (fun s => μ s.1 s.2.1 s.2.2.1 s.2.2.2.1 s.2.2.2.2.1 s.2.2.2.2.2.1 s.2.2.2.2.2.2) (fun n s hI hk => hs n s.1 s.2.1 s.2.2.1 s.2.2.2.1 s.2.2.2.2.1 s.2.2.2.2.2.1 s.2.2.2.2.2.2 hI (fun b1 b2 b3 b4 b5 b6 b7 h9 hm => hk (b1, b2, b3, b4, b5, b6, b7) h9 hm)) (a1, a2, a3, a4, a5, a6, a7) h
theorem lp8 {A1 A2 A3 A4 A5 A6 A7 A8 : Type} (W : Nat → A1 → A2 → A3 → A4 → A5 → A6 → A7 → A8 → Prop) (I : A1 → A2 → A3 → A4 → A5 → A6 → A7 → A8 → Prop) (μ : A1 → A2 → A3 → A4 → A5 → A6 → A7 → A8 → Nat) (hs : ∀ (n : Nat) (a1 : A1) (a2 : A2) (a3 : A3) (a4 : A4) (a5 : A5) (a6 : A6) (a7 : A7) (a8 : A8), I a1 a2 a3 a4 a5 a6 a7 a8 → (∀ (b1 : A1) (b2 : A2) (b3 : A3) (b4 : A4) (b5 : A5) (b6 : A6) (b7 : A7) (b8 : A8), I b1 b2 b3 b4 b5 b6 b7 b8 → μ b1 b2 b3 b4 b5 b6 b7 b8 < μ a1 a2 a3 a4 a5 a6 a7 a8 → W n b1 b2 b3 b4 b5 b6 b7 b8) → W (n + 1) a1 a2 a3 a4 a5 a6 a7 a8) (a1 : A1) (a2 : A2) (a3 : A3) (a4 : A4) (a5 : A5) (a6 : A6) (a7 : A7) (a8 : A8) (h : I a1 a2 a3 a4 a5 a6 a7 a8) : ∃ n, W n a1 a2 a3 a4 a5 a6 a7 a8 :=
  loop_m (σ := A1 × A2 × A3 × A4 × A5 × A6 × A7 × A8) (fun n s => W n s.1 s.2.1 s.2.2.1 s.2.2.2.1 s.2.2.2.2.1 s.2.2.2.2.2.1 s.2.2.2.2.2.2.1 s.2.2.2.2.2.2.2) (fun s => I s.1 s.2.1 s.2.2.1 s.2.2.2.1 s.2.2.2.2.1 s.2.2.2.2.2.1 s.2.2.2.2.2.2.1 s.2.2.2.2.2.2.2) (fun s => μ s.1 s.2.1 s.2.2.1 s.2.2.2.1 s.2.2.2.2.1 s.2.2.2.2.2.1 s.2.2.2.2.2.2.1 s.2.2.2.2.2.2.2) (fun n s hI hk => hs n s.1 s.2.1 s.2.2.1 s.2.2.2.1 s.2.2.2.2.1 s.2.2.2.2.2.1 s.2.2.2.2.2.2.1 s.2.2.2.2.2.2.2 hI (fun b1 b2 b3 b4 b5 b6 b7 b8 h9 hm => hk (b1, b2, b3, b4, b5, b6, b7, b8) h9 hm)) (a1, a2, a3, a4, a5, a6, a7, a8) h
theorem lp9 {A1 A2 A3 A4 A5 A6 A7 A8 A9 : Type} (W : Nat → A1 → A2 → A3 → A4 → A5 → A6 → A7 → A8 → A9 → Prop) (I : A1 → A2 → A3 → A4 → A5 → A6 → A7 → A8 → A9 → Prop) (μ : A1 → A2 → A3 → A4 → A5 → A6 → A7 → A8 → A9 → Nat) (hs : ∀ (n : Nat) (a1 : A1) (a2 : A2) (a3 : A3) (a4 : A4) (a5 : A5) (a6 : A6) (a7 : A7) (a8 : A8) (a9 : A9), I a1 a2 a3 a4 a5 a6 a7 a8 a9 → (∀ (b1 : A1) (b2 : A2) (b3 : A3) (b4 : A4) (b5 : A5) (b6 : A6) (b7 : A7) (b8 : A8) (b9 : A9), I b1 b2 b3 b4 b5 b6 b7 b8 b9 → μ b1 b2 b3 b4 b5 b6 b7 b8 b9 < μ a1 a2 a3 a4 a5 a6 a7 a8 a9 → W n b1 b2 b3 b4 b5 b6 b7 b8 b9) → W (n + 1) a1 a2 a3 a4 a5 a6 a7 a8 a9) (a1 : A1) (a2 : A2) (a3 : A3) (a4 : A4) (a5 : A5) (a6 : A6) (a7 : A7) (a8 : A8) (a9 : A9) (h : I a1 a2 a3 a4 a5 a6 a7 a8 a9) : ∃ n, W n a1 a2 a3 a4 a5 a6 a7 a8 a9 :=
  loop_m (σ := A1 × A2 × A3 × A4 × A5 × A6 × A7 × A8 × A9) (fun n s => W n s.1 s.2.1 s.2.2.1 s.2.2.2.1 s.2.2.2.2.1 s.2.2.2.2.2.1 s.2.2.2.2.2.2.1 s.2.2.2.2.2.2.2.1 s.2.2.2.2.2.2.2.2) (fun s => I s.1 s.2.1 s.2.2.1 s.2.2.2.1 s.2.2.2.2.1 s.2.2.2.2.2.1 s.2.2.2.2.2.2.1 s.2.2.2.2.2.2.2.1 s.2.2.2.2.2.2.2.2) (fun s => μ s.1 s.2.1 s.2.2.1 s.2.2.2.1 s.2.2.2.2.1 s.2.2.2.2.2.1 s.2.2.2.2.2.2.1 s.2.2.2.2.2.2.2.1 s.2.2.2.2.2.2.2.2) (fun n s hI hk => hs n s.1 s.2.1 s.2.2.1 s.2.2.2.1 s.2.2.2.2.1 s.2.2.2.2.2.1 s.2.2.2.2.2.2.1 s.2.2.2.2.2.2.2.1 s.2.2.2.2.2.2.2.2 hI (fun b1 b2 b3 b4 b5 b6 b7 b8 b9 h9 hm => hk (b1, b2, b3, b4, b5, b6, b7, b8, b9) h9 hm)) (a1, a2, a3, a4, a5, a6, a7, a8, a9) h
theorem lp10 {A1 A2 A3 A4 A5 A6 A7 A8 A9 A10 : Type} (W : Nat → A1 → A2 → A3 → A4 → A5 → A6 → A7 → A8 → A9 → A10 → Prop) (I : A1 → A2 → A3 → A4 → A5 → A6 → A7 → A8 → A9 → A10 → Prop) (μ : A1 → A2 → A3 → A4 → A5 → A6 → A7 → A8 → A9 → A10 → Nat) (hs : ∀ (n : Nat) (a1 : A1) (a2 : A2) (a3 : A3) (a4 : A4) (a5 : A5) (a6 : A6) (a7 : A7) (a8 : A8) (a9 : A9) (a10 : A10), I a1 a2 a3 a4 a5 a6 a7 a8 a9 a10 → (∀ (b1 : A1) (b2 : A2) (b3 : A3) (b4 : A4) (b5 : A5) (b6 : A6) (b7 : A7) (b8 : A8) (b9 : A9) (b10 : A10), I b1 b2 b3 b4 b5 b6 b7 b8 b9 b10 → μ b1 b2 b3 b4 b5 b6 b7 b8 b9 b10 < μ a1 a2 a3 a4 a5 a6 a7 a8 a9 a10 → W n b1 b2 b3 b4 b5 b6 b7 b8 b9 b10) → W (n + 1) a1 a2 a3 a4 a5 a6 a7 a8 a9 a10) (a1 : A1) (a2 : A2) (a3 : A3) (a4 : A4) (a5 : A5) (a6 : A6) (a7 : A7) (a8 : A8) (a9 : A9) (a10 : A10) (h : I a1 a2 a3 a4 a5 a6 a7 a8 a9 a10) : ∃ n, W n a1 a2 a3 a4 a5 a6 a7 a8 a9 a10 :=
  loop_m (σ := A1 × A2 × A3 × A4 × A5 × A6 × A7 × A8 × A9 × A10) (fun n s => W n s.1 s.2.1 s.2.2.1 s.2.2.2.1 s.2.2.2.2.1 s.2.2.2.2.2.1 s.2.2.2.2.2.2.1 s.2.2.2.2.2.2.2.1 s.2.2.2.2.2.2.2.2.1 s.2.2.2.2.2.2.2.2.2) (fun s => I s.1 s.2.1 s.2.2.1 s.2.2.2.1 s.2.2.2.2.1 s.2.2.2.2.2.1 s.2.2.2.2.2.2.1 s.2.2.2.2.2.2.2.1 s.2.2.2.2.2.2.2.2.1 s.2.2.2.2.2.2.2.2.2) (fun s => μ s.1 s.2.1 s.2.2.1 s.2.2.2.1 s.2.2.2.2.1 s.2.2.2.2.2.1 s.2.2.2.2.2.2.1 s.2.2.2.2.2.2.2.1 s.2.2.2.2.2.2.2.2.1 s.2.2.2.2.2.2.2.2.2) (fun n s hI hk => hs n s.1 s.2.1 s.2.2.1 s.2.2.2.1 s.2.2.2.2.1 s.2.2.2.2.2.1 s.2.2.2.2.2.2.1 s.2.2.2.2.2.2.2.1 s.2.2.2.2.2.2.2.2.1 s.2.2.2.2.2.2.2.2.2 hI (fun b1 b2 b3 b4 b5 b6 b7 b8 b9 b10 h9 hm => hk (b1, b2, b3, b4, b5, b6, b7, b8, b9, b10) h9 hm)) (a1, a2, a3, a4, a5, a6, a7, a8, a9, a10) h
theorem lp11 {A1 A2 A3 A4 A5 A6 A7 A8 A9 A10 A11 : Type} (W : Nat → A1 → A2 → A3 → A4 → A5 → A6 → A7 → A8 → A9 → A10 → A11 → Prop) (I : A1 → A2 → A3 → A4 → A5 → A6 → A7 → A8 → A9 → A10 → A11 → Prop) (μ : A1 → A2 → A3 → A4 → A5 → A6 → A7 → A8 → A9 → A10 → A11 → Nat) (hs : ∀ (n : Nat) (a1 : A1) (a2 : A2) (a3 : A3) (a4 : A4) (a5 : A5) (a6 : A6) (a7 : A7) (a8 : A8) (a9 : A9) (a10 : A10) (a11 : A11), I a1 a2 a3 a4 a5 a6 a7 a8 a9 a10 a11 → (∀ (b1 : A1) (b2 : A2) (b3 : A3) (b4 : A4) (b5 : A5) (b6 : A6) (b7 : A7) (b8 : A8) (b9 : A9) (b10 : A10) (b11 : A11), I b1 b2 b3 b4 b5 b6 b7 b8 b9 b10 b11 → μ b1 b2 b3 b4 b5 b6 b7 b8 b9 b10 b11 < μ a1 a2 a3 a4 a5 a6 a7 a8 a9 a10 a11 → W n b1 b2 b3 b4 b5 b6 b7 b8 b9 b10 b11) → W (n + 1) a1 a2 a3 a4 a5 a6 a7 a8 a9 a10 a11) (a1 : A1) (a2 : A2) (a3 : A3) (a4 : A4) (a5 : A5) (a6 : A6) (a7 : A7) (a8 : A8) (a9 : A9) (a10 : A10) (a11 : A11) (h : I a1 a2 a3 a4 a5 a6 a7 a8 a9 a10 a11) : ∃ n, W n a1 a2 a3 a4 a5 a6 a7 a8 a9 a10 a11 :=
  loop_m (σ := A1 × A2 × A3 × A4 × A5 × A6 × A7 × A8 × A9 × A10 × A11) (fun n s => W n s.1 s.2.1 s.2.2.1 s.2.2.2.1 s.2.2.2.2.1 s.2.2.2.2.2.1 s.2.2.2.2.2.2.1 s.2.2.2.2.2.2.2.1 s.2.2.2.2.2.2.2.2.1 s.2.2.2.2.2.2.2.2.2.1 s.2.2.2.2.2.2.2.2.2.2) (fun s => I s.1 s.2.1 s.2.2.1 s.2.2.2.1 s.2.2.2.2.1 s.2.2.2.2.2.1 s.2.2.2.2.2.2.1 s.2.2.2.2.2.2.2.1 s.2.2.2.2.2.2.2.2.1 s.2.2.2.2.2.2.2.2.2.1 s.2.2.2.2.2.2.2.2.2.2) (fun s => μ s.1 s.2.1 s.2.2.1 s.2.2.2.1 s.2.2.2.2.1 s.2.2.2.2.2.1 s.2.2.2.2.2.2.1 s.2.2.2.2.2.2.2.1 s.2.2.2.2.2.2.2.2.1 s.2.2.2.2.2.2.2.2.2.1 s.2.2.2.2.2.2.2.2.2.2) (fun n s hI hk => hs n s.1 s.2.1 s.2.2.1 s.2.2.2.1 s.2.2.2.2.1 s.2.2.2.2.2.1 s.2.2.2.2.2.2.1 s.2.2.2.2.2.2.2.1 s.2.2.2.2.2.2.2.2.1 s.2.2.2.2.2.2.2.2.2.1 s.2.2.2.2.2.2.2.2.2.2 hI (fun b1 b2 b3 b4 b5 b6 b7 b8 b9 b10 b11 h9 hm => hk (b1, b2, b3, b4, b5, b6, b7, b8, b9, b10, b11) h9 hm)) (a1, a2, a3, a4, a5, a6, a7, a8, a9, a10, a11) h
theorem lp12 {A1 A2 A3 A4 A5 A6 A7 A8 A9 A10 A11 A12 : Type} (W : Nat → A1 → A2 → A3 → A4 → A5 → A6 → A7 → A8 → A9 → A10 → A11 → A12 → Prop) (I : A1 → A2 → A3 → A4 → A5 → A6 → A7 → A8 → A9 → A10 → A11 → A12 → Prop) (μ : A1 → A2 → A3 → A4 → A5 → A6 → A7 → A8 → A9 → A10 → A11 → A12 → Nat) (hs : ∀ (n : Nat) (a1 : A1) (a2 : A2) (a3 : A3) (a4 : A4) (a5 : A5) (a6 : A6) (a7 : A7) (a8 : A8) (a9 : A9) (a10 : A10) (a11 : A11) (a12 : A12), I a1 a2 a3 a4 a5 a6 a7 a8 a9 a10 a11 a12 → (∀ (b1 : A1) (b2 : A2) (b3 : A3) (b4 : A4) (b5 : A5) (b6 : A6) (b7 : A7) (b8 : A8) (b9 : A9) (b10 : A10) (b11 : A11) (b12 : A12), I b1 b2 b3 b4 b5 b6 b7 b8 b9 b10 b11 b12 → μ b1 b2 b3 b4 b5 b6 b7 b8 b9 b10 b11 b12 < μ a1 a2 a3 a4 a5 a6 a7 a8 a9 a10 a11 a12 → W n b1 b2 b3 b4 b5 b6 b7 b8 b9 b10 b11 b12) → W (n + 1) a1 a2 a3 a4 a5 a6 a7 a8 a9 a10 a11 a12) (a1 : A1) (a2 : A2) (a3 : A3) (a4 : A4) (a5 : A5) (a6 : A6) (a7 : A7) (a8 : A8) (a9 : A9) (a10 : A10) (a11 : A11) (a12 : A12) (h : I a1 a2 a3 a4 a5 a6 a7 a8 a9 a10 a11 a12) : ∃ n, W n a1 a2 a3 a4 a5 a6 a7 a8 a9 a10 a11 a12 :=
  loop_m (σ := A1 × A2 × A3 × A4 × A5 × A6 × A7 × A8 × A9 × A10 × A11 × A12) (fun n s => W n s.1 s.2.1 s.2.2.1 s.2.2.2.1 s.2.2.2.2.1 s.2.2.2.2.2.1 s.2.2.2.2.2.2.1 s.2.2.2.2.2.2.2.1 s.2.2.2.2.2.2.2.2.1 s.2.2.2.2.2.2.2.2.2.1 s.2.2.2.2.2.2.2.2.2.2.1 s.2.2.2.2.2.2.2.2.2.2.2) (fun s => I s.1 s.2.1 s.2.2.1 s.2.2.2.1 s.2.2.2.2.1 s.2.2.2.2.2.1 s.2.2.2.2.2.2.1 s.2.2.2.2.2.2.2.1 s.2.2.2.2.2.2.2.2.1 s.2.2.2.2.2.2.2.2.2.1 s.2.2.2.2.2.2.2.2.2.2.1 s.2.2.2.2.2.2.2.2.2.2.2) (fun s => μ s.1 s.2.1 s.2.2.1 s.2.2.2.1 s.2.2.2.2.1 s.2.2.2.2.2.1 s.2.2.2.2.2.2.1 s.2.2.2.2.2.2.2.1 s.2.2.2.2.2.2.2.2.1 s.2.2.2.2.2.2.2.2.2.1 s.2.2.2.2.2.2.2.2.2.2.1 s.2.2.2.2.2.2.2.2.2.2.2) (fun n s hI hk => hs n s.1 s.2.1 s.2.2.1 s.2.2.2.1 s.2.2.2.2.1 s.2.2.2.2.2.1 s.2.2.2.2.2.2.1 s.2.2.2.2.2.2.2.1 s.2.2.2.2.2.2.2.2.1 s.2.2.2.2.2.2.2.2.2.1 s.2.2.2.2.2.2.2.2.2.2.1 s.2.2.2.2.2.2.2.2.2.2.2 hI (fun b1 b2 b3 b4 b5 b6 b7 b8 b9 b10 b11 b12 h9 hm => hk (b1, b2, b3, b4, b5, b6, b7, b8, b9, b10, b11, b12) h9 hm)) (a1, a2, a3, a4, a5, a6, a7, a8, a9, a10, a11, a12) h
theorem lp13 {A1 A2 A3 A4 A5 A6 A7 A8 A9 A10 A11 A12 A13 : Type} (W : Nat → A1 → A2 → A3 → A4 → A5 → A6 → A7 → A8 → A9 → A10 → A11 → A12 → A13 → Prop) (I : A1 → A2 → A3 → A4 → A5 → A6 → A7 → A8 → A9 → A10 → A11 → A12 → A13 → Prop) (μ : A1 → A2 → A3 → A4 → A5 → A6 → A7 → A8 → A9 → A10 → A11 → A12 → A13 → Nat) (hs : ∀ (n : Nat) (a1 : A1) (a2 : A2) (a3 : A3) (a4 : A4) (a5 : A5) (a6 : A6) (a7 : A7) (a8 : A8) (a9 : A9) (a10 : A10) (a11 : A11) (a12 : A12) (a13 : A13), I a1 a2 a3 a4 a5 a6 a7 a8 a9 a10 a11 a12 a13 → (∀ (b1 : A1) (b2 : A2) (b3 : A3) (b4 : A4) (b5 : A5) (b6 : A6) (b7 : A7) (b8 : A8) (b9 : A9) (b10 : A10) (b11 : A11) (b12 : A12) (b13 : A13), I b1 b2 b3 b4 b5 b6 b7 b8 b9 b10 b11 b12 b13 → μ b1 b2 b3 b4 b5 b6 b7 b8 b9 b10 b11 b12 b13 < μ a1 a2 a3 a4 a5 a6 a7 a8 a9 a10 a11 a12 a13 → W n b1 b2 b3 b4 b5 b6 b7 b8 b9 b10 b11 b12 b13) → W (n + 1) a1 a2 a3 a4 a5 a6 a7 a8 a9 a10 a11 a12 a13) (a1 : A1) (a2 : A2) (a3 : A3) (a4 : A4) (a5 : A5) (a6 : A6) (a7 : A7) (a8 : A8) (a9 : A9) (a10 : A10) (a11 : A11) (a12 : A12) (a13 : A13) (h : I a1 a2 a3 a4 a5 a6 a7 a8 a9 a10 a11 a12 a13) : ∃ n, W n a1 a2 a3 a4 a5 a6 a7 a8 a9 a10 a11 a12 a13 :=
  loop_m (σ := A1 × A2 × A3 × A4 × A5 × A6 × A7 × A8 × A9 × A10 × A11 × A12 × A13) (fun n s => W n s.1 s.2.1 s.2.2.1 s.2.2.2.1 s.2.2.2.2.1 s.2.2.2.2.2.1 s.2.2.2.2.2.2.1 s.2.2.2.2.2.2.2.1 s.2.2.2.2.2.2.2.2.1 s.2.2.2.2.2.2.2.2.2.1 s.2.2.2.2.2.2.2.2.2.2.1 s.2.2.2.2.2.2.2.2.2.2.2.1 s.2.2.2.2.2.2.2.2.2.2.2.2) (fun s => I s.1 s.2.1 s.2.2.1 s.2.2.2.1 s.2.2.2.2.1 s.2.2.2.2.2.1 s.2.2.2.2.2.2.1 s.2.2.2.2.2.2.2.1 s.2.2.2.2.2.2.2.2.1 s.2.2.2.2.2.2.2.2.2.1 s.2.2.2.2.2.2.2.2.2.2.1 s.2.2.2.2.2.2.2.2.2.2.2.1 s.2.2.2.2.2.2.2.2.2.2.2.2) (fun s => μ s.1 s.2.1 s.2.2.1 s.2.2.2.1 s.2.2.2.2.1 s.2.2.2.2.2.1 s.2.2.2.2.2.2.1 s.2.2.2.2.2.2.2.1 s.2.2.2.2.2.2.2.2.1 s.2.2.2.2.2.2.2.2.2.1 s.2.2.2.2.2.2.2.2.2.2.1 s.2.2.2.2.2.2.2.2.2.2.2.1 s.2.2.2.2.2.2.2.2.2.2.2.2) (fun n s hI hk => hs n s.1 s.2.1 s.2.2.1 s.2.2.2.1 s.2.2.2.2.1 s.2.2.2.2.2.1 s.2.2.2.2.2.2.1 s.2.2.2.2.2.2.2.1 s.2.2.2.2.2.2.2.2.1 s.2.2.2.2.2.2.2.2.2.1 s.2.2.2.2.2.2.2.2.2.2.1 s.2.2.2.2.2.2.2.2.2.2.2.1 s.2.2.2.2.2.2.2.2.2.2.2.2 hI (fun b1 b2 b3 b4 b5 b6 b7 b8 b9 b10 b11 b12 b13 h9 hm => hk (b1, b2, b3, b4, b5, b6, b7, b8, b9, b10, b11, b12, b13) h9 hm)) (a1, a2, a3, a4, a5, a6, a7, a8, a9, a10, a11, a12, a13) h
theorem lp14 {A1 A2 A3 A4 A5 A6 A7 A8 A9 A10 A11 A12 A13 A14 : Type} (W : Nat → A1 → A2 → A3 → A4 → A5 → A6 → A7 → A8 → A9 → A10 → A11 → A12 → A13 → A14 → Prop) (I : A1 → A2 → A3 → A4 → A5 → A6 → A7 → A8 → A9 → A10 → A11 → A12 → A13 → A14 → Prop) (μ : A1 → A2 → A3 → A4 → A5 → A6 → A7 → A8 → A9 → A10 → A11 → A12 → A13 → A14 → Nat) (hs : ∀ (n : Nat) (a1 : A1) (a2 : A2) (a3 : A3) (a4 : A4) (a5 : A5) (a6 : A6) (a7 : A7) (a8 : A8) (a9 : A9) (a10 : A10) (a11 : A11) (a12 : A12) (a13 : A13) (a14 : A14), I a1 a2 a3 a4 a5 a6 a7 a8 a9 a10 a11 a12 a13 a14 → (∀ (b1 : A1) (b2 : A2) (b3 : A3) (b4 : A4) (b5 : A5) (b6 : A6) (b7 : A7) (b8 : A8) (b9 : A9) (b10 : A10) (b11 : A11) (b12 : A12) (b13 : A13) (b14 : A14), I b1 b2 b3 b4 b5 b6 b7 b8 b9 b10 b11 b12 b13 b14 → μ b1 b2 b3 b4 b5 b6 b7 b8 b9 b10 b11 b12 b13 b14 < μ a1 a2 a3 a4 a5 a6 a7 a8 a9 a10 a11 a12 a13 a14 → W n b1 b2 b3 b4 b5 b6 b7 b8 b9 b10 b11 b12 b13 b14) → W (n + 1) a1 a2 a3 a4 a5 a6 a7 a8 a9 a10 a11 a12 a13 a14) (a1 : A1) (a2 : A2) (a3 : A3) (a4 : A4) (a5 : A5) (a6 : A6) (a7 : A7) (a8 : A8) (a9 : A9) (a10 : A10) (a11 : A11) (a12 : A12) (a13 : A13) (a14 : A14) (h : I a1 a2 a3 a4 a5 a6 a7 a8 a9 a10 a11 a12 a13 a14) : ∃ n, W n a1 a2 a3 a4 a5 a6 a7 a8 a9 a10 a11 a12 a13 a14 :=
  loop_m (σ := A1 × A2 × A3 × A4 × A5 × A6 × A7 × A8 × A9 × A10 × A11 × A12 × A13 × A14) (fun n s => W n s.1 s.2.1 s.2.2.1 s.2.2.2.1 s.2.2.2.2.1 s.2.2.2.2.2.1 s.2.2.2.2.2.2.1 s.2.2.2.2.2.2.2.1 s.2.2.2.2.2.2.2.2.1 s.2.2.2.2.2.2.2.2.2.1 s.2.2.2.2.2.2.2.2.2.2.1 s.2.2.2.2.2.2.2.2.2.2.2.1 s.2.2.2.2.2.2.2.2.2.2.2.2.1 s.2.2.2.2.2.2.2.2.2.2.2.2.2) (fun s => I s.1 s.2.1 s.2.2.1 s.2.2.2.1 s.2.2.2.2.1 s.2.2.2.2.2.1 s.2.2.2.2.2.2.1 s.2.2.2.2.2.2.2.1 s.2.2.2.2.2.2.2.2.1 s.2.2.2.2.2.2.2.2.2.1 s.2.2.2.2.2.2.2.2.2.2.1 s.2.2.2.2.2.2.2.2.2.2.2.1 s.2.2.2.2.2.2.2.2.2.2.2.2.1 s.2.2.2.2.2.2.2.2.2.2.2.2.2) (fun s => μ s.1 s.2.1 s.2.2.1 s.2.2.2.1 s.2.2.2.2.1 s.2.2.2.2.2.1 s.2.2.2.2.2.2.1 s.2.2.2.2.2.2.2.1 s.2.2.2.2.2.2.2.2.1 s.2.2.2.2.2.2.2.2.2.1 s.2.2.2.2.2.2.2.2.2.2.1 s.2.2.2.2.2.2.2.2.2.2.2.1 s.2.2.2.2.2.2.2.2.2.2.2.2.1 s.2.2.2.2.2.2.2.2.2.2.2.2.2) (fun n s hI hk => hs n s.1 s.2.1 s.2.2.1 s.2.2.2.1 s.2.2.2.2.1 s.2.2.2.2.2.1 s.2.2.2.2.2.2.1 s.2.2.2.2.2.2.2.1 s.2.2.2.2.2.2.2.2.1 s.2.2.2.2.2.2.2.2.2.1 s.2.2.2.2.2.2.2.2.2.2.1 s.2.2.2.2.2.2.2.2.2.2.2.1 s.2.2.2.2.2.2.2.2.2.2.2.2.1 s.2.2.2.2.2.2.2.2.2.2.2.2.2 hI (fun b1 b2 b3 b4 b5 b6 b7 b8 b9 b10 b11 b12 b13 b14 h9 hm => hk (b1, b2, b3, b4, b5, b6, b7, b8, b9, b10, b11, b12, b13, b14) h9 hm)) (a1, a2, a3, a4, a5, a6, a7, a8, a9, a10, a11, a12, a13, a14) h
theorem lp15 {A1 A2 A3 A4 A5 A6 A7 A8 A9 A10 A11 A12 A13 A14 A15 : Type} (W : Nat → A1 → A2 → A3 → A4 → A5 → A6 → A7 → A8 → A9 → A10 → A11 → A12 → A13 → A14 → A15 → Prop) (I : A1 → A2 → A3 → A4 → A5 → A6 → A7 → A8 → A9 → A10 → A11 → A12 → A13 → A14 → A15 → Prop) (μ : A1 → A2 → A3 → A4 → A5 → A6 → A7 → A8 → A9 → A10 → A11 → A12 → A13 → A14 → A15 → Nat) (hs : ∀ (n : Nat) (a1 : A1) (a2 : A2) (a3 : A3) (a4 : A4) (a5 : A5) (a6 : A6) (a7 : A7) (a8 : A8) (a9 : A9) (a10 : A10) (a11 : A11) (a12 : A12) (a13 : A13) (a14 : A14) (a15 : A15), I a1 a2 a3 a4 a5 a6 a7 a8 a9 a10 a11 a12 a13 a14 a15 → (∀ (b1 : A1) (b2 : A2) (b3 : A3) (b4 : A4) (b5 : A5) (b6 : A6) (b7 : A7) (b8 : A8) (b9 : A9) (b10 : A10) (b11 : A11) (b12 : A12) (b13 : A13) (b14 : A14) (b15 : A15), I b1 b2 b3 b4 b5 b6 b7 b8 b9 b10 b11 b12 b13 b14 b15 → μ b1 b2 b3 b4 b5 b6 b7 b8 b9 b10 b11 b12 b13 b14 b15 < μ a1 a2 a3 a4 a5 a6 a7 a8 a9 a10 a11 a12 a13 a14 a15 → W n b1 b2 b3 b4 b5 b6 b7 b8 b9 b10 b11 b12 b13 b14 b15) → W (n + 1) a1 a2 a3 a4 a5 a6 a7 a8 a9 a10 a11 a12 a13 a14 a15) (a1 : A1) (a2 : A2) (a3 : A3) (a4 : A4) (a5 : A5) (a6 : A6) (a7 : A7) (a8 : A8) (a9 : A9) (a10 : A10) (a11 : A11) (a12 : A12) (a13 : A13) (a14 : A14) (a15 : A15) (h : I a1 a2 a3 a4 a5 a6 a7 a8 a9 a10 a11 a12 a13 a14 a15) : ∃ n, W n a1 a2 a3 a4 a5 a6 a7 a8 a9 a10 a11 a12 a13 a14 a15 :=
  loop_m (σ := A1 × A2 × A3 × A4 × A5 × A6 × A7 × A8 × A9 × A10 × A11 × A12 × A13 × A14 × A15) (fun n s => W n s.1 s.2.1 s.2.2.1 s.2.2.2.1 s.2.2.2.2.1 s.2.2.2.2.2.1 s.2.2.2.2.2.2.1 s.2.2.2.2.2.2.2.1 s.2.2.2.2.2.2.2.2.1 s.2.2.2.2.2.2.2.2.2.1 s.2.2.2.2.2.2.2.2.2.2.1 s.2.2.2.2.2.2.2.2.2.2.2.1 s.2.2.2.2.2.2.2.2.2.2.2.2.1 s.2.2.2.2.2.2.2.2.2.2.2.2.2.1 s.2.2.2.2.2.2.2.2.2.2.2.2.2.2) (fun s => I s.1 s.2.1 s.2.2.1 s.2.2.2.1 s.2.2.2.2.1 s.2.2.2.2.2.1 s.2.2.2.2.2.2.1 s.2.2.2.2.2.2.2.1 s.2.2.2.2.2.2.2.2.1 s.2.2.2.2.2.2.2.2.2.1 s.2.2.2.2.2.2.2.2.2.2.1 s.2.2.2.2.2.2.2.2.2.2.2.1 s.2.2.2.2.2.2.2.2.2.2.2.2.1 s.2.2.2.2.2.2.2.2.2.2.2.2.2.1 s.2.2.2.2.2.2.2.2.2.2.2.2.2.2) (fun s => μ s.1 s.2.1 s.2.2.1 s.2.2.2.1 s.2.2.2.2.1 s.2.2.2.2.2.1 s.2.2.2.2.2.2.1 s.2.2.2.2.2.2.2.1 s.2.2.2.2.2.2.2.2.1 s.2.2.2.2.2.2.2.2.2.1 s.2.2.2.2.2.2.2.2.2.2.1 s.2.2.2.2.2.2.2.2.2.2.2.1 s.2.2.2.2.2.2.2.2.2.2.2.2.1 s.2.2.2.2.2.2.2.2.2.2.2.2.2.1 s.2.2.2.2.2.2.2.2.2.2.2.2.2.2) (fun n s hI hk => hs n s.1 s.2.1 s.2.2.1 s.2.2.2.1 s.2.2.2.2.1 s.2.2.2.2.2.1 s.2.2.2.2.2.2.1 s.2.2.2.2.2.2.2.1 s.2.2.2.2.2.2.2.2.1 s.2.2.2.2.2.2.2.2.2.1 s.2.2.2.2.2.2.2.2.2.2.1 s.2.2.2.2.2.2.2.2.2.2.2.1 s.2.2.2.2.2.2.2.2.2.2.2.2.1 s.2.2.2.2.2.2.2.2.2.2.2.2.2.1 s.2.2.2.2.2.2.2.2.2.2.2.2.2.2 hI (fun b1 b2 b3 b4 b5 b6 b7 b8 b9 b10 b11 b12 b13 b14 b15 h9 hm => hk (b1, b2, b3, b4, b5, b6, b7, b8, b9, b10, b11, b12, b13, b14, b15) h9 hm)) (a1, a2, a3, a4, a5, a6, a7, a8, a9, a10, a11, a12, a13, a14, a15) h
theorem lp16 {A1 A2 A3 A4 A5 A6 A7 A8 A9 A10 A11 A12 A13 A14 A15 A16 : Type} (W : Nat → A1 → A2 → A3 → A4 → A5 → A6 → A7 → A8 → A9 → A10 → A11 → A12 → A13 → A14 → A15 → A16 → Prop) (I : A1 → A2 → A3 → A4 → A5 → A6 → A7 → A8 → A9 → A10 → A11 → A12 → A13 → A14 → A15 → A16 → Prop) (μ : A1 → A2 → A3 → A4 → A5 → A6 → A7 → A8 → A9 → A10 → A11 → A12 → A13 → A14 → A15 → A16 → Nat) (hs : ∀ (n : Nat) (a1 : A1) (a2 : A2) (a3 : A3) (a4 : A4) (a5 : A5) (a6 : A6) (a7 : A7) (a8 : A8) (a9 : A9) (a10 : A10) (a11 : A11) (a12 : A12) (a13 : A13) (a14 : A14) (a15 : A15) (a16 : A16), I a1 a2 a3 a4 a5 a6 a7 a8 a9 a10 a11 a12 a13 a14 a15 a16 → (∀ (b1 : A1) (b2 : A2) (b3 : A3) (b4 : A4) (b5 : A5) (b6 : A6) (b7 : A7) (b8 : A8) (b9 : A9) (b10 : A10) (b11 : A11) (b12 : A12) (b13 : A13) (b14 : A14) (b15 : A15) (b16 : A16), I b1 b2 b3 b4 b5 b6 b7 b8 b9 b10 b11 b12 b13 b14 b15 b16 → μ b1 b2 b3 b4 b5 b6 b7 b8 b9 b10 b11 b12 b13 b14 b15 b16 < μ a1 a2 a3 a4 a5 a6 a7 a8 a9 a10 a11 a12 a13 a14 a15 a16 → W n b1 b2 b3 b4 b5 b6 b7 b8 b9 b10 b11 b12 b13 b14 b15 b16) → W (n + 1) a1 a2 a3 a4 a5 a6 a7 a8 a9 a10 a11 a12 a13 a14 a15 a16) (a1 : A1) (a2 : A2) (a3 : A3) (a4 : A4) (a5 : A5) (a6 : A6) (a7 : A7) (a8 : A8) (a9 : A9) (a10 : A10) (a11 : A11) (a12 : A12) (a13 : A13) (a14 : A14) (a15 : A15) (a16 : A16) (h : I a1 a2 a3 a4 a5 a6 a7 a8 a9 a10 a11 a12 a13 a14 a15 a16) : ∃ n, W n a1 a2 a3 a4 a5 a6 a7 a8 a9 a10 a11 a12 a13 a14 a15 a16 :=
  loop_m (σ := A1 × A2 × A3 × A4 × A5 × A6 × A7 × A8 × A9 × A10 × A11 × A12 × A13 × A14 × A15 × A16) (fun n s => W n s.1 s.2.1 s.2.2.1 s.2.2.2.1 s.2.2.2.2.1 s.2.2.2.2.2.1 s.2.2.2.2.2.2.1 s.2.2.2.2.2.2.2.1 s.2.2.2.2.2.2.2.2.1 s.2.2.2.2.2.2.2.2.2.1 s.2.2.2.2.2.2.2.2.2.2.1 s.2.2.2.2.2.2.2.2.2.2.2.1 s.2.2.2.2.2.2.2.2.2.2.2.2.1 s.2.2.2.2.2.2.2.2.2.2.2.2.2.1 s.2.2.2.2.2.2.2.2.2.2.2.2.2.2.1 s.2.2.2.2.2.2.2.2.2.2.2.2.2.2.2) (fun s => I s.1 s.2.1 s.2.2.1 s.2.2.2.1 s.2.2.2.2.1 s.2.2.2.2.2.1 s.2.2.2.2.2.2.1 s.2.2.2.2.2.2.2.1 s.2.2.2.2.2.2.2.2.1 s.2.2.2.2.2.2.2.2.2.1 s.2.2.2.2.2.2.2.2.2.2.1 s.2.2.2.2.2.2.2.2.2.2.2.1 s.2.2.2.2.2.2.2.2.2.2.2.2.1 s.2.2.2.2.2.2.2.2.2.2.2.2.2.1 s.2.2.2.2.2.2.2.2.2.2.2.2.2.2.1 s.2.2.2.2.2.2.2.2.2.2.2.2.2.2.2) (fun s => μ s.1 s.2.1 s.2.2.1 s.2.2.2.1 s.2.2.2.2.1 s.2.2.2.2.2.1 s.2.2.2.2.2.2.1 s.2.2.2.2.2.2.2.1 s.2.2.2.2.2.2.2.2.1 s.2.2.2.2.2.2.2.2.2.1 s.2.2.2.2.2.2.2.2.2.2.1 s.2.2.2.2.2.2.2.2.2.2.2.1 s.2.2.2.2.2.2.2.2.2.2.2.2.1 s.2.2.2.2.2.2.2.2.2.2.2.2.2.1 s.2.2.2.2.2.2.2.2.2.2.2.2.2.2.1 s.2.2.2.2.2.2.2.2.2.2.2.2.2.2.2) (fun n s hI hk => hs n s.1 s.2.1 s.2.2.1 s.2.2.2.1 s.2.2.2.2.1 s.2.2.2.2.2.1 s.2.2.2.2.2.2.1 s.2.2.2.2.2.2.2.1 s.2.2.2.2.2.2.2.2.1 s.2.2.2.2.2.2.2.2.2.1 s.2.2.2.2.2.2.2.2.2.2.1 s.2.2.2.2.2.2.2.2.2.2.2.1 s.2.2.2.2.2.2.2.2.2.2.2.2.1 s.2.2.2.2.2.2.2.2.2.2.2.2.2.1 s.2.2.2.2.2.2.2.2.2.2.2.2.2.2.1 s.2.2.2.2.2.2.2.2.2.2.2.2.2.2.2 hI (fun b1 b2 b3 b4 b5 b6 b7 b8 b9 b10 b11 b12 b13 b14 b15 b16 h9 hm => hk (b1, b2, b3, b4, b5, b6, b7, b8, b9, b10, b11, b12, b13, b14, b15, b16) h9 hm)) (a1, a2, a3, a4, a5, a6, a7, a8, a9, a10, a11, a12, a13, a14, a15, a16) h
theorem pk_least (P : Nat → Prop) (h : ∃ k, P k) : ∃ k, P k ∧ ∀ j, j < k → ¬ P j := by
  obtain ⟨k, hk⟩ := h
  induction k using Nat.strongRecOn with
  | ind k ih =>
    by_cases e : ∃ j, j < k ∧ P j
    · obtain ⟨j, hj, pj⟩ := e
      exact ih j hj pj
    · exact ⟨k, hk, fun j hj pj => e ⟨j, hj, pj⟩⟩
theorem rp1 {ρ A1 : Type} (W : Nat → (ρ → Prop) → A1 → Prop) (ok : A1 → Prop) (μ : A1 → Nat) (val : A1 → ρ)
    (hs : ∀ (d : Nat) (post : ρ → Prop) (a1 : A1), ok a1 → post (val a1) → (∀ (post' : ρ → Prop) (b1 : A1), ok b1 → μ b1 < μ a1 → post' (val b1) → W d post' b1) → W (d + 1) post a1) :
    ∀ (d : Nat) (post : ρ → Prop) (a1 : A1), ok a1 → μ a1 < d → post (val a1) → W d post a1 := by
  intro d
  induction d with
  | zero => intro post a1 _ h; omega
  | succ d ih =>
    intro post a1 ho hm hp
    exact hs d post a1 ho hp (fun post' b1 ho' hm' hp' => ih post' b1 ho' (by omega) hp')
theorem rp2 {ρ A1 A2 : Type} (W : Nat → (ρ → Prop) → A1 → A2 → Prop) (ok : A1 → A2 → Prop) (μ : A1 → A2 → Nat) (val : A1 → A2 → ρ)
    (hs : ∀ (d : Nat) (post : ρ → Prop) (a1 : A1) (a2 : A2), ok a1 a2 → post (val a1 a2) → (∀ (post' : ρ → Prop) (b1 : A1) (b2 : A2), ok b1 b2 → μ b1 b2 < μ a1 a2 → post' (val b1 b2) → W d post' b1 b2) → W (d + 1) post a1 a2) :
    ∀ (d : Nat) (post : ρ → Prop) (a1 : A1) (a2 : A2), ok a1 a2 → μ a1 a2 < d → post (val a1 a2) → W d post a1 a2 := by
  intro d
  induction d with
  | zero => intro post a1 a2 _ h; omega
  | succ d ih =>
    intro post a1 a2 ho hm hp
    exact hs d post a1 a2 ho hp (fun post' b1 b2 ho' hm' hp' => ih post' b1 b2 ho' (by omega) hp')
theorem rp3 {ρ A1 A2 A3 : Type} (W : Nat → (ρ → Prop) → A1 → A2 → A3 → Prop) (ok : A1 → A2 → A3 → Prop) (μ : A1 → A2 → A3 → Nat) (val : A1 → A2 → A3 → ρ)
    (hs : ∀ (d : Nat) (post : ρ → Prop) (a1 : A1) (a2 : A2) (a3 : A3), ok a1 a2 a3 → post (val a1 a2 a3) → (∀ (post' : ρ → Prop) (b1 : A1) (b2 : A2) (b3 : A3), ok b1 b2 b3 → μ b1 b2 b3 < μ a1 a2 a3 → post' (val b1 b2 b3) → W d post' b1 b2 b3) → W (d + 1) post a1 a2 a3) :
    ∀ (d : Nat) (post : ρ → Prop) (a1 : A1) (a2 : A2) (a3 : A3), ok a1 a2 a3 → μ a1 a2 a3 < d → post (val a1 a2 a3) → W d post a1 a2 a3 := by
  intro d
  induction d with
  | zero => intro post a1 a2 a3 _ h; omega
  | succ d ih =>
    intro post a1 a2 a3 ho hm hp
    exact hs d post a1 a2 a3 ho hp (fun post' b1 b2 b3 ho' hm' hp' => ih post' b1 b2 b3 ho' (by omega) hp')
theorem rp4 {ρ A1 A2 A3 A4 : Type} (W : Nat → (ρ → Prop) → A1 → A2 → A3 → A4 → Prop) (ok : A1 → A2 → A3 → A4 → Prop) (μ : A1 → A2 → A3 → A4 → Nat) (val : A1 → A2 → A3 → A4 → ρ)
    (hs : ∀ (d : Nat) (post : ρ → Prop) (a1 : A1) (a2 : A2) (a3 : A3) (a4 : A4), ok a1 a2 a3 a4 → post (val a1 a2 a3 a4) → (∀ (post' : ρ → Prop) (b1 : A1) (b2 : A2) (b3 : A3) (b4 : A4), ok b1 b2 b3 b4 → μ b1 b2 b3 b4 < μ a1 a2 a3 a4 → post' (val b1 b2 b3 b4) → W d post' b1 b2 b3 b4) → W (d + 1) post a1 a2 a3 a4) :
    ∀ (d : Nat) (post : ρ → Prop) (a1 : A1) (a2 : A2) (a3 : A3) (a4 : A4), ok a1 a2 a3 a4 → μ a1 a2 a3 a4 < d → post (val a1 a2 a3 a4) → W d post a1 a2 a3 a4 := by
  intro d
  induction d with
  | zero => intro post a1 a2 a3 a4 _ h; omega
  | succ d ih =>
    intro post a1 a2 a3 a4 ho hm hp
    exact hs d post a1 a2 a3 a4 ho hp (fun post' b1 b2 b3 b4 ho' hm' hp' => ih post' b1 b2 b3 b4 ho' (by omega) hp')
theorem rp5 {ρ A1 A2 A3 A4 A5 : Type} (W : Nat → (ρ → Prop) → A1 → A2 → A3 → A4 → A5 → Prop) (ok : A1 → A2 → A3 → A4 → A5 → Prop) (μ : A1 → A2 → A3 → A4 → A5 → Nat) (val : A1 → A2 → A3 → A4 → A5 → ρ)
    (hs : ∀ (d : Nat) (post : ρ → Prop) (a1 : A1) (a2 : A2) (a3 : A3) (a4 : A4) (a5 : A5), ok a1 a2 a3 a4 a5 → post (val a1 a2 a3 a4 a5) → (∀ (post' : ρ → Prop) (b1 : A1) (b2 : A2) (b3 : A3) (b4 : A4) (b5 : A5), ok b1 b2 b3 b4 b5 → μ b1 b2 b3 b4 b5 < μ a1 a2 a3 a4 a5 → post' (val b1 b2 b3 b4 b5) → W d post' b1 b2 b3 b4 b5) → W (d + 1) post a1 a2 a3 a4 a5) :
    ∀ (d : Nat) (post : ρ → Prop) (a1 : A1) (a2 : A2) (a3 : A3) (a4 : A4) (a5 : A5), ok a1 a2 a3 a4 a5 → μ a1 a2 a3 a4 a5 < d → post (val a1 a2 a3 a4 a5) → W d post a1 a2 a3 a4 a5 := by
  intro d
  induction d with
  | zero => intro post a1 a2 a3 a4 a5 _ h; omega
  | succ d ih =>
    intro post a1 a2 a3 a4 a5 ho hm hp
    exact hs d post a1 a2 a3 a4 a5 ho hp (fun post' b1 b2 b3 b4 b5 ho' hm' hp' => ih post' b1 b2 b3 b4 b5 ho' (by omega) hp')
theorem rp6 {ρ A1 A2 A3 A4 A5 A6 : Type} (W : Nat → (ρ → Prop) → A1 → A2 → A3 → A4 → A5 → A6 → Prop) (ok : A1 → A2 → A3 → A4 → A5 → A6 → Prop) (μ : A1 → A2 → A3 → A4 → A5 → A6 → Nat) (val : A1 → A2 → A3 → A4 → A5 → A6 → ρ)
    (hs : ∀ (d : Nat) (post : ρ → Prop) (a1 : A1) (a2 : A2) (a3 : A3) (a4 : A4) (a5 : A5) (a6 : A6), ok a1 a2 a3 a4 a5 a6 → post (val a1 a2 a3 a4 a5 a6) → (∀ (post' : ρ → Prop) (b1 : A1) (b2 : A2) (b3 : A3) (b4 : A4) (b5 : A5) (b6 : A6), ok b1 b2 b3 b4 b5 b6 → μ b1 b2 b3 b4 b5 b6 < μ a1 a2 a3 a4 a5 a6 → post' (val b1 b2 b3 b4 b5 b6) → W d post' b1 b2 b3 b4 b5 b6) → W (d + 1) post a1 a2 a3 a4 a5 a6) :
    ∀ (d : Nat) (post : ρ → Prop) (a1 : A1) (a2 : A2) (a3 : A3) (a4 : A4) (a5 : A5) (a6 : A6), ok a1 a2 a3 a4 a5 a6 → μ a1 a2 a3 a4 a5 a6 < d → post (val a1 a2 a3 a4 a5 a6) → W d post a1 a2 a3 a4 a5 a6 := by
  intro d
  induction d with
  | zero => intro post a1 a2 a3 a4 a5 a6 _ h; omega
  | succ d ih =>
    intro post a1 a2 a3 a4 a5 a6 ho hm hp
    exact hs d post a1 a2 a3 a4 a5 a6 ho hp (fun post' b1 b2 b3 b4 b5 b6 ho' hm' hp' => ih post' b1 b2 b3 b4 b5 b6 ho' (by omega) hp')
theorem rec_p {σ ρ : Type} (W : Nat → (ρ → Prop) → σ → Prop) (ok : σ → Prop) (μ : σ → Nat) (val : σ → ρ)
    (hs : ∀ d s post, ok s → post (val s) → (∀ s' post', ok s' → μ s' < μ s → post' (val s') → W d post' s') → W (d + 1) post s) :
    ∀ d s post, ok s → μ s < d → post (val s) → W d post s := by
  intro d
  induction d with
  | zero => intro s post _ h; omega
  | succ d ih =>
    intro s post ho hm hp
    exact hs d s post ho hp (fun s' post' ho' hm' hp' => ih s' post' ho' (by omega) hp')
theorem rec_q {σ ρ : Type} (W : Nat → (ρ → Prop) → σ → Prop) (ok : σ → Prop) (μ : σ → Nat) (Q : σ → ρ → Prop)
    (hs : ∀ d s post, ok s → (∀ r, Q s r → post r) → (∀ s' post', ok s' → μ s' < μ s → (∀ r, Q s' r → post' r) → W d post' s') → W (d + 1) post s) :
    ∀ d s post, ok s → μ s < d → (∀ r, Q s r → post r) → W d post s := by
  intro d
  induction d with
  | zero => intro s post _ h; omega
  | succ d ih =>
    intro s post ho hm hp
    exact hs d s post ho hp (fun s' post' ho' hm' hp' => ih s' post' ho' (by omega) hp')
def bx_sum (f : Nat → Int32) : Nat → Int32
  | 0 => 0
  | n + 1 => bx_sum f n + f n
theorem ek_u {A : Prop} {B : Nat → Prop} {k N : Nat} (hk : k < N) (h : B k) : (some k = none → A) ∧ (∀ y : Nat, some k = some y → (y < N ∧ B y)) :=
  ⟨fun z => absurd z (Option.some_ne_none k), fun _ e => (by cases e; exact ⟨hk, h⟩)⟩
theorem ek_nu {A : Prop} {B : Nat → Prop} (h : A) : ((none : Option Nat) = none → A) ∧ (∀ y : Nat, (none : Option Nat) = some y → B y) :=
  ⟨fun _ => h, fun _ e => (by cases e)⟩
theorem ek_if {c d A B : Prop} (e : c ↔ d) (f : d → A) (g : ¬ d → B) : (c → A) ∧ (¬ c → B) :=
  ⟨fun z => f (e.mp z), fun z => g (fun y => z (e.mpr y))⟩
theorem ek_v {α : Sort _} {P : α → Prop} {a b : α} (e : a = b) (h : P b) : P a := e ▸ h
theorem co_some {x : Option Nat} {A : Prop} {B : Nat → Prop} (i : Nat) (h : B i) (hx : x = some i := by rfl) : (x = none → A) ∧ (∀ y : Nat, x = some y → B y) := by
  subst hx
  exact ⟨fun e => (nomatch e), fun y e => Option.some.inj e ▸ h⟩
theorem co_none {x : Option Nat} {A : Prop} {B : Nat → Prop} (h : A) (hx : x = none := by rfl) : (x = none → A) ∧ (∀ y : Nat, x = some y → B y) := by
  subst hx
  exact ⟨fun _ => h, fun y e => (nomatch e)⟩
theorem co_any {x : Option Nat} {A : Prop} {B : Nat → Prop} (hn : x = none → A) (hs : ∀ i : Nat, x = some i → B i) : (x = none → A) ∧ (∀ y : Nat, x = some y → B y) := ⟨hn, hs⟩
theorem co_2 {P : Nat → Prop} (h0 : P 0) (h1 : P 1) {i : Nat} (hi : i < 2) : P i :=
  match i, hi with
  | 0, _ => h0
  | 1, _ => h1
theorem co_3 {P : Nat → Prop} (h0 : P 0) (h1 : P 1) (h2 : P 2) {i : Nat} (hi : i < 3) : P i :=
  match i, hi with
  | 0, _ => h0
  | 1, _ => h1
  | 2, _ => h2
theorem co_4 {P : Nat → Prop} (h0 : P 0) (h1 : P 1) (h2 : P 2) (h3 : P 3) {i : Nat} (hi : i < 4) : P i :=
  match i, hi with
  | 0, _ => h0
  | 1, _ => h1
  | 2, _ => h2
  | 3, _ => h3
theorem co_dec {N : Nat} {P : Nat → Prop} [DecidablePred P] (h : (List.range N).all (fun i => decide (P i)) = true) {i : Nat} (hi : i < N) : P i := by
  have := List.all_eq_true.mp h i (List.mem_range.mpr hi)
  exact of_decide_eq_true this
theorem co_tab {α : Type} {l : List α} {d : α} {P : α → Prop} (h : ∀ a, a ∈ l → P a) {i : Nat} (hi : i < l.length) : P (l.getD i d) := by
  rw [List.getD_eq_getElem?_getD, List.getElem?_eq_getElem hi]
  exact h _ (List.getElem_mem hi)
theorem pk_mu {x : Int32} {L : Nat} (h0 : ¬ x < 0) (h : ¬ nI L ≤ x) (hL : L < 2 ^ 31) : ∃ j : Nat, j < L ∧ x = nI j ∧ x + 1 = nI (j + 1) ∧ x.toNatClampNeg = j ∧ L - (x + 1).toNatClampNeg < L - x.toNatClampNeg := by
  obtain ⟨j, hj, rfl⟩ := nI_of h0
  have hl : j < L := Nat.not_le.mp fun q => h (nI_le q hj)
  refine ⟨j, hl, rfl, nI_1 j, nI_clamp hj, ?_⟩
  rw [nI_1, nI_clamp (by omega), nI_clamp hj]
  omega
theorem op_s {α : Type} {r : Option α} {A : Prop} {B : α → Prop} {y : α} (h : r = some y) (b : B y) : (r = none → A) ∧ ∀ z, r = some z → B z :=
  ⟨fun e => (by rw [h] at e; cases e), fun z e => (by rw [h] at e; cases e; exact b)⟩
def l_holds {α : Type} (a : Nat → Option Nat) (LP : List Nat) (p : Nat → α) (c : Nat) (b : Nat → α) : Prop :=
  ∀ j, j < c → ∃ y, a j = some y ∧ y ∈ LP ∧ p y = b j
theorem l_holds_0 {α : Type} {a : Nat → Option Nat} {LP : List Nat} {p b : Nat → α} : l_holds a LP p 0 b := fun j h => absurd h (Nat.not_lt_zero j)
theorem l_in_new (LP : List Nat) (q : Nat) : q ∈ LP ++ [q] := List.mem_append.mpr (Or.inr (List.mem_singleton.mpr rfl))
def l_sum (b : Nat → Int32) : Nat → Int32
  | 0 => 0
  | k + 1 => l_sum b k + b k
theorem sb_shr0 (x : Int32) : x >>> ((0 : Int32) &&& 31) = x := by
  rw [show ((0 : Int32) &&& 31) = 0 by decide]
  simp
theorem sb_shl0 (x : Int32) : x <<< ((0 : Int32) &&& 31) = x := by
  rw [show ((0 : Int32) &&& 31) = 0 by decide]
  simp
theorem sb_cl0 : (0 : Int32).toNatClampNeg = 0 := by decide
theorem sb_m1 {p : Nat} (h : 0 < p) : nI p + (-1) = nI (p - 1) := by
  obtain ⟨q, rfl⟩ : ∃ q, p = q + 1 := ⟨p - 1, by omega⟩
  exact pk_m1 q
def sb_b (c : Nat) : Int32 := (nI c).toInt8.toInt32
theorem sb_byte : ∀ c, c < 256 → sb_b c &&& 255 = nI c ∧ ((nI c).toUInt32 % 65536).toInt32 = nI c ∧ nI c ≤ 255 := by decide +kernel
def sb_Fit (a : Nat → Int32) : Prop := ∀ j, fits .byte (.int (a j)) = true
def sb_Lat (t : Nat → Nat) (n : Nat) (a : Nat → Int32) : Prop := ∀ j, j < n → t j < 256 ∧ a j = sb_b (t j)
theorem sb_fitB (c : Nat) : fits .byte (.int (sb_b c)) = true := pk_fb _
theorem sb_fit0 : sb_Fit (fun _ => 0) := fun _ => by
  show fits .byte (.int 0) = true
  decide
theorem sb_fitU {a : Nat → Int32} {k : Nat} {x : Int32} (h : sb_Fit a) (hx : fits .byte (.int x) = true) : sb_Fit (upd a k x) := by
  intro j
  by_cases e : j = k
  · subst e
    rw [pk_us]
    exact hx
  · rw [pk_un e]
    exact h j
def sb_cat (t : Nat → Nat) (n : Nat) (s : Nat → Nat) : Nat → Nat := fun j => if j < n then t j else s (j - n)
theorem sb_cat_lo {t s : Nat → Nat} {n j : Nat} (h : j < n) : sb_cat t n s j = t j := if_pos h
theorem sb_cat_hi {t s : Nat → Nat} {n j : Nat} : sb_cat t n s (n + j) = s j := by
  show (if n + j < n then t (n + j) else s (n + j - n)) = s j
  rw [if_neg (by omega), Nat.add_sub_cancel_left]
theorem sb_latPut {t s : Nat → Nat} {n w : Nat} {a a' : Nat → Int32} (h : sb_Lat t n a) (hk : ∀ j, j < n → a' j = a j) (hs : ∀ i, i < w → s i < 256 ∧ a' (n + i) = sb_b (s i)) : sb_Lat (sb_cat t n s) (n + w) a' := by
  intro j hj
  by_cases e : j < n
  · rw [sb_cat_lo e, hk j e]
    exact h j e
  · obtain ⟨i, rfl⟩ : ∃ i, j = n + i := ⟨j - n, by omega⟩
    rw [sb_cat_hi]
    exact hs i (by omega)
theorem sb_latKeep {t : Nat → Nat} {n : Nat} {a a' : Nat → Int32} (h : sb_Lat t n a) (hk : ∀ j, j < n → a' j = a j) : sb_Lat t n a' := fun j hj => by
  rw [hk j hj]
  exact h j hj
def sb_cap (q m : Nat) : Nat := if q ≤ m then m else if 2 * m + 2 < q then q else 2 * m + 2
def sb_Room (q m mc ms : Nat) : Prop := q ≤ m ∨ (1 ≤ mc ∧ sb_cap q m ≤ ms ∧ sb_cap q m ≤ 65536)
theorem sb_cap_ge (q m : Nat) : q ≤ sb_cap q m := by
  unfold sb_cap
  split
  · omega
  · split <;> omega
theorem sb_cap_gem (q m : Nat) : m ≤ sb_cap q m := by
  unfold sb_cap
  split
  · omega
  · split <;> omega
theorem sb_cap_le {q m mc ms : Nat} (hm : m ≤ 65536) (hr : sb_Room q m mc ms) : sb_cap q m ≤ 65536 := by
  rcases hr with h | h
  · rw [sb_cap, if_pos h]
    exact hm
  · exact h.2.2
theorem sb_at {P : Int32 → Prop} {x y : Int32} (e : x = y) (h : P y) : P x := e ▸ h
def sb_dg (w : Nat) : Nat := if w < 10 then 1 else if w < 100 then 2 else if w < 1000 then 3 else if w < 10000 then 4 else if w < 100000 then 5 else if w < 1000000 then 6 else if w < 10000000 then 7 else if w < 100000000 then 8 else if w < 1000000000 then 9 else 10
def sb_dec (v : Nat) : Nat → Nat := fun i => 48 + v / 10 ^ (sb_dg v - 1 - i) % 10
theorem sb_dg_in (w : Nat) : 1 ≤ sb_dg w ∧ sb_dg w ≤ 10 := by
  unfold sb_dg
  constructor <;> (repeat' split) <;> omega
theorem sb_dg100 {w : Nat} (h : 100 ≤ w) (hw : w < 2 ^ 31) : sb_dg w = sb_dg (w / 100) + 2 := by
  rw [sb_dg, sb_dg, if_neg (show ¬ w < 10 by omega), if_neg (show ¬ w < 100 by omega)]
  by_cases h3 : w < 1000
  · rw [if_pos h3, if_pos (show w / 100 < 10 by omega)]
  rw [if_neg h3, if_neg (show ¬ w / 100 < 10 by omega)]
  by_cases h4 : w < 10000
  · rw [if_pos h4, if_pos (show w / 100 < 100 by omega)]
  rw [if_neg h4, if_neg (show ¬ w / 100 < 100 by omega)]
  by_cases h5 : w < 100000
  · rw [if_pos h5, if_pos (show w / 100 < 1000 by omega)]
  rw [if_neg h5, if_neg (show ¬ w / 100 < 1000 by omega)]
  by_cases h6 : w < 1000000
  · rw [if_pos h6, if_pos (show w / 100 < 10000 by omega)]
  rw [if_neg h6, if_neg (show ¬ w / 100 < 10000 by omega)]
  by_cases h7 : w < 10000000
  · rw [if_pos h7, if_pos (show w / 100 < 100000 by omega)]
  rw [if_neg h7, if_neg (show ¬ w / 100 < 100000 by omega)]
  by_cases h8 : w < 100000000
  · rw [if_pos h8, if_pos (show w / 100 < 1000000 by omega)]
  rw [if_neg h8, if_neg (show ¬ w / 100 < 1000000 by omega)]
  by_cases h9 : w < 1000000000
  · rw [if_pos h9, if_pos (show w / 100 < 10000000 by omega)]
  rw [if_neg h9, if_neg (show ¬ w / 100 < 10000000 by omega)]
  rw [if_pos (show w / 100 < 100000000 by omega)]
theorem sb_negT {w : Nat} (h : w < 2 ^ 31) : (-nI w).toInt = -(w : Int) := by
  rw [Int32.toInt_neg, nI_toInt h]
  exact Int.bmod_eq_of_le (by omega) (by omega)
theorem sb_nle {a b : Nat} (ha : a < 2 ^ 31) (hb : b < 2 ^ 31) : -nI a ≤ -nI b ↔ b ≤ a := by
  rw [Int32.le_iff_toInt_le, sb_negT ha, sb_negT hb]
  omega
theorem sb_nlt {a b : Nat} (ha : a < 2 ^ 31) (hb : b < 2 ^ 31) : -nI a < -nI b ↔ b < a := by
  rw [Int32.lt_iff_toInt_lt, sb_negT ha, sb_negT hb]
  omega
theorem sb_cmp {A B : Prop} {x : Int32} (v c : Nat) (f : c ≤ v → A) (g : v < c → B) (hv : v < 2 ^ 31) (hx : x = -nI c := by rfl) (hc : c < 2 ^ 31 := by omega) : (-nI v ≤ x → A) ∧ (¬ -nI v ≤ x → B) := by
  subst hx
  rw [sb_nle hv hc]
  exact ⟨f, fun z => g (by omega)⟩
theorem sb_ndiv {w : Nat} (hw : w < 2 ^ 31) : (-nI w) / 100 = -nI (w / 100) := by
  apply Int32.toInt_inj.mp
  have h100 : (100 : Int32).toInt = 100 := by decide
  rw [Int32.toInt_div, sb_negT hw, h100, sb_negT (by omega), Int.neg_tdiv, Int.tdiv_eq_ediv_of_nonneg (by omega), Int.bmod_eq_of_le (by omega) (by omega)]
  omega
theorem sb_nrem {w : Nat} (hw : w < 2 ^ 31) : (-nI (w / 100)) * 100 - (-nI w) = nI (w % 100) := by
  have h := pk_rem (a := w) (d := 100) hw (by decide) (by decide)
  rw [pk_div hw (by decide) (by decide)] at h
  rw [← h]
  show (-nI (w / 100)) * nI 100 - (-nI w) = nI w - nI (w / 100) * nI 100
  rw [Int32.neg_mul, Int32.sub_neg, Int32.add_comm, ← Int32.sub_eq_add_neg]
end
section
/-! rows on bits, shifts and unsigned numbers, to paste: each family out of a closed proof of our own, whole with what it rests on; each by itself clean at Lean in its own claim (generation 39, form 5). Take a family whole -/
/-! ===== Int32 by its bits: bt x i ===== -/
def bt (x : Int32) (i : Nat) : Bool := x.toBitVec.getLsbD i
theorem b_ext {x y : Int32} (h : ∀ i, i < 32 → bt x i = bt y i) : x = y := Int32.toBitVec_inj.mp (BitVec.eq_of_getLsbD_eq (fun i hi => h i hi))
theorem b_or (x y : Int32) (i : Nat) : bt (x ||| y) i = (bt x i || bt y i) := by unfold bt; rw [Int32.toBitVec_or, BitVec.getLsbD_or]
theorem b_and (x y : Int32) (i : Nat) : bt (x &&& y) i = (bt x i && bt y i) := by unfold bt; rw [Int32.toBitVec_and, BitVec.getLsbD_and]
theorem b_xor (x y : Int32) (i : Nat) : bt (x ^^^ y) i = (bt x i ^^ bt y i) := by unfold bt; rw [Int32.toBitVec_xor, BitVec.getLsbD_xor]
theorem b_big {x : Int32} {i : Nat} (h : 32 ≤ i) : bt x i = false := BitVec.getLsbD_of_ge _ _ h
theorem b_255 (i : Nat) : bt 255 i = decide (i < 8) := by
  rcases Nat.lt_or_ge i 32 with h | h
  · exact (by decide +kernel : ∀ i, i < 32 → bt 255 i = decide (i < 8)) i h
  · rw [b_big h, decide_eq_false (by omega)]
theorem b_65535 (i : Nat) : bt 65535 i = decide (i < 16) := by
  rcases Nat.lt_or_ge i 32 with h | h
  · exact (by decide +kernel : ∀ i, i < 32 → bt 65535 i = decide (i < 16)) i h
  · rw [b_big h, decide_eq_false (by omega)]
theorem b_m1 : ∀ i, i < 32 → bt (-1) i = true := by decide +kernel
theorem b_0 (i : Nat) : bt 0 i = false := BitVec.getLsbD_zero
theorem s_l : ∀ n, n < 32 → ((nI n &&& 31).toBitVec.smod 32).toNat = n := by decide +kernel
theorem s_u : ∀ n, n < 32 → (((nI n).toUInt32 &&& Int32.toUInt32 31).toBitVec % 32).toNat = n := by decide +kernel
theorem b_shl (n : Nat) (hn : n < 32) (x : Int32) {i : Nat} (hi : i < 32) : bt (x <<< (nI n &&& 31)) i = (decide (n ≤ i) && bt x (i - n)) := by
  unfold bt
  rw [Int32.toBitVec_shiftLeft]
  show (x.toBitVec <<< ((nI n &&& 31).toBitVec.smod 32).toNat).getLsbD i = _
  rw [s_l n hn, BitVec.getLsbD_shiftLeft]
  rcases Nat.lt_or_ge i n with h | h
  · simp [h, Nat.not_le.mpr h]
  · simp [hi, h, Nat.not_lt.mpr h]
theorem b_ushr (n : Nat) (hn : n < 32) (x : Int32) (i : Nat) : bt ((x.toUInt32 >>> ((nI n).toUInt32 &&& Int32.toUInt32 31)).toInt32) i = bt x (n + i) := by
  show (x.toUInt32 >>> ((nI n).toUInt32 &&& Int32.toUInt32 31)).toBitVec.getLsbD i = x.toUInt32.toBitVec.getLsbD (n + i)
  rw [UInt32.toBitVec_shiftRight]
  show (x.toUInt32.toBitVec >>> (((nI n).toUInt32 &&& Int32.toUInt32 31).toBitVec % 32).toNat).getLsbD i = _
  rw [s_u n hn, BitVec.getLsbD_ushiftRight]
theorem b_sshr (n : Nat) (hn : n < 32) (x : Int32) {i : Nat} (hi : i < 32) : bt (x >>> (nI n &&& 31)) i = if n + i < 32 then bt x (n + i) else bt x 31 := by
  unfold bt
  rw [Int32.toBitVec_shiftRight]
  show (x.toBitVec.sshiftRight ((nI n &&& 31).toBitVec.smod 32).toNat).getLsbD i = _
  rw [s_l n hn, BitVec.getLsbD_sshiftRight, BitVec.msb_eq_getLsbD_last]
  simp [hi]
theorem b_shl8 (x : Int32) {i : Nat} (hi : i < 32) : bt (x <<< ((8 : Int32) &&& 31)) i = (decide (8 ≤ i) && bt x (i - 8)) := b_shl 8 (by omega) x hi
theorem b_shl16 (x : Int32) {i : Nat} (hi : i < 32) : bt (x <<< ((16 : Int32) &&& 31)) i = (decide (16 ≤ i) && bt x (i - 16)) := b_shl 16 (by omega) x hi
theorem b_shl24 (x : Int32) {i : Nat} (hi : i < 32) : bt (x <<< ((24 : Int32) &&& 31)) i = (decide (24 ≤ i) && bt x (i - 24)) := b_shl 24 (by omega) x hi
theorem b_sshr8 (x : Int32) {i : Nat} (hi : i < 32) : bt (x >>> ((8 : Int32) &&& 31)) i = if 8 + i < 32 then bt x (8 + i) else bt x 31 := b_sshr 8 (by omega) x hi
/-! ===== nI under and, xor, >>>, one bit, 65535 ===== -/
theorem nx_and (a b : Nat) : nI a &&& nI b = nI (a &&& b) := by
  apply Int32.toBitVec_inj.1
  show BitVec.ofNat 32 a &&& BitVec.ofNat 32 b = BitVec.ofNat 32 (a &&& b)
  apply BitVec.eq_of_getLsbD_eq
  intro i hi
  simp [hi]
theorem nx_xor (a b : Nat) : nI a ^^^ nI b = nI (a ^^^ b) := by
  apply Int32.toBitVec_inj.1
  show BitVec.ofNat 32 a ^^^ BitVec.ofNat 32 b = BitVec.ofNat 32 (a ^^^ b)
  apply BitVec.eq_of_getLsbD_eq
  intro i hi
  simp [hi]
theorem nx_cnt : ∀ j : Fin 32, (UInt32.ofNat j.val &&& Int32.toUInt32 31).toNat % 32 = j.val := by decide +kernel
theorem nx_ush {k j : Nat} (hk : k < 65536) (hj : j < 32) : ((nI k).toUInt32 >>> ((nI j).toUInt32 &&& Int32.toUInt32 31)).toInt32 = nI (k >>> j) := by
  have hs : k >>> j ≤ k := by
    rw [Nat.shiftRight_eq_div_pow]
    exact Nat.div_le_self _ _
  have e2 : UInt32.ofNat k >>> (UInt32.ofNat j &&& Int32.toUInt32 31) = UInt32.ofNat (k >>> j) := by
    apply UInt32.toNat_inj.1
    have h1 : (UInt32.ofNat k).toNat = k := Nat.mod_eq_of_lt (by omega)
    have h2 : (UInt32.ofNat (k >>> j)).toNat = k >>> j := Nat.mod_eq_of_lt (by omega)
    rw [UInt32.toNat_shiftRight, nx_cnt ⟨j, hj⟩, h1, h2]
  show (UInt32.ofNat k >>> (UInt32.ofNat j &&& Int32.toUInt32 31)).toInt32 = _
  rw [e2]
  rfl
theorem nx_bit {k j : Nat} (hk : k < 65536) (hj : j < 16) : (((nI k).toUInt32 >>> ((nI j).toUInt32 &&& Int32.toUInt32 31)).toInt32 &&& 1) = 0 ↔ k.testBit j = false := by
  rw [nx_ush hk (by omega)]
  show nI (k >>> j) &&& nI 1 = 0 ↔ _
  rw [nx_and, Nat.and_one_is_mod, ← nI_0, nI_eq (by omega) (by omega), Nat.testBit_eq_decide_div_mod_eq, Nat.shiftRight_eq_div_pow, decide_eq_false_iff_not]
  generalize k / 2 ^ j = z
  omega
theorem nx_mod (k : Nat) : nI k &&& 65535 = nI (k % 65536) := by
  show nI k &&& nI 65535 = _
  rw [nx_and, show (65535 : Nat) = 2 ^ 16 - 1 from rfl, Nat.and_two_pow_sub_one_eq_mod]
theorem nx_m16 {k : Nat} (h : k < 65536) : nI k &&& 65535 = nI k := by rw [nx_mod, Nat.mod_eq_of_lt h]
theorem nx_mask (x : Int32) : ∃ k, k < 65536 ∧ x &&& 65535 = nI k := by
  have e : x = nI x.toBitVec.toNat := by
    apply Int32.toBitVec_inj.1
    show x.toBitVec = BitVec.ofNat 32 x.toBitVec.toNat
    simp
  refine ⟨x.toBitVec.toNat % 65536, Nat.mod_lt _ (by omega), ?_⟩
  rw [← nx_mod, ← e]
/-! ===== Int32 as a set of bits: test, set ===== -/
def nf_M (m : Int32) : Nat := 4294967296 - m.toBitVec.toNat
theorem nf_sh : ∀ l, l < 32 → ((1 : Int32) <<< (nI l &&& 31)).toBitVec = BitVec.twoPow 32 l := by decide +kernel
theorem nf_sl : ∀ l, l < 32 → (((nI l).toUInt32 &&& Int32.toUInt32 31).toBitVec % 32).toNat = l := by decide +kernel
theorem nf_tp : ∀ l, l < 32 → BitVec.twoPow 32 l ≠ 0#32 := by decide +kernel
theorem nf_bit (m : Int32) (l : Nat) (hl : l < 32) : ((m.toUInt32 >>> ((nI l).toUInt32 &&& Int32.toUInt32 31)).toInt32 &&& 1) = 0 ↔ (m &&& ((1 : Int32) <<< (nI l &&& 31))) = 0 := by
  have e : ((m.toUInt32 >>> ((nI l).toUInt32 &&& Int32.toUInt32 31)).toInt32).toBitVec = m.toBitVec >>> l := by
    show m.toBitVec >>> (((nI l).toUInt32 &&& Int32.toUInt32 31).toBitVec % 32) = m.toBitVec >>> l
    rw [BitVec.ushiftRight_eq', nf_sl l hl]
  rw [← Int32.toBitVec_inj, ← Int32.toBitVec_inj, Int32.toBitVec_and, Int32.toBitVec_and, nf_sh l hl, e, BitVec.and_twoPow]
  show (m.toBitVec >>> l &&& 1#32) = 0#32 ↔ _ = 0#32
  rw [BitVec.and_one_eq_setWidth_ofBool_getLsbD, BitVec.getLsbD_ushiftRight, Nat.add_zero]
  cases hb : m.toBitVec.getLsbD l
  · exact ⟨fun _ => by simp, fun _ => by decide⟩
  · exact ⟨fun z => absurd z (by decide), fun z => absurd ((if_pos rfl).symm.trans z) (nf_tp l hl)⟩
theorem nf_gr (m k : Int32) (h : m &&& k = 0) (hk : k ≠ 0) : nf_M (m ||| k) < nf_M m := by
  have hm := m.toBitVec.isLt
  have hm' := (m ||| k).toBitVec.isLt
  have h1 : m.toBitVec.toNat ≤ (m ||| k).toBitVec.toNat := by
    rw [Int32.toBitVec_or, BitVec.toNat_or]
    exact Nat.left_le_or
  have h2 : m.toBitVec.toNat ≠ (m ||| k).toBitVec.toNat := by
    intro e
    have e2 : m = m ||| k := Int32.toBitVec_inj.mp (BitVec.eq_of_toNat_eq e)
    apply hk
    apply Int32.toBitVec_inj.mp
    show k.toBitVec = 0#32
    apply BitVec.eq_of_getLsbD_eq
    intro i hi
    have a : m.toBitVec.getLsbD i = (m.toBitVec.getLsbD i || k.toBitVec.getLsbD i) := by rw [← BitVec.getLsbD_or, ← Int32.toBitVec_or, ← e2]
    have b : (m.toBitVec.getLsbD i && k.toBitVec.getLsbD i) = false := by
      rw [← BitVec.getLsbD_and, ← Int32.toBitVec_and, h]
      exact BitVec.getLsbD_zero
    rw [BitVec.getLsbD_zero]
    revert a b
    cases m.toBitVec.getLsbD i <;> cases k.toBitVec.getLsbD i <;> simp
  unfold nf_M
  omega
/-! ===== a byte read unsigned ===== -/
theorem bp_b (x : Int32) : x.toInt8.toInt32 &&& 255 = x &&& 255 := by
  apply Int32.toBitVec_inj.mp
  rw [Int32.toBitVec_and, Int32.toBitVec_and, Int8.toBitVec_toInt32, Int32.toBitVec_toInt8]
  apply BitVec.eq_of_getLsbD_eq
  intro i hi
  rw [BitVec.getLsbD_and, BitVec.getLsbD_and]
  have hm : ∀ i < 32, 8 ≤ i → (255 : Int32).toBitVec.getLsbD i = false := by decide
  rcases Nat.lt_or_ge i 8 with z | z
  · rw [BitVec.getLsbD_signExtend, BitVec.getLsbD_signExtend, if_pos z, if_pos hi]
    simp only [z, hi, decide_true, Bool.true_and]
  · rw [hm i hi z]; simp
/-! ===== the char cast and 65535 ===== -/
theorem em_w (v : Int32) : ∃ w : Nat, w < 65536 ∧ (v.toUInt32 % 65536).toInt32 = nI w ∧ v &&& 65535 = nI w := by
  have hr := lw_u16_r v
  have h0 : (0 : Int32).toInt = 0 := by decide
  obtain ⟨w, h1, h2⟩ := nI_of (x := lw_u16 v) (by rw [Int32.lt_iff_toInt_lt]; omega)
  have h3 : (v.toUInt32 % 65536).toInt32 = nI w := h2
  rw [h2, nI_toInt h1] at hr
  exact ⟨w, by omega, h3, by rw [← lg_i2c_mask, ← lg_i2c_nf, h3]⟩
/-! ===== Int64 as a set of bits: test, set, clear ===== -/
theorem ts_nf {x : Bool} (h : ¬ x = false) : x = true := by cases x <;> first | rfl | exact absurd rfl h
theorem ts_nt {x : Bool} (h : ¬ x = true) : x = false := by cases x <;> first | rfl | exact absurd rfl h
theorem ts_bit {w : Int64} {s : UInt64} {j : Nat} (hj : j < 64) (hs : s.toNat = j) : ((w.toUInt64 >>> s).toInt64 &&& 1) = 0 ↔ w.toBitVec.getLsbD j = false := by
  have e : (w.toUInt64 >>> s).toInt64.toBitVec = w.toBitVec >>> j := by
    apply BitVec.eq_of_toNat_eq
    show (w.toUInt64 >>> s).toNat = _
    rw [UInt64.toNat_shiftRight, hs, Nat.mod_eq_of_lt hj, BitVec.toNat_ushiftRight]
    rfl
  rw [← Int64.toBitVec_inj, Int64.toBitVec_and, e]
  show w.toBitVec >>> j &&& 1#64 = 0#64 ↔ _
  constructor
  · intro h
    have t := congrArg (fun x => x.getLsbD 0) h
    simpa using t
  · intro h
    apply BitVec.eq_of_getLsbD_eq
    intro i hi
    cases i with
    | zero => simp [h]
    | succ i => simp
theorem ts_or {w m : Int64} {j : Nat} (hj : j < 64) (hm : m.toBitVec = BitVec.twoPow 64 j) : (w ||| m) = w ↔ w.toBitVec.getLsbD j = true := by
  rw [← Int64.toBitVec_inj, Int64.toBitVec_or, hm]
  constructor
  · intro h
    have t := congrArg (fun x => x.getLsbD j) h
    simp only [BitVec.getLsbD_or, BitVec.getLsbD_twoPow] at t
    simpa [hj] using t.symm
  · intro h
    apply BitVec.eq_of_getLsbD_eq
    intro i hi
    rw [BitVec.getLsbD_or, BitVec.getLsbD_twoPow]
    by_cases e : j = i
    · subst e; rw [h, Bool.true_or]
    · simp [e]
theorem ts_and {w m : Int64} {j : Nat} (hj : j < 64) (hm : m.toBitVec = BitVec.twoPow 64 j) : (w &&& (m ^^^ (-1))) = w ↔ w.toBitVec.getLsbD j = false := by
  have ha : (-1 : Int64).toBitVec = BitVec.allOnes 64 := by decide
  rw [← Int64.toBitVec_inj, Int64.toBitVec_and, Int64.toBitVec_xor, hm, ha]
  constructor
  · intro h
    have t := congrArg (fun x => x.getLsbD j) h
    simp only [BitVec.getLsbD_and, BitVec.getLsbD_xor, BitVec.getLsbD_twoPow, BitVec.getLsbD_allOnes] at t
    simpa [hj] using t.symm
  · intro h
    apply BitVec.eq_of_getLsbD_eq
    intro i hi
    rw [BitVec.getLsbD_and, BitVec.getLsbD_xor, BitVec.getLsbD_twoPow, BitVec.getLsbD_allOnes]
    by_cases e : j = i
    · subst e; rw [h, Bool.false_and]
    · simp [e, hi]
/-! ===== lN n to 2^64: shifts, and, or, masks, one bit ===== -/
theorem wb_tb (n : Nat) : (lN n).toBitVec = BitVec.ofNat 64 n := rfl
theorem wb_inj {a b : Int64} (h : a.toBitVec = b.toBitVec) : a = b := Int64.toBitVec_inj.mp h
theorem wb_tn {n : Nat} (h : n < 2 ^ 64) : (lN n).toBitVec.toNat = n := by rw [wb_tb, BitVec.toNat_ofNat, Nat.mod_eq_of_lt h]
theorem wb_of (x : Int64) : ∃ n, n < 2 ^ 64 ∧ x = lN n := ⟨x.toBitVec.toNat, x.toBitVec.isLt, wb_inj (by rw [wb_tb]; simp)⟩
theorem wb_of32 (x : Int32) : ∃ n, n < 2 ^ 32 ∧ x = nI n := ⟨x.toBitVec.toNat, x.toBitVec.isLt, Int32.toBitVec_inj.mp (by show _ = BitVec.ofNat 32 _; simp)⟩
theorem wb_c : ∀ k, k < 64 → ((nI k).toInt64 &&& 63) = lN k := by decide +kernel
theorem wb_cu : ∀ k, k < 64 → ((nI k).toInt64.toUInt64 &&& Int64.toUInt64 63) = UInt64.ofNat k := by decide +kernel
theorem wb_sm : ∀ k, k < 64 → (BitVec.ofNat 64 k).smod 64 = BitVec.ofNat 64 k := by decide +kernel
theorem wb_pw {a b : Nat} (h : a ≤ b) : 2 ^ b = 2 ^ a * 2 ^ (b - a) := by rw [← Nat.pow_add]; congr 1; omega
theorem wb_lt2 {a b : Nat} (h : a < b) : 2 ^ a < 2 ^ b := Nat.pow_lt_pow_right (by decide) h
theorem wb_mod (n : Nat) : lN n = lN (n % 2 ^ 64) := wb_inj (by rw [wb_tb, wb_tb]; apply BitVec.eq_of_toNat_eq; rw [BitVec.toNat_ofNat, BitVec.toNat_ofNat, Nat.mod_mod])
theorem wb_shr {n k : Nat} (hn : n < 2 ^ 64) (hk : k < 64) : ((lN n).toUInt64 >>> ((nI k).toInt64.toUInt64 &&& Int64.toUInt64 63)).toInt64 = lN (n / 2 ^ k) := by
  rw [wb_cu k hk]
  apply wb_inj
  apply BitVec.eq_of_toNat_eq
  show ((lN n).toUInt64 >>> UInt64.ofNat k).toNat = (BitVec.ofNat 64 _).toNat
  have h1 : (UInt64.ofNat k).toNat = k := by
    show (BitVec.ofNat 64 k).toNat = k
    rw [BitVec.toNat_ofNat, Nat.mod_eq_of_lt (by omega)]
  have h2 : (lN n).toUInt64.toNat = n := wb_tn hn
  rw [UInt64.toNat_shiftRight, h1, h2, Nat.mod_eq_of_lt hk, Nat.shiftRight_eq_div_pow, BitVec.toNat_ofNat, Nat.mod_eq_of_lt (Nat.lt_of_le_of_lt (Nat.div_le_self _ _) hn)]
theorem wb_shl (n : Nat) {k : Nat} (hk : k < 64) : lN n <<< ((nI k).toInt64 &&& 63) = lN (n * 2 ^ k) := by
  rw [wb_c k hk]
  apply wb_inj
  rw [Int64.toBitVec_shiftLeft, wb_tb, wb_tb, wb_tb, wb_sm k hk]
  apply BitVec.eq_of_toNat_eq
  rw [BitVec.shiftLeft_eq', BitVec.toNat_shiftLeft, BitVec.toNat_ofNat, BitVec.toNat_ofNat, BitVec.toNat_ofNat, Nat.mod_eq_of_lt (show k < 2 ^ 64 by omega), Nat.shiftLeft_eq, Nat.mul_mod, Nat.mod_mod, ← Nat.mul_mod]
theorem wb_and {a b : Nat} (ha : a < 2 ^ 64) (hb : b < 2 ^ 64) : lN a &&& lN b = lN (a &&& b) := by
  apply wb_inj
  rw [Int64.toBitVec_and, wb_tb, wb_tb, wb_tb]
  apply BitVec.eq_of_toNat_eq
  rw [BitVec.toNat_and, BitVec.toNat_ofNat, BitVec.toNat_ofNat, BitVec.toNat_ofNat, Nat.mod_eq_of_lt ha, Nat.mod_eq_of_lt hb, Nat.mod_eq_of_lt (Nat.and_lt_two_pow _ hb)]
theorem wb_or {a b : Nat} (ha : a < 2 ^ 64) (hb : b < 2 ^ 64) : lN a ||| lN b = lN (a ||| b) := by
  apply wb_inj
  rw [Int64.toBitVec_or, wb_tb, wb_tb, wb_tb]
  apply BitVec.eq_of_toNat_eq
  rw [BitVec.toNat_or, BitVec.toNat_ofNat, BitVec.toNat_ofNat, BitVec.toNat_ofNat, Nat.mod_eq_of_lt ha, Nat.mod_eq_of_lt hb, Nat.mod_eq_of_lt (Nat.or_lt_two_pow ha hb)]
theorem wb_mask {n k : Nat} (hn : n < 2 ^ 64) (hk : k < 64) : lN n &&& lN (2 ^ k - 1) = lN (n % 2 ^ k) := by
  rw [wb_and hn (by have := wb_lt2 hk; omega), Nat.and_two_pow_sub_one_eq_mod]
theorem wb_a1 {n : Nat} (hn : n < 2 ^ 64) : lN n &&& 1 = lN (n % 2) := wb_mask (k := 1) hn (by decide)
theorem wb_bit {n k : Nat} (hn : n < 2 ^ 64) (hk : k < 64) : ((lN n).toUInt64 >>> ((nI k).toInt64.toUInt64 &&& Int64.toUInt64 63)).toInt64 &&& 1 = lN (n / 2 ^ k % 2) := by
  rw [wb_shr hn hk, wb_a1 (Nat.lt_of_le_of_lt (Nat.div_le_self _ _) hn)]
theorem wb_xor {q k : Nat} (hk : k < 63) (h : 2 ^ k ≤ q) (h2 : q < 2 ^ (k + 1)) : lN q ^^^ lN (2 ^ k) = lN (q - 2 ^ k) := by
  obtain ⟨r, rfl⟩ : ∃ r, q = 2 ^ k + r := ⟨q - 2 ^ k, by omega⟩
  have hr : r < 2 ^ k := by rw [Nat.pow_succ] at h2; omega
  have hx : (2 ^ k + r) ^^^ 2 ^ k = r := by
    apply Nat.eq_of_testBit_eq
    intro i
    rw [Nat.testBit_xor, Nat.testBit_two_pow]
    rcases Nat.lt_trichotomy i k with h | h | h
    · rw [Nat.testBit_two_pow_add_gt h]
      simp [show ¬ k = i by omega]
    · subst h
      rw [Nat.testBit_two_pow_add_eq]
      simp
    · have a1 : 2 ^ (k + 1) ≤ 2 ^ i := Nat.pow_le_pow_right (by decide) h
      rw [Nat.testBit_lt_two_pow (show 2 ^ k + r < 2 ^ i by omega), Nat.testBit_lt_two_pow (show r < 2 ^ i by omega)]
      simp [show ¬ k = i by omega]
  have b1 := wb_lt2 (show k + 1 < 64 by omega)
  have b2 := wb_lt2 (show k < 64 by omega)
  apply wb_inj
  rw [Int64.toBitVec_xor, wb_tb, wb_tb, wb_tb]
  apply BitVec.eq_of_toNat_eq
  rw [BitVec.toNat_xor, BitVec.toNat_ofNat, BitVec.toNat_ofNat, BitVec.toNat_ofNat, Nat.mod_eq_of_lt (by omega : 2 ^ k + r < 2 ^ 64), Nat.mod_eq_of_lt b2, hx, Nat.add_sub_cancel_left, Nat.mod_eq_of_lt (by omega)]
/-! ===== lN: masks, 'or' of parts that don't overlap is a sum ===== -/
theorem u_tn {n : Nat} (h : n < 2 ^ 64) : (UInt64.ofNat n).toNat = n := Nat.mod_eq_of_lt h
theorem g_and {a b c : Nat} (ha : a < 2 ^ 64) (hb : b < 2 ^ 64) (hc : a &&& b = c) : lN a &&& lN b = lN c := by
  subst hc
  have h : UInt64.ofNat a &&& UInt64.ofNat b = UInt64.ofNat (a &&& b) := UInt64.toNat_inj.mp (by rw [UInt64.toNat_and, u_tn ha, u_tn hb, u_tn (Nat.and_lt_two_pow a hb)])
  have h2 := congrArg UInt64.toInt64 h
  exact h2
theorem g_and1 {a : Nat} (ha : a < 2 ^ 64) : lN a &&& 1 = lN (a % 2) := g_and (b := 1) ha (by decide) (Nat.and_two_pow_sub_one_eq_mod a 1)
theorem g_mask {a s p : Nat} (hp : 2 ^ s = p) (hs : s < 64) (ha : a < 2 ^ 64) : lN a &&& lN (p - 1) = lN (a % p) := by
  subst hp
  have := Nat.pow_lt_pow_right (show 1 < 2 by decide) hs
  exact g_and ha (by omega) (Nat.and_two_pow_sub_one_eq_mod a s)
theorem g_or {k p a b : Nat} (hp : 2 ^ k = p) (ha : a < p) (h : b * p + a < 2 ^ 64) : lN (b * p) ||| lN a = lN (b * p + a) := by
  subst hp
  have h1 : b * 2 ^ k ||| a = b * 2 ^ k + a := by rw [← Nat.shiftLeft_eq, Nat.shiftLeft_add_eq_or_of_lt ha]
  have h3 : UInt64.ofNat (b * 2 ^ k) ||| UInt64.ofNat a = UInt64.ofNat (b * 2 ^ k + a) := UInt64.toNat_inj.mp (by rw [UInt64.toNat_or, u_tn (by omega), u_tn (by omega), u_tn h, h1])
  have h2 := congrArg UInt64.toInt64 h3
  exact h2
theorem g_or' {k p a b : Nat} (hp : 2 ^ k = p) (ha : a < p) (h : a + b * p < 2 ^ 64) : lN a ||| lN (b * p) = lN (a + b * p) := by
  rw [Int64.or_comm, g_or hp ha (by omega), Nat.add_comm]
theorem g_ushr {a k p : Nat} {y : UInt64} (hy : y = UInt64.ofNat k) (hk : k < 64) (hp : 2 ^ k = p) (ha : a < 2 ^ 64) : ((lN a).toUInt64 >>> y).toInt64 = lN (a / p) := by
  subst hy hp
  have h : UInt64.ofNat a >>> UInt64.ofNat k = UInt64.ofNat (a / 2 ^ k) := UInt64.toNat_inj.mp (by rw [UInt64.toNat_shiftRight, u_tn ha, u_tn (by omega), u_tn (Nat.lt_of_le_of_lt (Nat.div_le_self _ _) ha), Nat.mod_eq_of_lt hk, Nat.shiftRight_eq_div_pow])
  have h2 := congrArg UInt64.toInt64 h
  exact h2
theorem g_shl {a k p : Nat} {y : Int64} (hy : y.toBitVec.smod 64 = BitVec.ofNat 64 k) (hk : k < 64) (hp : 2 ^ k = p) (ha : a < 2 ^ 64) : lN a <<< y = lN (a * p) := by
  subst hp
  apply Int64.toBitVec_inj.mp
  rw [Int64.toBitVec_shiftLeft, hy]
  apply BitVec.eq_of_toNat_eq
  have hb : (lN a).toBitVec.toNat = a := Nat.mod_eq_of_lt ha
  have hk' : (BitVec.ofNat 64 k).toNat = k := Nat.mod_eq_of_lt (by omega)
  have h : ((lN a).toBitVec <<< BitVec.ofNat 64 k).toNat = (a * 2 ^ k) % 2 ^ 64 := by simp only [BitVec.shiftLeft_eq', BitVec.toNat_shiftLeft, hb, hk', Nat.shiftLeft_eq]
  exact h
/-! ===== lN to 2^62 under >> and >>> ===== -/
theorem pf_lI {a : Nat} (h : a < 2 ^ 63) : (lN a).toInt = (a : Int) := lg_ofNat_toInt h
theorem pf_shr {a d : Nat} {D : Int64} (hD : (D.toBitVec.smod 64).toNat = d) (h : a < 2 ^ 62) : lN a >>> D = lN (a / 2 ^ d) := by
  have hd : a / 2 ^ d ≤ a := Nat.div_le_self _ _
  apply Int64.toInt_inj.mp
  have e : (lN a >>> D).toInt = (lN a).toInt >>> d := by
    rw [← hD]
    exact BitVec.toInt_sshiftRight ..
  rw [e, Int.shiftRight_eq_div_pow, pf_lI (by omega), pf_lI (by omega)]
  rfl
theorem pf_ushr {a d : Nat} {D : UInt64} (hD : D.toNat % 64 = d) (h : a < 2 ^ 62) : ((lN a).toUInt64 >>> D).toInt64 = lN (a / 2 ^ d) := by
  have hd : a / 2 ^ d ≤ a := Nat.div_le_self _ _
  have e : (lN a).toUInt64 >>> D = UInt64.ofNat (a / 2 ^ d) := UInt64.toNat_inj.mp (by
    rw [UInt64.toNat_shiftRight, hD, Nat.shiftRight_eq_div_pow, UInt64.toNat_ofNat']
    show (UInt64.ofNat a).toNat / 2 ^ d = _
    rw [UInt64.toNat_ofNat', Nat.mod_eq_of_lt (by omega), Nat.mod_eq_of_lt (by omega)])
  rw [e]
  rfl
theorem pf_andw (x : Int64) : ∃ m, m < 2 ^ 32 ∧ x &&& 4294967295 = lN m := ⟨x.toBitVec.toNat % 2 ^ 32, Nat.mod_lt _ (by decide), Int64.toBitVec_inj.mp (BitVec.eq_of_toNat_eq (by
  show (x.toBitVec &&& 4294967295#64).toNat = (BitVec.ofNat 64 (x.toBitVec.toNat % 2 ^ 32)).toNat
  rw [BitVec.toNat_and, show (4294967295#64).toNat = 2 ^ 32 - 1 from by decide, Nat.and_two_pow_sub_one_eq_mod, BitVec.toNat_ofNat]
  omega))⟩
/-! ===== Int64 as an unsigned number: uN x ===== -/
def uN (x : Int64) : Nat := x.toUInt64.toNat
theorem uN_lt (x : Int64) : uN x < 18446744073709551616 := x.toUInt64.toNat_lt
theorem uN_inj {x y : Int64} (h : uN x = uN y) : x = y := congrArg UInt64.toInt64 (UInt64.toNat_inj.mp h)
theorem uN_add (x y : Int64) : uN (x + y) = (uN x + uN y) % 18446744073709551616 := by
  show (x.toUInt64 + y.toUInt64).toNat = _
  exact UInt64.toNat_add _ _
theorem uN_mul (x y : Int64) : uN (x * y) = (uN x * uN y) % 18446744073709551616 := by
  show (x.toUInt64 * y.toUInt64).toNat = _
  exact UInt64.toNat_mul _ _
theorem uN_shl (x : Int64) : uN (x <<< ((1 : Int32).toInt64 &&& 63)) = (2 * uN x) % 18446744073709551616 := by
  have h : (((1 : Int32).toInt64 &&& 63).toBitVec.smod 64).toNat = 1 := by decide
  show (x.toBitVec <<< (((1 : Int32).toInt64 &&& 63).toBitVec.smod 64).toNat).toNat = _
  rw [h, BitVec.toNat_shiftLeft, Nat.shiftLeft_eq, Nat.mul_comm]
  rfl
theorem uN_shr (x : Int64) (s : UInt64) : uN (x.toUInt64 >>> s).toInt64 = uN x / 2 ^ (s.toNat % 64) := by
  show (x.toUInt64 >>> s).toNat = _
  rw [UInt64.toNat_shiftRight, Nat.shiftRight_eq_div_pow]
  rfl
theorem uN_s32 (x : Int64) : uN (x.toUInt64 >>> ((32 : Int32).toInt64.toUInt64 &&& Int64.toUInt64 63)).toInt64 = uN x / 4294967296 := by
  have h : ((32 : Int32).toInt64.toUInt64 &&& Int64.toUInt64 63).toNat % 64 = 32 := by decide
  rw [uN_shr, h]
theorem uN_s63 (x : Int64) : uN (x.toUInt64 >>> ((63 : Int32).toInt64.toUInt64 &&& Int64.toUInt64 63)).toInt64 = uN x / 9223372036854775808 := by
  have h : ((63 : Int32).toInt64.toUInt64 &&& Int64.toUInt64 63).toNat % 64 = 63 := by decide
  rw [uN_shr, h]
theorem uN_lo (x : Int64) : uN (x &&& 4294967295) = uN x % 4294967296 := by
  show (x.toUInt64 &&& Int64.toUInt64 4294967295).toNat = _
  rw [UInt64.toNat_and]
  exact Nat.and_two_pow_sub_one_eq_mod _ 32
theorem uN_bit (x : Int64) : (x &&& 1) = 0 ↔ uN x % 2 = 0 := by
  have h : uN (x &&& 1) = uN x % 2 := by
    show (x.toUInt64 &&& Int64.toUInt64 1).toNat = _
    rw [UInt64.toNat_and]
    exact Nat.and_two_pow_sub_one_eq_mod _ 1
  rw [← h]
  exact ⟨fun z => by rw [z]; rfl, fun z => uN_inj (z.trans rfl)⟩
theorem uN_or {x y : Int64} (hy : uN y < 2) : uN ((x <<< ((1 : Int32).toInt64 &&& 63)) ||| y) = (2 * uN x) % 18446744073709551616 + uN y := by
  have h1 : uN ((x <<< ((1 : Int32).toInt64 &&& 63)) ||| y) = uN (x <<< ((1 : Int32).toInt64 &&& 63)) ||| uN y := UInt64.toNat_or _ _
  have h2 : (2 * uN x) % 18446744073709551616 = 2 ^ 1 * (uN x % 9223372036854775808) := by omega
  rw [h1, uN_shl, h2]
  exact (Nat.two_pow_add_eq_or_of_lt (i := 1) hy _).symm
theorem nat_xor {a : Nat} (h : a < 18446744073709551616) : a ^^^ 2 ^ 63 = (a + 9223372036854775808) % 18446744073709551616 := by
  have h1 : (a ^^^ 2 ^ 63) % 2 ^ 63 = a % 2 ^ 63 := by rw [Nat.xor_mod_two_pow, Nat.mod_self, Nat.xor_zero]
  have h2 : (a ^^^ 2 ^ 63) / 2 ^ 63 = (a / 2 ^ 63) ^^^ 1 := by rw [Nat.xor_div_two_pow, Nat.div_self (Nat.two_pow_pos 63)]
  have h3 : a / 2 ^ 63 = 0 ∨ a / 2 ^ 63 = 1 := by omega
  generalize a ^^^ 2 ^ 63 = t at h1 h2
  rcases h3 with h3 | h3
  · rw [h3] at h2
    have h2 : t / 2 ^ 63 = 1 := h2
    omega
  · rw [h3] at h2
    have h2 : t / 2 ^ 63 = 0 := h2
    omega
theorem uN_xor (x : Int64) : uN (x ^^^ (-9223372036854775808)) = (uN x + 9223372036854775808) % 18446744073709551616 := by
  rw [← nat_xor (uN_lt x)]
  exact UInt64.toNat_xor _ _
theorem uN_int (x : Int64) : x.toInt = if 2 * uN x < 18446744073709551616 then (uN x : Int) else (uN x : Int) - 18446744073709551616 := BitVec.toInt_eq_toNat_cond _
theorem uN_le (x y : Int64) : (x ^^^ (-9223372036854775808)) ≤ (y ^^^ (-9223372036854775808)) ↔ uN x ≤ uN y := by
  have hx := uN_lt x
  have hy := uN_lt y
  rw [Int64.le_iff_toInt_le, uN_int, uN_int, uN_xor, uN_xor]
  omega
theorem uN_sk (x : Int64) {k : Nat} (hk : k < 64) : uN (x.toUInt64 >>> ((nI k).toInt64.toUInt64 &&& Int64.toUInt64 63)).toInt64 = uN x / 2 ^ k := by
  have h : ((nI k).toInt64.toUInt64 &&& Int64.toUInt64 63).toNat % 64 = k := by
    rw [nI_l (by omega), UInt64.toNat_and]
    have e : (lN k).toUInt64.toNat = k % 2 ^ 64 := rfl
    have e2 : (Int64.toUInt64 63).toNat = 2 ^ 6 - 1 := by decide
    rw [e, e2, Nat.and_two_pow_sub_one_eq_mod]
    omega
  rw [uN_shr, h]
/-! ===== unsigned comparison by xor with the least ===== -/
theorem lN_bv (n : Nat) : (lN n).toBitVec = BitVec.ofNat 64 n := rfl
theorem lN_nat {n : Nat} (h : n < 2 ^ 64) : (lN n).toBitVec.toNat = n := by rw [lN_bv, BitVec.toNat_ofNat]; exact Nat.mod_eq_of_lt h
theorem lN_xor (a b : Nat) : lN a ^^^ lN b = lN (a ^^^ b) := by
  apply Int64.toBitVec_inj.mp; rw [Int64.toBitVec_xor, lN_bv, lN_bv, lN_bv]; apply BitVec.eq_of_getLsbD_eq; intro i hi; simp [BitVec.getLsbD_ofNat, Nat.testBit_xor, hi]
theorem lN_ti {m : Nat} (h : m < 2 ^ 64) : (lN m).toInt = if m < 2 ^ 63 then (m : Int) else (m : Int) - 2 ^ 64 := by
  have c := BitVec.toInt_eq_toNat_cond (lN m).toBitVec
  rw [lN_nat h] at c
  show (lN m).toBitVec.toInt = _
  rw [c]
  split <;> split <;> omega
theorem xor63 {x : Nat} (h : x < 2 ^ 63) : x ^^^ 2 ^ 63 = 2 ^ 63 + x := by
  apply Nat.eq_of_testBit_eq
  intro i
  rw [Nat.testBit_xor, Nat.testBit_two_pow]
  rcases Nat.lt_trichotomy i 63 with z | z | z
  · rw [Nat.testBit_two_pow_add_gt z, decide_eq_false (by omega)]; simp
  · subst z; rw [Nat.testBit_two_pow_add_eq]; simp
  · have hp : 2 ^ 64 ≤ 2 ^ i := Nat.pow_le_pow_right (by decide) z
    rw [Nat.testBit_lt_two_pow (show x < 2 ^ i by omega), Nat.testBit_lt_two_pow (show 2 ^ 63 + x < 2 ^ i by omega), decide_eq_false (by omega)]; rfl
theorem xorS {a : Nat} (h : a < 2 ^ 64) : (lN a ^^^ (-9223372036854775808)).toInt = (a : Int) - 2 ^ 63 := by
  rw [show (-9223372036854775808 : Int64) = lN (2 ^ 63) from by decide +kernel, lN_xor]
  rcases Nat.lt_or_ge a (2 ^ 63) with z | z
  · rw [xor63 z, lN_ti (by omega), if_neg (by omega)]; omega
  · obtain ⟨x, rfl⟩ : ∃ x, a = 2 ^ 63 + x := ⟨a - 2 ^ 63, by omega⟩
    rw [← xor63 (by omega), Nat.xor_assoc, Nat.xor_self, Nat.xor_zero, lN_ti (by omega), if_pos (by omega), xor63 (by omega)]; omega
theorem ultL {a b : Nat} (ha : a < 2 ^ 64) (hb : b < 2 ^ 64) : ((lN b ^^^ (-9223372036854775808)) ≤ (lN a ^^^ (-9223372036854775808))) ↔ b ≤ a := by
  rw [Int64.le_iff_toInt_le, xorS ha, xorS hb]; omega
/-! ===== Int64 masks of n low bits ===== -/
theorem cr_bits (W U M : BitVec 64) : ((W &&& U) &&& (U &&& (M ^^^ BitVec.allOnes 64))) = 0#64 ↔ (W &&& U) &&& M = W &&& U := by
  constructor
  · intro h
    apply BitVec.eq_of_getLsbD_eq
    intro i hi
    have e := congrArg (fun x => BitVec.getLsbD x i) h
    simp only [BitVec.getLsbD_and, BitVec.getLsbD_xor, BitVec.getLsbD_allOnes, BitVec.getLsbD_zero, hi, decide_true] at e ⊢
    revert e
    cases W.getLsbD i <;> cases U.getLsbD i <;> cases M.getLsbD i <;> decide
  · intro h
    apply BitVec.eq_of_getLsbD_eq
    intro i hi
    have e := congrArg (fun x => BitVec.getLsbD x i) h
    simp only [BitVec.getLsbD_and, BitVec.getLsbD_xor, BitVec.getLsbD_allOnes, BitVec.getLsbD_zero, hi, decide_true] at e ⊢
    revert e
    cases W.getLsbD i <;> cases U.getLsbD i <;> cases M.getLsbD i <;> decide
theorem cr_mask (w U m : Int64) (n : Nat) (hm : m.toBitVec.toNat = 2 ^ n - 1) : ((w &&& U) &&& (U &&& (m ^^^ (-1)))) = 0 ↔ (w &&& U).toBitVec.toNat < 2 ^ n := by
  have e0 : (-1 : Int64).toBitVec = BitVec.allOnes 64 := by decide
  have z0 : (0 : Int64).toBitVec = 0#64 := by decide
  rw [← Int64.toBitVec_inj, z0, Int64.toBitVec_and, Int64.toBitVec_and, Int64.toBitVec_and, Int64.toBitVec_xor, e0, cr_bits]
  generalize w.toBitVec &&& U.toBitVec = T
  rw [← BitVec.toNat_inj, BitVec.toNat_and, hm, Nat.and_two_pow_sub_one_eq_mod]
  constructor
  · intro h
    have t := Nat.mod_lt T.toNat (Nat.two_pow_pos n)
    rw [h] at t
    exact t
  · exact Nat.mod_eq_of_lt
theorem cr_shr (t : Int64) (x : UInt64) (n : Nat) (hx : x.toNat % 64 = n) : (t.toUInt64 >>> x).toInt64 = 0 ↔ t.toBitVec.toNat < 2 ^ n := by
  rw [← Int64.toBitVec_inj, ← BitVec.toNat_inj]
  show (t.toUInt64 >>> x).toNat = 0 ↔ t.toUInt64.toNat < 2 ^ n
  rw [UInt64.toNat_shiftRight, hx, Nat.shiftRight_eq_div_pow]
  constructor
  · intro h
    have d : t.toUInt64.toNat / 2 ^ n < 1 := by
      rw [h]
      decide
    have e := (Nat.div_lt_iff_lt_mul (Nat.two_pow_pos n)).mp d
    rw [Nat.one_mul] at e
    exact e
  · exact Nat.div_eq_of_lt
theorem cr_amt (s : Int64) : ∃ n, n < 64 ∧ s &&& 63 = lN n ∧ (s.toUInt64 &&& Int64.toUInt64 63).toNat % 64 = n := by
  have e : (s.toUInt64 &&& Int64.toUInt64 63).toNat = s.toUInt64.toNat % 2 ^ 6 := by
    rw [UInt64.toNat_and, show (Int64.toUInt64 63).toNat = 2 ^ 6 - 1 from by decide, Nat.and_two_pow_sub_one_eq_mod]
  refine ⟨s.toUInt64.toNat % 2 ^ 6, by omega, ?_, by omega⟩
  rw [← Int64.toBitVec_inj, ← BitVec.toNat_inj]
  show (s.toUInt64 &&& Int64.toUInt64 63).toNat = (BitVec.ofNat 64 (s.toUInt64.toNat % 2 ^ 6)).toNat
  rw [e, BitVec.toNat_ofNat]
  omega
end
section
/-! algebra of planes and points: a quadruple (a, b, c, d) is the plane a x + b y + c z <= d, or the point (x, y, z) / w, or a direction (w = 0) -/
abbrev hb_Q : Type := Int × Int × Int × Int
def hb_dot (p v : hb_Q) : Int := p.1 * v.1 + p.2.1 * v.2.1 + p.2.2.1 * v.2.2.1
def hb_val (p v : hb_Q) : Int := p.2.2.2 * v.2.2.2 - hb_dot p v
def hb_cx (p q : hb_Q) : Int := p.2.1 * q.2.2.1 - p.2.2.1 * q.2.1
def hb_cy (p q : hb_Q) : Int := p.2.2.1 * q.1 - p.1 * q.2.2.1
def hb_cz (p q : hb_Q) : Int := p.1 * q.2.1 - p.2.1 * q.1
def hb_crs (p q : hb_Q) : hb_Q := (hb_cx p q, hb_cy p q, hb_cz p q, 0)
def hb_det (p q r : hb_Q) : Int := hb_cx p q * r.1 + hb_cy p q * r.2.1 + hb_cz p q * r.2.2.1
def hb_lin (s t : Int) (u v : hb_Q) : hb_Q := (s * u.1 + t * v.1, s * u.2.1 + t * v.2.1, s * u.2.2.1 + t * v.2.2.1, s * u.2.2.2 + t * v.2.2.2)
def hb_neg (u : hb_Q) : hb_Q := (-u.1, -u.2.1, -u.2.2.1, -u.2.2.2)
def hb_Par (p q : hb_Q) : Prop := hb_cx p q = 0 ∧ hb_cy p q = 0 ∧ hb_cz p q = 0
def hb_Nz (p : hb_Q) : Prop := ¬ (p.1 = 0 ∧ p.2.1 = 0 ∧ p.2.2.1 = 0)
theorem hb_sq (a : Int) : 0 ≤ a * a := by
  rcases Int.le_total 0 a with h | h
  · exact Int.mul_nonneg h h
  · exact Int.mul_nonneg_of_nonpos_of_nonpos h h
theorem hb_sqp {a : Int} (h : a ≠ 0) : 0 < a * a := by
  rcases Int.lt_or_gt_of_ne h with h | h
  · exact Int.mul_pos_of_neg_of_neg h h
  · exact Int.mul_pos h h
theorem hb_val_lin (p u v : hb_Q) (s t : Int) : hb_val p (hb_lin s t u v) = s * hb_val p u + t * hb_val p v := by
  simp only [hb_val, hb_dot, hb_lin]; grind
theorem hb_dot_lin (p u v : hb_Q) (s t : Int) : hb_dot p (hb_lin s t u v) = s * hb_dot p u + t * hb_dot p v := by
  simp only [hb_dot, hb_lin]; grind
theorem hb_val_neg (p u : hb_Q) : hb_val p (hb_neg u) = - hb_val p u := by
  simp only [hb_val, hb_dot, hb_neg]; grind
theorem hb_dot_neg (p u : hb_Q) : hb_dot p (hb_neg u) = - hb_dot p u := by
  simp only [hb_dot, hb_neg]; grind
theorem hb_val_dir (p d : hb_Q) (h : d.2.2.2 = 0) : hb_val p d = - hb_dot p d := by
  simp only [hb_val, h]; grind
theorem hb_nz_neg {d : hb_Q} (h : hb_Nz d) : hb_Nz (hb_neg d) := by
  simp only [hb_Nz, hb_neg] at *; omega
theorem hb_dot_pos {p : hb_Q} (h : hb_Nz p) : 0 < hb_dot p p := by
  have h1 := hb_sq p.1
  have h2 := hb_sq p.2.1
  have h3 := hb_sq p.2.2.1
  simp only [hb_dot]
  by_cases e1 : p.1 = 0
  · by_cases e2 : p.2.1 = 0
    · have e3 : p.2.2.1 ≠ 0 := fun e3 => h ⟨e1, e2, e3⟩
      have := hb_sqp e3
      omega
    · have := hb_sqp e2
      omega
  · have := hb_sqp e1
    omega
theorem hb_dot_nz {p : hb_Q} (h : hb_dot p p ≠ 0) : hb_Nz p := by
  intro ⟨e1, e2, e3⟩
  apply h
  simp only [hb_dot, e1, e2, e3]; rfl
theorem hb_dot_comm (p q : hb_Q) : hb_dot p q = hb_dot q p := by
  simp only [hb_dot]; grind
/-- Binet and Cauchy -/
theorem hb_bc (p q d : hb_Q) : hb_dot p p * hb_dot q d - hb_dot p q * hb_dot p d = hb_cx p q * hb_cx p d + hb_cy p q * hb_cy p d + hb_cz p q * hb_cz p d := by
  simp only [hb_dot, hb_cx, hb_cy, hb_cz]; grind
theorem hb_par_dot {p q d : hb_Q} (hp : hb_Nz p) (h : hb_Par p q) (hd : hb_dot p d = 0) : hb_dot q d = 0 := by
  have e := hb_bc p q d
  rw [h.1, h.2.1, h.2.2, hd] at e
  have e2 : hb_dot p p * hb_dot q d = 0 := by omega
  have := hb_dot_pos hp
  rcases Int.mul_eq_zero.mp e2 with h | h
  · omega
  · exact h
theorem hb_par_symm {p q : hb_Q} (h : hb_Par p q) : hb_Par q p := by
  simp only [hb_Par, hb_cx, hb_cy, hb_cz] at *
  obtain ⟨h1, h2, h3⟩ := h
  refine ⟨?_, ?_, ?_⟩ <;> grind
theorem hb_det_crs (p q r : hb_Q) : hb_det p q r = hb_dot r (hb_crs p q) := by
  simp only [hb_det, hb_dot, hb_crs]; grind
theorem hb_crs_p (p q : hb_Q) : hb_dot p (hb_crs p q) = 0 := by
  simp only [hb_dot, hb_crs, hb_cx, hb_cy, hb_cz]; grind
theorem hb_crs_q (p q : hb_Q) : hb_dot q (hb_crs p q) = 0 := by
  simp only [hb_dot, hb_crs, hb_cx, hb_cy, hb_cz]; grind
theorem hb_crs_nz {p q : hb_Q} (h : ¬ hb_Par p q) : hb_Nz (hb_crs p q) := h
theorem hb_crs_w (p q : hb_Q) : (hb_crs p q).2.2.2 = 0 := rfl
/-- a direction orthogonal to one that isn't 0 -/
theorem hb_perp (n : hb_Q) : ∃ d : hb_Q, d.2.2.2 = 0 ∧ hb_Nz d ∧ hb_dot n d = 0 := by
  by_cases h : n.1 = 0
  · refine ⟨(1, 0, 0, 0), rfl, ?_, ?_⟩
    · simp only [hb_Nz]; omega
    · simp only [hb_dot, h]; omega
  · refine ⟨(-n.2.1, n.1, 0, 0), rfl, ?_, ?_⟩
    · simp only [hb_Nz]; omega
    · simp only [hb_dot]; grind
/-- n and g orthogonal, neither 0: their product isn't 0 -/
theorem hb_crs_orth {n g : hb_Q} (hn : hb_Nz n) (hg : hb_Nz g) (h : hb_dot n g = 0) : hb_Nz (hb_crs n g) := by
  have e := hb_bc n g g
  rw [h] at e
  have p1 := hb_dot_pos hn
  have p2 := hb_dot_pos hg
  have p3 := Int.mul_pos p1 p2
  intro ⟨e1, e2, e3⟩
  simp only [hb_crs] at e1 e2 e3
  rw [e1, e2, e3] at e
  omega
/-- one factor cancels -/
theorem hb_cancel {a x y : Int} (h : 0 < a) (e : a * x = a * y) : x = y := Int.eq_of_mul_eq_mul_left (by omega) e
theorem hb_cancel0 {a x : Int} (h : a ≠ 0) (e : a * x = 0) : x = 0 := by
  rcases Int.mul_eq_zero.mp e with h' | h'
  · exact absurd h' h
  · exact h'
theorem hb_frac_tr {a b c e f g : Int} (he : 0 < e) (hf : 0 < f) (hg : 0 < g) (h1 : a * f ≤ b * e) (h2 : b * g ≤ c * f) : a * g ≤ c * e := by
  have h3 := Int.mul_le_mul_of_nonneg_right h1 (Int.le_of_lt hg)
  have h4 := Int.mul_le_mul_of_nonneg_right h2 (Int.le_of_lt he)
  have e1 : a * f * g = a * g * f := by grind
  have e2 : b * e * g = b * g * e := by grind
  have e3 : c * f * e = c * e * f := by grind
  exact Int.le_of_mul_le_mul_right (by omega : a * g * f ≤ c * e * f) hf
theorem hb_frac_tr' {a b c e f g : Int} (he : 0 < e) (hf : 0 < f) (hg : 0 < g) (h1 : a * f < b * e) (h2 : b * g ≤ c * f) : a * g < c * e := by
  have h3 := Int.mul_lt_mul_of_pos_right h1 hg
  have h4 := Int.mul_le_mul_of_nonneg_right h2 (Int.le_of_lt he)
  have e1 : a * f * g = a * g * f := by grind
  have e2 : b * e * g = b * g * e := by grind
  have e3 : c * f * e = c * e * f := by grind
  have h5 : a * g * f < c * e * f := by omega
  exact Int.lt_of_mul_lt_mul_right h5 (Int.le_of_lt hf)
theorem hb_frac_tr2 {a b c e f g : Int} (he : 0 < e) (hf : 0 < f) (hg : 0 < g) (h1 : a * f ≤ b * e) (h2 : b * g < c * f) : a * g < c * e := by
  have h3 := Int.mul_le_mul_of_nonneg_right h1 (Int.le_of_lt hg)
  have h4 := Int.mul_lt_mul_of_pos_right h2 he
  have e1 : a * f * g = a * g * f := by grind
  have e2 : b * e * g = b * g * e := by grind
  have e3 : c * f * e = c * e * f := by grind
  have h5 : a * g * f < c * e * f := by omega
  exact Int.lt_of_mul_lt_mul_right h5 (Int.le_of_lt hf)
/-- a least one below m -/
theorem hb_min (Q : Nat → Prop) (le : Nat → Nat → Prop) (rf : ∀ i, Q i → le i i) (tot : ∀ i j, Q i → Q j → le i j ∨ le j i) (tr : ∀ i j k, Q i → Q j → Q k → le i j → le j k → le i k) (m : Nat) : (∀ i, i < m → ¬ Q i) ∨ ∃ j, j < m ∧ Q j ∧ ∀ i, i < m → Q i → le j i := by
  induction m with
  | zero => exact Or.inl (fun i hi => absurd hi (Nat.not_lt_zero i))
  | succ m ih =>
    by_cases hm : Q m
    · rcases ih with h | ⟨j, hj, qj, h⟩
      · refine Or.inr ⟨m, Nat.lt_succ_self m, hm, fun i hi qi => ?_⟩
        rcases Nat.lt_succ_iff_lt_or_eq.mp hi with h1 | h1
        · exact absurd qi (h i h1)
        · rw [h1]; exact rf m hm
      · rcases tot j m qj hm with h1 | h1
        · refine Or.inr ⟨j, Nat.lt_succ_of_lt hj, qj, fun i hi qi => ?_⟩
          rcases Nat.lt_succ_iff_lt_or_eq.mp hi with h2 | h2
          · exact h i h2 qi
          · rw [h2]; exact h1
        · refine Or.inr ⟨m, Nat.lt_succ_self m, hm, fun i hi qi => ?_⟩
          rcases Nat.lt_succ_iff_lt_or_eq.mp hi with h2 | h2
          · exact tr m j i hm qj qi h1 (h i h2 qi)
          · rw [h2]; exact rf m hm
    · rcases ih with h | ⟨j, hj, qj, h⟩
      · refine Or.inl (fun i hi => ?_)
        rcases Nat.lt_succ_iff_lt_or_eq.mp hi with h1 | h1
        · exact h i h1
        · rw [h1]; exact hm
      · refine Or.inr ⟨j, Nat.lt_succ_of_lt hj, qj, fun i hi qi => ?_⟩
        rcases Nat.lt_succ_iff_lt_or_eq.mp hi with h2 | h2
        · exact h i h2 qi
        · rw [h2] at qi; exact absurd qi hm
end
section
/-! bodies: planes P with numbers in S, the first six those of the cube; corners; a way to a corner -/
def hb_Good (p : hb_Q) : Prop := (-4 ≤ p.1 ∧ p.1 ≤ 4) ∧ (-4 ≤ p.2.1 ∧ p.2.1 ≤ 4) ∧ (-4 ≤ p.2.2.1 ∧ p.2.2.1 ≤ 4) ∧ (-60 ≤ p.2.2.2 ∧ p.2.2.2 ≤ 60) ∧ hb_Nz p
def hb_Cube (P : Nat → hb_Q) : Prop := P 0 = (1, 0, 0, 8) ∧ P 1 = (-1, 0, 0, 8) ∧ P 2 = (0, 1, 0, 8) ∧ P 3 = (0, -1, 0, 8) ∧ P 4 = (0, 0, 1, 8) ∧ P 5 = (0, 0, -1, 8)
def hb_Sys (P : Nat → hb_Q) (S : Nat → Prop) : Prop := hb_Cube P ∧ (∀ i, i < 6 → S i) ∧ (∀ i, S i → i < 16 ∧ hb_Good (P i))
def hb_In (P : Nat → hb_Q) (S : Nat → Prop) (v : hb_Q) : Prop := 0 < v.2.2.2 ∧ ∀ i, S i → 0 ≤ hb_val (P i) v
def hb_T (P : Nat → hb_Q) (S : Nat → Prop) (v : hb_Q) (i : Nat) : Prop := S i ∧ hb_val (P i) v = 0
def hb_R3 (P : Nat → hb_Q) (T : Nat → Prop) : Prop := ∃ i j k, T i ∧ T j ∧ T k ∧ hb_det (P i) (P j) (P k) ≠ 0
def hb_R2 (P : Nat → hb_Q) (T : Nat → Prop) : Prop := ∃ i j, T i ∧ T j ∧ ¬ hb_Par (P i) (P j)
def hb_Vx (P : Nat → hb_Q) (S : Nat → Prop) (v : hb_Q) : Prop := hb_In P S v ∧ hb_R3 P (hb_T P S v)
/-- c at u is at most c at v -/
def hb_Le (c u v : hb_Q) : Prop := hb_dot c u * v.2.2.2 ≤ hb_dot c v * u.2.2.2
def hb_Lt (c u v : hb_Q) : Prop := hb_dot c u * v.2.2.2 < hb_dot c v * u.2.2.2
theorem hb_le_tr {c u v w : hb_Q} (hu : 0 < u.2.2.2) (hv : 0 < v.2.2.2) (hw : 0 < w.2.2.2) (h1 : hb_Le c u v) (h2 : hb_Le c v w) : hb_Le c u w := hb_frac_tr hu hv hw h1 h2
theorem hb_lt_le {c u v w : hb_Q} (hu : 0 < u.2.2.2) (hv : 0 < v.2.2.2) (hw : 0 < w.2.2.2) (h1 : hb_Lt c u v) (h2 : hb_Le c v w) : hb_Lt c u w := hb_frac_tr' hu hv hw h1 h2
theorem hb_le_rf (c u : hb_Q) : hb_Le c u u := Int.le_refl _
theorem hb_R2_mono {P : Nat → hb_Q} {T T' : Nat → Prop} (h : ∀ i, T i → T' i) (r : hb_R2 P T) : hb_R2 P T' := by
  obtain ⟨i, j, hi, hj, hp⟩ := r
  exact ⟨i, j, h i hi, h j hj, hp⟩
theorem hb_R3_mono {P : Nat → hb_Q} {T T' : Nat → Prop} (h : ∀ i, T i → T' i) (r : hb_R3 P T) : hb_R3 P T' := by
  obtain ⟨i, j, k, hi, hj, hk, hp⟩ := r
  exact ⟨i, j, k, h i hi, h j hj, h k hk, hp⟩
theorem hb_R3_R2 {P : Nat → hb_Q} {T : Nat → Prop} (r : hb_R3 P T) : hb_R2 P T := by
  obtain ⟨i, j, k, hi, hj, hk, hp⟩ := r
  refine ⟨i, j, hi, hj, fun h => hp ?_⟩
  simp only [hb_det, h.1, h.2.1, h.2.2]; omega
/-- in a cube every direction leaves -/
theorem hb_leave {P : Nat → hb_Q} {S : Nat → Prop} (hS : hb_Sys P S) {d : hb_Q} (hd : d.2.2.2 = 0) (hn : hb_Nz d) : ∃ i, i < 16 ∧ S i ∧ hb_val (P i) d < 0 := by
  obtain ⟨⟨c0, c1, c2, c3, c4, c5⟩, h6, -⟩ := hS
  by_cases e1 : d.1 = 0
  · by_cases e2 : d.2.1 = 0
    · have e3 : d.2.2.1 ≠ 0 := fun e3 => hn ⟨e1, e2, e3⟩
      rcases Int.lt_or_gt_of_ne e3 with h | h
      · refine ⟨5, by omega, h6 5 (by omega), ?_⟩
        rw [hb_val_dir _ _ hd, c5]; simp only [hb_dot]; omega
      · refine ⟨4, by omega, h6 4 (by omega), ?_⟩
        rw [hb_val_dir _ _ hd, c4]; simp only [hb_dot]; omega
    · rcases Int.lt_or_gt_of_ne e2 with h | h
      · refine ⟨3, by omega, h6 3 (by omega), ?_⟩
        rw [hb_val_dir _ _ hd, c3]; simp only [hb_dot]; omega
      · refine ⟨2, by omega, h6 2 (by omega), ?_⟩
        rw [hb_val_dir _ _ hd, c2]; simp only [hb_dot]; omega
  · rcases Int.lt_or_gt_of_ne e1 with h | h
    · refine ⟨1, by omega, h6 1 (by omega), ?_⟩
      rw [hb_val_dir _ _ hd, c1]; simp only [hb_dot]; omega
    · refine ⟨0, by omega, h6 0 (by omega), ?_⟩
      rw [hb_val_dir _ _ hd, c0]; simp only [hb_dot]; omega
/-- from a point along a direction that its tight planes allow, to the first plane that stops it -/
theorem hb_stepC {P : Nat → hb_Q} {S : Nat → Prop} (hS : hb_Sys P S) {v d : hb_Q} (hv : hb_In P S v) (hd : d.2.2.2 = 0) (hn : hb_Nz d) (ht : ∀ i, hb_T P S v i → 0 ≤ hb_val (P i) d) : ∃ s t v' j, 0 < s ∧ 0 < t ∧ v' = hb_lin s t v d ∧ hb_In P S v' ∧ hb_T P S v' j ∧ hb_val (P j) d < 0 ∧ (∀ i, hb_T P S v i → hb_val (P i) d = 0 → hb_T P S v' i) := by
  obtain ⟨i0, h16, hi0, hl⟩ := hb_leave hS hd hn
  rcases hb_min (fun i => S i ∧ hb_val (P i) d < 0) (fun i j => hb_val (P i) v * (- hb_val (P j) d) ≤ hb_val (P j) v * (- hb_val (P i) d)) (fun i _ => Int.le_refl _) (fun i j _ _ => Int.le_total _ _) (fun i j k hi hj hk h1 h2 => hb_frac_tr (by omega) (by omega) (by omega) h1 h2) 16 with h | ⟨j, hj, ⟨sj, nj⟩, hm⟩
  · exact absurd ⟨hi0, hl⟩ (h i0 h16)
  · have vj0 : 0 ≤ hb_val (P j) v := hv.2 j sj
    have vj : 0 < hb_val (P j) v := by
      rcases Int.lt_or_eq_of_le vj0 with h | h
      · exact h
      · have := ht j ⟨sj, h.symm⟩
        omega
    have key : ∀ i, hb_val (P i) (hb_lin (- hb_val (P j) d) (hb_val (P j) v) v d) = (- hb_val (P j) d) * hb_val (P i) v + hb_val (P j) v * hb_val (P i) d := fun i => hb_val_lin _ _ _ _ _
    refine ⟨- hb_val (P j) d, hb_val (P j) v, _, j, by omega, vj, rfl, ⟨?_, fun i si => ?_⟩, ⟨sj, ?_⟩, nj, fun i hi h0 => ⟨hi.1, ?_⟩⟩
    · simp only [hb_lin, hd]
      have := Int.mul_pos (by omega : 0 < - hb_val (P j) d) hv.1
      omega
    · rw [key i]
      have vi : 0 ≤ hb_val (P i) v := hv.2 i si
      by_cases ni : hb_val (P i) d < 0
      · have := hm i (hS.2.2 i si).1 ⟨si, ni⟩
        have e1 : (- hb_val (P j) d) * hb_val (P i) v = hb_val (P i) v * (- hb_val (P j) d) := Int.mul_comm _ _
        have e2 : hb_val (P j) v * (- hb_val (P i) d) = - (hb_val (P j) v * hb_val (P i) d) := Int.mul_neg _ _
        omega
      · have p1 := Int.mul_nonneg (by omega : 0 ≤ - hb_val (P j) d) vi
        have p2 := Int.mul_nonneg vj0 (by omega : 0 ≤ hb_val (P i) d)
        omega
    · rw [key j]; grind
    · rw [key i, hi.2, h0]; omega
theorem hb_step {P : Nat → hb_Q} {S : Nat → Prop} (hS : hb_Sys P S) {v d : hb_Q} (hv : hb_In P S v) (hd : d.2.2.2 = 0) (hn : hb_Nz d) (ht : ∀ i, hb_T P S v i → hb_val (P i) d = 0) : ∃ s t v' j, 0 < s ∧ 0 < t ∧ v' = hb_lin s t v d ∧ hb_In P S v' ∧ hb_T P S v' j ∧ hb_val (P j) d < 0 ∧ (∀ i, hb_T P S v i → hb_T P S v' i) := by
  obtain ⟨s, t, v', j, s0, t0, e, i1, j1, n1, m1⟩ := hb_stepC hS hv hd hn (fun i hi => Int.le_of_eq (ht i hi).symm)
  exact ⟨s, t, v', j, s0, t0, e, i1, j1, n1, fun i hi => m1 i hi (ht i hi)⟩
theorem hb_le_step {c v d v' : hb_Q} {s t : Int} (hv : 0 < v.2.2.2) (ht : 0 < t) (hd : d.2.2.2 = 0) (e : v' = hb_lin s t v d) (h : 0 ≤ hb_dot c d) : hb_Le c v v' := by
  have e1 : hb_dot c v' = s * hb_dot c v + t * hb_dot c d := by rw [e, hb_dot_lin]
  have e2 : v'.2.2.2 = s * v.2.2.2 := by rw [e]; simp only [hb_lin, hd]; omega
  unfold hb_Le
  rw [e1, e2]
  have p := Int.mul_nonneg (Int.mul_nonneg (Int.le_of_lt ht) h) (Int.le_of_lt hv)
  have e3 : (s * hb_dot c v + t * hb_dot c d) * v.2.2.2 = hb_dot c v * (s * v.2.2.2) + t * hb_dot c d * v.2.2.2 := by grind
  omega
theorem hb_lt_step {c v d v' : hb_Q} {s t : Int} (hv : 0 < v.2.2.2) (ht : 0 < t) (hd : d.2.2.2 = 0) (e : v' = hb_lin s t v d) (h : 0 < hb_dot c d) : hb_Lt c v v' := by
  have e1 : hb_dot c v' = s * hb_dot c v + t * hb_dot c d := by rw [e, hb_dot_lin]
  have e2 : v'.2.2.2 = s * v.2.2.2 := by rw [e]; simp only [hb_lin, hd]; omega
  unfold hb_Lt
  rw [e1, e2]
  have p := Int.mul_pos (Int.mul_pos ht h) hv
  have e3 : (s * hb_dot c v + t * hb_dot c d) * v.2.2.2 = hb_dot c v * (s * v.2.2.2) + t * hb_dot c d * v.2.2.2 := by grind
  omega
/-- the same for a direction or its opposite: c doesn't fall -/
theorem hb_step2 {P : Nat → hb_Q} {S : Nat → Prop} (hS : hb_Sys P S) {v d : hb_Q} (c : hb_Q) (hv : hb_In P S v) (hd : d.2.2.2 = 0) (hn : hb_Nz d) (ht : ∀ i, hb_T P S v i → hb_val (P i) d = 0) : ∃ v' j, hb_In P S v' ∧ hb_T P S v' j ∧ hb_val (P j) d ≠ 0 ∧ (∀ i, hb_T P S v i → hb_T P S v' i) ∧ hb_Le c v v' := by
  rcases Int.le_total 0 (hb_dot c d) with h | h
  · obtain ⟨s, t, v', j, _, t0, e, i1, j1, n1, m1⟩ := hb_step hS hv hd hn ht
    exact ⟨v', j, i1, j1, by omega, m1, hb_le_step hv.1 t0 hd e h⟩
  · have hd' : (hb_neg d).2.2.2 = 0 := by simp only [hb_neg, hd]; rfl
    obtain ⟨s, t, v', j, _, t0, e, i1, j1, n1, m1⟩ := hb_step hS hv hd' (hb_nz_neg hn) (fun i hi => by rw [hb_val_neg, ht i hi]; rfl)
    rw [hb_val_neg] at n1
    exact ⟨v', j, i1, j1, by omega, m1, hb_le_step hv.1 t0 hd' e (by rw [hb_dot_neg]; omega)⟩
theorem hb_in_good {P : Nat → hb_Q} {S : Nat → Prop} (hS : hb_Sys P S) {i : Nat} (h : S i) : hb_Nz (P i) := (hS.2.2 i h).2.2.2.2.2
/-- from a point to a corner: tight planes stay tight, c doesn't fall -/
theorem hb_up1 {P : Nat → hb_Q} {S : Nat → Prop} (hS : hb_Sys P S) {v : hb_Q} (c : hb_Q) (hv : hb_In P S v) : ∃ v' j, hb_In P S v' ∧ hb_T P S v' j ∧ (∀ i, hb_T P S v i → hb_T P S v' i) ∧ hb_Le c v v' := by
  by_cases h : ∃ j, hb_T P S v j
  · obtain ⟨j, hj⟩ := h
    exact ⟨v, j, hv, hj, fun _ h => h, hb_le_rf _ _⟩
  · obtain ⟨v', j, i1, j1, n1, m1, l1⟩ := hb_step2 hS (d := (1, 0, 0, 0)) c hv rfl (by simp only [hb_Nz]; omega) (fun i hi => absurd ⟨i, hi⟩ h)
    exact ⟨v', j, i1, j1, m1, l1⟩
theorem hb_up2 {P : Nat → hb_Q} {S : Nat → Prop} (hS : hb_Sys P S) {v : hb_Q} (c : hb_Q) (hv : hb_In P S v) : ∃ v', hb_In P S v' ∧ hb_R2 P (hb_T P S v') ∧ (∀ i, hb_T P S v i → hb_T P S v' i) ∧ hb_Le c v v' := by
  obtain ⟨v1, j, i1, j1, m1, l1⟩ := hb_up1 hS c hv
  by_cases h : hb_R2 P (hb_T P S v1)
  · exact ⟨v1, i1, h, m1, l1⟩
  · obtain ⟨d, d0, dn, dj⟩ := hb_perp (P j)
    have nj := hb_in_good hS j1.1
    have hpar : ∀ i, hb_T P S v1 i → hb_Par (P j) (P i) := fun i hi => by
      refine Classical.byContradiction fun hc => h ⟨j, i, j1, hi, hc⟩
    have hort : ∀ i, hb_T P S v1 i → hb_val (P i) d = 0 := fun i hi => by
      rw [hb_val_dir _ _ d0, hb_par_dot nj (hpar i hi) dj]; rfl
    obtain ⟨v2, k, i2, k2, n2, m2, l2⟩ := hb_step2 hS c i1 d0 dn hort
    refine ⟨v2, i2, ⟨j, k, m2 j j1, k2, fun hp => n2 ?_⟩, fun i hi => m2 i (m1 i hi), hb_le_tr hv.1 i1.1 i2.1 l1 l2⟩
    rw [hb_val_dir _ _ d0, hb_par_dot nj hp dj]; rfl
theorem hb_up3 {P : Nat → hb_Q} {S : Nat → Prop} (hS : hb_Sys P S) {v : hb_Q} (c : hb_Q) (hv : hb_In P S v) : ∃ v', hb_Vx P S v' ∧ (∀ i, hb_T P S v i → hb_T P S v' i) ∧ hb_Le c v v' := by
  obtain ⟨v1, i1, r1, m1, l1⟩ := hb_up2 hS c hv
  by_cases h : hb_R3 P (hb_T P S v1)
  · exact ⟨v1, ⟨i1, h⟩, m1, l1⟩
  · obtain ⟨i, j, hi, hj, hp⟩ := r1
    have hort : ∀ k, hb_T P S v1 k → hb_val (P k) (hb_crs (P i) (P j)) = 0 := fun k hk => by
      rw [hb_val_dir _ _ rfl, ← hb_det_crs]
      have : hb_det (P i) (P j) (P k) = 0 := Classical.byContradiction fun hc => h ⟨i, j, k, hi, hj, hk, hc⟩
      rw [this]; rfl
    obtain ⟨v2, k, i2, k2, n2, m2, l2⟩ := hb_step2 hS c i1 (hb_crs_w _ _) (hb_crs_nz hp) hort
    refine ⟨v2, ⟨i2, ⟨i, j, k, m2 i hi, m2 j hj, k2, fun hc => n2 ?_⟩⟩, fun i hi => m2 i (m1 i hi), hb_le_tr hv.1 i1.1 i2.1 l1 l2⟩
    rw [hb_val_dir _ _ rfl, ← hb_det_crs, hc]; rfl
end
section
/-! differences of points, normal forms, corners that are neighbours -/
def hb_diff (u v : hb_Q) : hb_Q := hb_lin v.2.2.2 (-u.2.2.2) u v
theorem hb_diff_w (u v : hb_Q) : (hb_diff u v).2.2.2 = 0 := by
  simp only [hb_diff, hb_lin]; grind
theorem hb_diff_val (p u v : hb_Q) : hb_val p (hb_diff u v) = v.2.2.2 * hb_val p u - u.2.2.2 * hb_val p v := by
  simp only [hb_diff, hb_val_lin]; grind
theorem hb_diff_dot (p u v : hb_Q) : hb_dot p (hb_diff u v) = v.2.2.2 * hb_dot p u - u.2.2.2 * hb_dot p v := by
  simp only [hb_diff, hb_dot_lin]; grind
theorem hb_diff_symm {u v : hb_Q} (h : hb_Nz (hb_diff u v)) : hb_Nz (hb_diff v u) := by
  intro ⟨e1, e2, e3⟩
  apply h
  simp only [hb_diff, hb_lin] at *
  refine ⟨?_, ?_, ?_⟩ <;> grind
/-- u and v are one point -/
def hb_Same (u v : hb_Q) : Prop := u.1 * v.2.2.2 = v.1 * u.2.2.2 ∧ u.2.1 * v.2.2.2 = v.2.1 * u.2.2.2 ∧ u.2.2.1 * v.2.2.2 = v.2.2.1 * u.2.2.2
theorem hb_same_iff (u v : hb_Q) : ¬ hb_Nz (hb_diff u v) ↔ hb_Same u v := by
  simp only [hb_Nz, hb_Same, hb_diff, hb_lin]
  constructor
  · intro h
    have h := Classical.not_not.mp h
    refine ⟨?_, ?_, ?_⟩ <;> grind
  · intro ⟨h1, h2, h3⟩ hn
    apply hn
    refine ⟨?_, ?_, ?_⟩ <;> grind
theorem hb_same_dot {u v : hb_Q} (h : hb_Same u v) (c : hb_Q) : hb_dot c u * v.2.2.2 = hb_dot c v * u.2.2.2 := by
  obtain ⟨h1, h2, h3⟩ := h
  simp only [hb_dot]; grind
theorem hb_same_val {u v : hb_Q} (h : hb_Same u v) (c : hb_Q) : hb_val c u * v.2.2.2 = hb_val c v * u.2.2.2 := by
  have := hb_same_dot h c
  simp only [hb_val]; grind
theorem hb_same_rf (u : hb_Q) : hb_Same u u := ⟨rfl, rfl, rfl⟩
theorem hb_same_symm {u v : hb_Q} (h : hb_Same u v) : hb_Same v u := ⟨h.1.symm, h.2.1.symm, h.2.2.symm⟩
theorem hb_same_tight {u v : hb_Q} (hu : 0 < u.2.2.2) (hv : 0 < v.2.2.2) (h : hb_Same u v) {p : hb_Q} (e : hb_val p u = 0) : hb_val p v = 0 := by
  have := hb_same_val h p
  rw [e] at this
  exact hb_cancel0 (a := u.2.2.2) (by omega) (by rw [Int.mul_comm]; omega)
/-- a direction by its products with three normals -/
theorem hb_solve1 (p q r e : hb_Q) : hb_det p q r * e.1 = hb_dot p e * hb_cx q r + hb_dot q e * hb_cx r p + hb_dot r e * hb_cx p q := by
  simp only [hb_det, hb_dot, hb_cx, hb_cy, hb_cz]; grind
theorem hb_solve2 (p q r e : hb_Q) : hb_det p q r * e.2.1 = hb_dot p e * hb_cy q r + hb_dot q e * hb_cy r p + hb_dot r e * hb_cy p q := by
  simp only [hb_det, hb_dot, hb_cx, hb_cy, hb_cz]; grind
theorem hb_solve3 (p q r e : hb_Q) : hb_det p q r * e.2.2.1 = hb_dot p e * hb_cz q r + hb_dot q e * hb_cz r p + hb_dot r e * hb_cz p q := by
  simp only [hb_det, hb_dot, hb_cx, hb_cy, hb_cz]; grind
theorem hb_det_zero {p q r e : hb_Q} (h : hb_det p q r ≠ 0) (h1 : hb_dot p e = 0) (h2 : hb_dot q e = 0) (h3 : hb_dot r e = 0) : ¬ hb_Nz e := by
  have e1 := hb_solve1 p q r e
  have e2 := hb_solve2 p q r e
  have e3 := hb_solve3 p q r e
  rw [h1, h2, h3] at e1 e2 e3
  intro hn
  exact hn ⟨hb_cancel0 h (by omega), hb_cancel0 h (by omega), hb_cancel0 h (by omega)⟩
/-- three independent planes meet in one point -/
theorem hb_uniq {P : Nat → hb_Q} {u v : hb_Q} {i j k : Nat} (h : hb_det (P i) (P j) (P k) ≠ 0) (ui : hb_val (P i) u = 0) (uj : hb_val (P j) u = 0) (uk : hb_val (P k) u = 0) (vi : hb_val (P i) v = 0) (vj : hb_val (P j) v = 0) (vk : hb_val (P k) v = 0) : hb_Same u v := by
  rw [← hb_same_iff]
  have key : ∀ p, hb_val p u = 0 → hb_val p v = 0 → hb_dot p (hb_diff u v) = 0 := fun p h1 h2 => by
    have e := hb_diff_val p u v
    rw [hb_val_dir _ _ (hb_diff_w u v), h1, h2] at e
    omega
  exact hb_det_zero h (key _ ui vi) (key _ uj vj) (key _ uk vk)
theorem hb_uniqR {P : Nat → hb_Q} {T : Nat → Prop} {u v : hb_Q} (h : hb_R3 P T) (hu : ∀ i, T i → hb_val (P i) u = 0) (hv : ∀ i, T i → hb_val (P i) v = 0) : hb_Same u v := by
  obtain ⟨i, j, k, hi, hj, hk, hd⟩ := h
  exact hb_uniq hd (hu i hi) (hu j hj) (hu k hk) (hv i hi) (hv j hj) (hv k hk)
/-- two nonnegative terms that add to 0 -/
theorem hb_two0 {s t x y : Int} (hs : 0 < s) (ht : 0 < t) (hx : 0 ≤ x) (hy : 0 ≤ y) (h : s * x + t * y = 0) : x = 0 ∧ y = 0 := by
  have p1 := Int.mul_nonneg (Int.le_of_lt hs) hx
  have p2 := Int.mul_nonneg (Int.le_of_lt ht) hy
  exact ⟨hb_cancel0 (a := s) (by omega) (by omega), hb_cancel0 (a := t) (by omega) (by omega)⟩
theorem hb_mid_in {P : Nat → hb_Q} {S : Nat → Prop} {a b : hb_Q} {s t : Int} (hs : 0 < s) (ht : 0 < t) (ha : hb_In P S a) (hb : hb_In P S b) : hb_In P S (hb_lin s t a b) := by
  refine ⟨?_, fun i si => ?_⟩
  · have p1 := Int.mul_pos hs ha.1
    have p2 := Int.mul_pos ht hb.1
    simp only [hb_lin]; omega
  · rw [hb_val_lin]
    have p1 := Int.mul_nonneg (Int.le_of_lt hs) (ha.2 i si)
    have p2 := Int.mul_nonneg (Int.le_of_lt ht) (hb.2 i si)
    omega
theorem hb_mid_T {P : Nat → hb_Q} {S : Nat → Prop} {a b : hb_Q} {s t : Int} (hs : 0 < s) (ht : 0 < t) (ha : hb_In P S a) (hb : hb_In P S b) (i : Nat) : hb_T P S (hb_lin s t a b) i ↔ hb_T P S a i ∧ hb_T P S b i := by
  unfold hb_T
  rw [hb_val_lin]
  constructor
  · intro ⟨si, e⟩
    have := hb_two0 hs ht (ha.2 i si) (hb.2 i si) e
    exact ⟨⟨si, this.1⟩, ⟨si, this.2⟩⟩
  · intro ⟨⟨si, e1⟩, ⟨_, e2⟩⟩
    exact ⟨si, by rw [e1, e2]; omega⟩
/-- on a common line: products with the direction decide all -/
theorem hb_line {p q e : hb_Q} (c : hb_Q) (h1 : hb_dot p e = 0) (h2 : hb_dot q e = 0) : hb_dot (hb_crs p q) (hb_crs p q) * hb_dot e c = hb_dot (hb_crs p q) e * hb_dot (hb_crs p q) c := by
  have eb := hb_bc (hb_crs p q) e c
  have k1 : hb_cx (hb_crs p q) e = hb_dot p e * q.1 - hb_dot q e * p.1 := by
    simp only [hb_cx, hb_cy, hb_cz, hb_crs, hb_dot]; grind
  have k2 : hb_cy (hb_crs p q) e = hb_dot p e * q.2.1 - hb_dot q e * p.2.1 := by
    simp only [hb_cx, hb_cy, hb_cz, hb_crs, hb_dot]; grind
  have k3 : hb_cz (hb_crs p q) e = hb_dot p e * q.2.2.1 - hb_dot q e * p.2.2.1 := by
    simp only [hb_cx, hb_cy, hb_cz, hb_crs, hb_dot]; grind
  rw [k1, k2, k3, h1, h2] at eb
  omega
theorem hb_tight_dot {p u v : hb_Q} (h1 : hb_val p u = 0) (h2 : hb_val p v = 0) : hb_dot p (hb_diff u v) = 0 := by
  have e := hb_diff_val p u v
  rw [hb_val_dir _ _ (hb_diff_w u v), h1, h2] at e
  omega
/-- three points in order on a line: the middle one is no corner -/
theorem hb_no_mid {P : Nat → hb_Q} {S : Nat → Prop} {u1 u2 u3 : hb_Q} (h1 : hb_In P S u1) (h2 : hb_Vx P S u2) (h3 : hb_In P S u3) {p q : hb_Q} (hp : ¬ hb_Par p q) (p1 : hb_val p u1 = 0) (q1 : hb_val q u1 = 0) (p2 : hb_val p u2 = 0) (q2 : hb_val q u2 = 0) (p3 : hb_val p u3 = 0) (q3 : hb_val q u3 = 0) (l1 : hb_Lt (hb_crs p q) u1 u2) (l2 : hb_Lt (hb_crs p q) u2 u3) : False := by
  have gg := hb_dot_pos (hb_crs_nz hp)
  have key : ∀ k, hb_T P S u2 k → hb_T P S u1 k := by
    intro k ⟨sk, ek⟩
    have e1 := hb_line (P k) (hb_tight_dot p1 p2) (hb_tight_dot q1 q2)
    have e3 := hb_line (P k) (hb_tight_dot p3 p2) (hb_tight_dot q3 q2)
    have v1 := hb_diff_val (P k) u1 u2
    have v3 := hb_diff_val (P k) u3 u2
    rw [hb_val_dir _ _ (hb_diff_w _ _), ek, hb_dot_comm] at v1 v3
    have g1 := hb_diff_dot (hb_crs p q) u1 u2
    have g3 := hb_diff_dot (hb_crs p q) u3 u2
    unfold hb_Lt at l1 l2
    have n1 : hb_dot (hb_crs p q) (hb_diff u1 u2) < 0 := by
      have c1 := Int.mul_comm u2.2.2.2 (hb_dot (hb_crs p q) u1)
      have c2 := Int.mul_comm u1.2.2.2 (hb_dot (hb_crs p q) u2)
      omega
    have n3 : 0 < hb_dot (hb_crs p q) (hb_diff u3 u2) := by
      have c1 := Int.mul_comm u2.2.2.2 (hb_dot (hb_crs p q) u3)
      have c2 := Int.mul_comm u3.2.2.2 (hb_dot (hb_crs p q) u2)
      omega
    have w1 := Int.mul_nonneg (Int.le_of_lt h2.1.1) (h1.2 k sk)
    have w3 := Int.mul_nonneg (Int.le_of_lt h2.1.1) (h3.2 k sk)
    have z1 : hb_dot (hb_diff u1 u2) (P k) ≤ 0 := by omega
    have z3 : hb_dot (hb_diff u3 u2) (P k) ≤ 0 := by omega
    have y1 := Int.mul_nonneg (Int.le_of_lt gg) (by omega : 0 ≤ - hb_dot (hb_diff u1 u2) (P k))
    have y3 := Int.mul_nonneg (Int.le_of_lt gg) (by omega : 0 ≤ - hb_dot (hb_diff u3 u2) (P k))
    rw [Int.mul_neg, e1] at y1
    rw [Int.mul_neg, e3] at y3
    have c0 : hb_dot (hb_crs p q) (P k) = 0 := by
      rcases Int.lt_trichotomy (hb_dot (hb_crs p q) (P k)) 0 with h | h | h
      · have := Int.mul_pos_of_neg_of_neg n1 h
        omega
      · exact h
      · have := Int.mul_pos n3 h
        omega
    rw [c0] at e1
    have e1' : hb_dot (hb_diff u1 u2) (P k) = 0 := hb_cancel0 (a := hb_dot (hb_crs p q) (hb_crs p q)) (by omega) (by omega)
    refine ⟨sk, hb_cancel0 (a := u2.2.2.2) (by have := h2.1.1; omega) (by omega)⟩
  have s := hb_uniqR h2.2 (fun i hi => (key i hi).2) (fun i hi => hi.2)
  have := hb_same_dot s (hb_crs p q)
  unfold hb_Lt at l1
  omega
theorem hb_line_lt {p q u v : hb_Q} (hp : ¬ hb_Par p q) (pu : hb_val p u = 0) (qu : hb_val q u = 0) (pv : hb_val p v = 0) (qv : hb_val q v = 0) (hn : ¬ hb_Same u v) : hb_Lt (hb_crs p q) u v ∨ hb_Lt (hb_crs p q) v u := by
  have gg := hb_dot_pos (hb_crs_nz hp)
  have e := hb_line (hb_diff u v) (hb_tight_dot pu pv) (hb_tight_dot qu qv)
  have nz : hb_Nz (hb_diff u v) := Classical.byContradiction fun h => hn ((hb_same_iff u v).mp h)
  have dd := hb_dot_pos nz
  have g := hb_diff_dot (hb_crs p q) u v
  have pp := Int.mul_pos gg dd
  have ne : hb_dot (hb_crs p q) (hb_diff u v) ≠ 0 := by
    intro h
    rw [h] at e
    omega
  have c1 := Int.mul_comm v.2.2.2 (hb_dot (hb_crs p q) u)
  have c2 := Int.mul_comm u.2.2.2 (hb_dot (hb_crs p q) v)
  unfold hb_Lt
  omega
/-- two corners whose common planes have rank 2: no third corner lies on all of them -/
theorem hb_no_third {P : Nat → hb_Q} {S : Nat → Prop} {a b m : hb_Q} (ha : hb_Vx P S a) (hb : hb_Vx P S b) (hm : hb_Vx P S m) (hab : ¬ hb_Same a b) (hma : ¬ hb_Same m a) (hmb : ¬ hb_Same m b) (r : hb_R2 P (fun i => hb_T P S a i ∧ hb_T P S b i)) (hc : ∀ i, hb_T P S a i → hb_T P S b i → hb_T P S m i) : False := by
  obtain ⟨i, j, ⟨ai, bi⟩, ⟨aj, bj⟩, hp⟩ := r
  have mi := (hc i ai bi).2
  have mj := (hc j aj bj).2
  have ai := ai.2
  have bi := bi.2
  have aj := aj.2
  have bj := bj.2
  rcases hb_line_lt hp ai aj bi bj hab with h1 | h1
  · rcases hb_line_lt hp mi mj ai aj hma with h2 | h2
    · exact hb_no_mid hm.1 ha hb.1 hp mi mj ai aj bi bj h2 h1
    · rcases hb_line_lt hp mi mj bi bj hmb with h3 | h3
      · exact hb_no_mid ha.1 hm hb.1 hp ai aj mi mj bi bj h2 h3
      · exact hb_no_mid ha.1 hb hm.1 hp ai aj bi bj mi mj h1 h3
  · rcases hb_line_lt hp mi mj bi bj hmb with h2 | h2
    · exact hb_no_mid hm.1 hb ha.1 hp mi mj bi bj ai aj h2 h1
    · rcases hb_line_lt hp mi mj ai aj hma with h3 | h3
      · exact hb_no_mid hb.1 hm ha.1 hp bi bj mi mj ai aj h2 h3
      · exact hb_no_mid hb.1 ha hm.1 hp bi bj ai aj mi mj h1 h3
/-- two corners whose common planes have rank below 2: a third corner lies on all of them -/
theorem hb_third {P : Nat → hb_Q} {S : Nat → Prop} (hS : hb_Sys P S) {a b : hb_Q} (ha : hb_Vx P S a) (hb : hb_Vx P S b) (hab : ¬ hb_Same a b) (r : ¬ hb_R2 P (fun i => hb_T P S a i ∧ hb_T P S b i)) : ∃ m, hb_Vx P S m ∧ ¬ hb_Same m a ∧ ¬ hb_Same m b ∧ ∀ i, hb_T P S a i → hb_T P S b i → hb_T P S m i := by
  have nz : hb_Nz (hb_diff a b) := Classical.byContradiction fun h => hab ((hb_same_iff a b).mp h)
  have hd : ∃ d : hb_Q, d.2.2.2 = 0 ∧ hb_Nz d ∧ hb_dot (hb_diff a b) d = 0 ∧ ∀ i, hb_T P S a i → hb_T P S b i → hb_dot (P i) d = 0 := by
    by_cases hc : ∃ i, hb_T P S a i ∧ hb_T P S b i
    · obtain ⟨i, hi, hi'⟩ := hc
      have ni := hb_in_good hS hi.1
      have oi := hb_tight_dot hi.2 hi'.2
      refine ⟨hb_crs (P i) (hb_diff a b), rfl, hb_crs_orth ni nz oi, hb_crs_q _ _, fun k hk hk' => ?_⟩
      have hp : hb_Par (P i) (P k) := Classical.byContradiction fun hp => r ⟨i, k, ⟨hi, hi'⟩, ⟨hk, hk'⟩, hp⟩
      exact hb_par_dot ni hp (hb_crs_p _ _)
    · obtain ⟨d, d0, dn, dj⟩ := hb_perp (hb_diff a b)
      exact ⟨d, d0, dn, dj, fun i h1 h2 => absurd ⟨i, h1, h2⟩ hc⟩
  obtain ⟨d, d0, dn, dg, dt⟩ := hd
  have wa := ha.1.1
  have wb := hb.1.1
  have hm := hb_mid_in wb wa ha.1 hb.1
  have hT := hb_mid_T wb wa ha.1 hb.1
  obtain ⟨s, t, v', j, s0, t0, e, i1, j1, n1, m1⟩ := hb_step hS hm d0 dn (fun i hi => by
    have := (hT i).mp hi
    rw [hb_val_dir _ _ d0, dt i this.1 this.2]; rfl)
  have l1 := hb_lt_step (c := d) hm.1 t0 d0 e (hb_dot_pos dn)
  obtain ⟨m, vm, m2, l2⟩ := hb_up3 hS d i1
  have l3 := hb_lt_le hm.1 i1.1 vm.1.1 l1 l2
  have eg : b.2.2.2 * hb_dot d a = a.2.2.2 * hb_dot d b := by
    have := hb_diff_dot d a b
    rw [hb_dot_comm d, dg] at this
    omega
  have em : hb_dot d (hb_lin b.2.2.2 a.2.2.2 a b) = b.2.2.2 * hb_dot d a + a.2.2.2 * hb_dot d b := hb_dot_lin _ _ _ _ _
  have ew : (hb_lin b.2.2.2 a.2.2.2 a b).2.2.2 = b.2.2.2 * a.2.2.2 + a.2.2.2 * b.2.2.2 := rfl
  have la : hb_Le d a (hb_lin b.2.2.2 a.2.2.2 a b) := by
    unfold hb_Le
    rw [em, ew]
    apply Int.le_of_eq
    grind
  have lb : hb_Le d b (hb_lin b.2.2.2 a.2.2.2 a b) := by
    unfold hb_Le
    rw [em, ew]
    apply Int.le_of_eq
    grind
  refine ⟨m, vm, fun hs => ?_, fun hs => ?_, fun i h1 h2 => m2 i (m1 i ((hT i).mpr ⟨h1, h2⟩))⟩
  · have q1 := hb_same_dot hs d
    have q2 := hb_lt_le hm.1 vm.1.1 wa l3 (Int.le_of_eq q1)
    exact Int.lt_irrefl _ (hb_lt_le hm.1 wa hm.1 q2 la)
  · have q1 := hb_same_dot hs d
    have q2 := hb_lt_le hm.1 vm.1.1 wb l3 (Int.le_of_eq q1)
    exact Int.lt_irrefl _ (hb_lt_le hm.1 wb hm.1 q2 lb)
end
section
/-! normal forms; what one more plane does to the corners -/
def hb_G (a b c d : Nat) : Nat := Nat.gcd (Nat.gcd (Nat.gcd a b) c) d
def hb_gq (v : hb_Q) : Nat := hb_G v.1.natAbs v.2.1.natAbs v.2.2.1.natAbs v.2.2.2.natAbs
def hb_Nrm (v : hb_Q) : Prop := 0 < v.2.2.2 ∧ hb_gq v = 1
theorem hb_G_mul (a b c d m : Nat) : hb_G (a * m) (b * m) (c * m) (d * m) = hb_G a b c d * m := by
  simp only [hb_G, Nat.gcd_mul_right]
/-- u times m is v times n: the greatest common divisors too -/
theorem hb_gq_mul {u v : hb_Q} {m n : Int} (h1 : u.1 * m = v.1 * n) (h2 : u.2.1 * m = v.2.1 * n) (h3 : u.2.2.1 * m = v.2.2.1 * n) (h4 : u.2.2.2 * m = v.2.2.2 * n) : hb_gq u * m.natAbs = hb_gq v * n.natAbs := by
  unfold hb_gq
  rw [← hb_G_mul, ← hb_G_mul, ← Int.natAbs_mul, ← Int.natAbs_mul, ← Int.natAbs_mul, ← Int.natAbs_mul, h1, h2, h3, h4, Int.natAbs_mul, Int.natAbs_mul, Int.natAbs_mul, Int.natAbs_mul]
theorem hb_nrm_eq {u v : hb_Q} (hu : hb_Nrm u) (hv : hb_Nrm v) (h : hb_Same u v) : u = v := by
  have e := hb_gq_mul h.1 h.2.1 h.2.2 (Int.mul_comm u.2.2.2 v.2.2.2)
  rw [hu.2, hv.2, Nat.one_mul, Nat.one_mul] at e
  have hw : u.2.2.2 = v.2.2.2 := by have := hu.1; have := hv.1; omega
  obtain ⟨h1, h2, h3⟩ := h
  rw [hw] at h1 h2 h3
  have hp : v.2.2.2 ≠ 0 := by have := hv.1; omega
  have e1 := Int.eq_of_mul_eq_mul_right hp h1
  have e2 := Int.eq_of_mul_eq_mul_right hp h2
  have e3 := Int.eq_of_mul_eq_mul_right hp h3
  exact Prod.ext e1 (Prod.ext e2 (Prod.ext e3 hw))
/-- v is q in lowest terms -/
def hb_Red (q v : hb_Q) : Prop := hb_Nrm v ∧ hb_Same q v
theorem hb_red_uniq {q u v : hb_Q} (hq : 0 < q.2.2.2) (hu : hb_Red q u) (hv : hb_Red q v) : u = v := by
  refine hb_nrm_eq hu.1 hv.1 ?_
  obtain ⟨nu, a1, a2, a3⟩ := hu
  obtain ⟨nv, b1, b2, b3⟩ := hv
  have q0 : q.2.2.2 ≠ 0 := by omega
  refine ⟨?_, ?_, ?_⟩ <;> apply Int.eq_of_mul_eq_mul_left q0 <;> grind
theorem hb_red_val {q v : hb_Q} (hq : 0 < q.2.2.2) (h : hb_Red q v) (p : hb_Q) : (hb_val p q = 0 ↔ hb_val p v = 0) ∧ (0 ≤ hb_val p q ↔ 0 ≤ hb_val p v) := by
  have e := hb_same_val h.2 p
  have hv := h.1.1
  refine ⟨⟨fun hz => hb_same_tight hq hv h.2 hz, fun hz => hb_same_tight hv hq (hb_same_symm h.2) hz⟩, fun hz => ?_, fun hz => ?_⟩
  · have := Int.mul_nonneg hz (Int.le_of_lt hv)
    rw [e] at this
    exact Int.nonneg_of_mul_nonneg_left this hq
  · have := Int.mul_nonneg hz (Int.le_of_lt hq)
    rw [← e] at this
    exact Int.nonneg_of_mul_nonneg_left this hv
theorem hb_same_in {P : Nat → hb_Q} {S : Nat → Prop} {u v : hb_Q} (hu : hb_In P S u) (hv : 0 < v.2.2.2) (h : hb_Same u v) : hb_In P S v := by
  refine ⟨hv, fun i si => ?_⟩
  have := Int.mul_nonneg (hu.2 i si) (Int.le_of_lt hv)
  rw [hb_same_val h] at this
  exact Int.nonneg_of_mul_nonneg_left this hu.1
theorem hb_same_T {P : Nat → hb_Q} {S : Nat → Prop} {u v : hb_Q} (hu : 0 < u.2.2.2) (hv : 0 < v.2.2.2) (h : hb_Same u v) (i : Nat) : hb_T P S u i ↔ hb_T P S v i :=
  ⟨fun ht => ⟨ht.1, hb_same_tight hu hv h ht.2⟩, fun ht => ⟨ht.1, hb_same_tight hv hu (hb_same_symm h) ht.2⟩⟩
theorem hb_same_Vx {P : Nat → hb_Q} {S : Nat → Prop} {u v : hb_Q} (hu : hb_Vx P S u) (hv : 0 < v.2.2.2) (h : hb_Same u v) : hb_Vx P S v :=
  ⟨hb_same_in hu.1 hv h, hb_R3_mono (fun i hi => (hb_same_T hu.1.1 hv h i).mp hi) hu.2⟩
/-- one more plane -/
def hb_add (S : Nat → Prop) (p : Nat) : Nat → Prop := fun i => S i ∨ i = p
theorem hb_add_in {P : Nat → hb_Q} {S : Nat → Prop} {p : Nat} {v : hb_Q} : hb_In P (hb_add S p) v ↔ hb_In P S v ∧ 0 ≤ hb_val (P p) v := by
  constructor
  · intro h
    exact ⟨⟨h.1, fun i si => h.2 i (Or.inl si)⟩, h.2 p (Or.inr rfl)⟩
  · intro ⟨h, hp⟩
    refine ⟨h.1, fun i si => ?_⟩
    rcases si with si | si
    · exact h.2 i si
    · rw [si]; exact hp
theorem hb_add_T {P : Nat → hb_Q} {S : Nat → Prop} {p : Nat} {v : hb_Q} {i : Nat} : hb_T P (hb_add S p) v i ↔ hb_T P S v i ∨ (i = p ∧ hb_val (P p) v = 0) := by
  constructor
  · intro ⟨si, e⟩
    rcases si with si | si
    · exact Or.inl ⟨si, e⟩
    · rw [si] at e; exact Or.inr ⟨si, e⟩
  · intro h
    rcases h with h | ⟨h, e⟩
    · exact ⟨Or.inl h.1, h.2⟩
    · refine ⟨Or.inr h, ?_⟩
      rw [h]; exact e
/-- corners that stay -/
theorem hb_cut_keep {P : Nat → hb_Q} {S : Nat → Prop} {p : Nat} {v : hb_Q} (h : hb_Vx P S v) (hp : 0 ≤ hb_val (P p) v) : hb_Vx P (hb_add S p) v :=
  ⟨hb_add_in.mpr ⟨h.1, hp⟩, hb_R3_mono (fun i hi => hb_add_T.mpr (Or.inl hi)) h.2⟩
/-- where the plane crosses from a to b -/
def hb_cr (P : Nat → hb_Q) (p : Nat) (a b : hb_Q) : hb_Q := hb_lin (- hb_val (P p) b) (hb_val (P p) a) a b
theorem hb_cr_val (P : Nat → hb_Q) (p : Nat) (a b : hb_Q) : hb_val (P p) (hb_cr P p a b) = 0 := by
  rw [hb_cr, hb_val_lin]; grind
def hb_Com (P : Nat → hb_Q) (S : Nat → Prop) (a b : hb_Q) : Nat → Prop := fun i => hb_T P S a i ∧ hb_T P S b i
theorem hb_cr_T {P : Nat → hb_Q} {S : Nat → Prop} {p : Nat} {a b : hb_Q} (ha : hb_In P S a) (hb : hb_In P S b) (pa : 0 < hb_val (P p) a) (pb : hb_val (P p) b < 0) (i : Nat) : hb_T P S (hb_cr P p a b) i ↔ hb_Com P S a b i := hb_mid_T (by omega) pa ha hb i
theorem hb_cr_in {P : Nat → hb_Q} {S : Nat → Prop} {p : Nat} {a b : hb_Q} (ha : hb_In P S a) (hb : hb_In P S b) (pa : 0 < hb_val (P p) a) (pb : hb_val (P p) b < 0) : hb_In P (hb_add S p) (hb_cr P p a b) :=
  hb_add_in.mpr ⟨hb_mid_in (by omega) pa ha hb, Int.le_of_eq (hb_cr_val P p a b).symm⟩
theorem hb_cr_det {P : Nat → hb_Q} {p : Nat} {a b : hb_Q} (wa : 0 < a.2.2.2) (wb : 0 < b.2.2.2) (pa : 0 < hb_val (P p) a) (pb : hb_val (P p) b < 0) {q r : hb_Q} (qa : hb_val q a = 0) (qb : hb_val q b = 0) (ra : hb_val r a = 0) (rb : hb_val r b = 0) (hp : ¬ hb_Par q r) : hb_det q r (P p) ≠ 0 := by
  intro hd
  rw [hb_det_crs, hb_dot_comm] at hd
  have e := hb_line (P p) (hb_tight_dot qa qb) (hb_tight_dot ra rb)
  rw [hd] at e
  have gg := hb_dot_pos (hb_crs_nz hp)
  have e2 : hb_dot (hb_diff a b) (P p) = 0 := hb_cancel0 (a := hb_dot (hb_crs q r) (hb_crs q r)) (by omega) (by omega)
  have e3 := hb_diff_val (P p) a b
  rw [hb_val_dir _ _ (hb_diff_w _ _), hb_dot_comm, e2] at e3
  have p1 := Int.mul_pos wb pa
  have p2 := Int.mul_neg_of_pos_of_neg wa pb
  omega
theorem hb_cr_Vx {P : Nat → hb_Q} {S : Nat → Prop} {p : Nat} {a b : hb_Q} (ha : hb_In P S a) (hb : hb_In P S b) (pa : 0 < hb_val (P p) a) (pb : hb_val (P p) b < 0) (r : hb_R2 P (hb_Com P S a b)) : hb_Vx P (hb_add S p) (hb_cr P p a b) := by
  refine ⟨hb_cr_in ha hb pa pb, ?_⟩
  obtain ⟨i, j, hi, hj, hp⟩ := r
  refine ⟨i, j, p, hb_add_T.mpr (Or.inl ((hb_cr_T ha hb pa pb i).mpr hi)), hb_add_T.mpr (Or.inl ((hb_cr_T ha hb pa pb j).mpr hj)), hb_add_T.mpr (Or.inr ⟨rfl, hb_cr_val P p a b⟩), ?_⟩
  exact hb_cr_det ha.1 hb.1 pa pb hi.1.2 hi.2.2 hj.1.2 hj.2.2 hp
theorem hb_det_rot (p q r : hb_Q) : hb_det q r p = hb_det p q r := by
  simp only [hb_det, hb_cx, hb_cy, hb_cz]; grind
theorem hb_det_swap (p q r : hb_Q) : hb_det q p r = - hb_det p q r := by
  simp only [hb_det, hb_cx, hb_cy, hb_cz]; grind
theorem hb_det_same (p r : hb_Q) : hb_det p p r = 0 := by
  simp only [hb_det, hb_cx, hb_cy, hb_cz]; grind
theorem hb_det_same2 (p r : hb_Q) : hb_det p r r = 0 := by
  rw [← hb_det_rot]; exact hb_det_same r p
theorem hb_det_same3 (p r : hb_Q) : hb_det p r p = 0 := by
  rw [← hb_det_rot]; exact hb_det_same2 r p
theorem hb_det_par {p q r : hb_Q} (h : hb_det p q r ≠ 0) : ¬ hb_Par p q := by
  intro hp
  apply h
  simp only [hb_det, hp.1, hp.2.1, hp.2.2]; omega
/-- a corner of the new body whose old planes have rank below 3 lies between two old ones -/
theorem hb_cut_two {P : Nat → hb_Q} {S : Nat → Prop} {p : Nat} {v : hb_Q} (h : hb_Vx P (hb_add S p) v) (hn : ¬ hb_R3 P (hb_T P S v)) : hb_val (P p) v = 0 ∧ ∃ i j, hb_T P S v i ∧ hb_T P S v j ∧ hb_det (P i) (P j) (P p) ≠ 0 := by
  obtain ⟨hin, i, j, k, hi, hj, hk, hd⟩ := h
  rw [hb_add_T] at hi hj hk
  rcases hi with hi | ⟨hi, ei⟩
  · rcases hj with hj | ⟨hj, ej⟩
    · rcases hk with hk | ⟨hk, ek⟩
      · exact absurd ⟨i, j, k, hi, hj, hk, hd⟩ hn
      · rw [hk] at hd
        exact ⟨ek, i, j, hi, hj, hd⟩
    · rw [hj] at hd
      rcases hk with hk | ⟨hk, ek⟩
      · refine ⟨ej, k, i, hk, hi, ?_⟩
        rw [← hb_det_rot]; exact hd
      · rw [hk] at hd
        exact absurd (hb_det_same2 _ _) hd
  · rw [hi] at hd
    rcases hj with hj | ⟨hj, ej⟩
    · rcases hk with hk | ⟨hk, ek⟩
      · refine ⟨ei, j, k, hj, hk, ?_⟩
        rw [hb_det_rot]; exact hd
      · rw [hk] at hd
        exact absurd (hb_det_same3 _ _) hd
    · rw [hj] at hd
      exact absurd (hb_det_same _ _) hd
theorem hb_cut_all {P : Nat → hb_Q} {S : Nat → Prop} {p : Nat} (hS : hb_Sys P S) {v : hb_Q} (h : hb_Vx P (hb_add S p) v) : hb_Vx P S v ∨ ∃ a b, hb_Vx P S a ∧ hb_Vx P S b ∧ 0 < hb_val (P p) a ∧ hb_val (P p) b < 0 ∧ hb_R2 P (hb_Com P S a b) ∧ hb_Same (hb_cr P p a b) v := by
  have hin := (hb_add_in.mp h.1).1
  by_cases hn : hb_R3 P (hb_T P S v)
  · exact Or.inl ⟨hin, hn⟩
  · refine Or.inr ?_
    obtain ⟨ep, i, j, hi, hj, hd⟩ := hb_cut_two h hn
    have hp := hb_det_par hd
    have hort : ∀ k, hb_T P S v k → hb_val (P k) (hb_crs (P i) (P j)) = 0 := fun k hk => by
      rw [hb_val_dir _ _ rfl, ← hb_det_crs]
      have : hb_det (P i) (P j) (P k) = 0 := Classical.byContradiction fun hc => hn ⟨i, j, k, hi, hj, hk, hc⟩
      rw [this]; rfl
    have hort' : ∀ k, hb_T P S v k → hb_val (P k) (hb_neg (hb_crs (P i) (P j))) = 0 := fun k hk => by
      rw [hb_val_neg, hort k hk]; rfl
    have dp : hb_val (P p) (hb_crs (P i) (P j)) = - hb_det (P i) (P j) (P p) := by
      rw [hb_val_dir _ _ rfl, ← hb_det_crs]
    have fin : ∀ d : hb_Q, d.2.2.2 = 0 → hb_Nz d → (∀ k, hb_T P S v k → hb_val (P k) d = 0) → (∀ k, hb_val (P k) d ≠ 0 → hb_det (P i) (P j) (P k) ≠ 0) → ∃ t a, 0 < t ∧ hb_Vx P S a ∧ (∀ k, hb_T P S v k → hb_T P S a k) ∧ hb_val (P p) a = t * hb_val (P p) d := by
      intro d d0 dn dt dd
      obtain ⟨s, t, a, k, s0, t0, e, ia, ka, nk, ma⟩ := hb_step hS hin d0 dn dt
      refine ⟨t, a, t0, ⟨ia, i, j, k, ma i hi, ma j hj, ka, dd k (by omega)⟩, ma, ?_⟩
      rw [e, hb_val_lin, ep]; omega
    obtain ⟨t1, a, t10, va, ma, ea⟩ := fin (hb_crs (P i) (P j)) rfl (hb_crs_nz hp) hort (fun k hk hz => hk (by rw [hb_val_dir _ _ rfl, ← hb_det_crs, hz]; rfl))
    obtain ⟨t2, b, t20, vb, mb, eb⟩ := fin (hb_neg (hb_crs (P i) (P j))) rfl (hb_nz_neg (hb_crs_nz hp)) hort' (fun k hk hz => hk (by rw [hb_val_neg, hb_val_dir _ _ rfl, ← hb_det_crs, hz]; rfl))
    rw [hb_val_neg] at eb
    have go : ∀ a b : hb_Q, hb_Vx P S a → hb_Vx P S b → (∀ k, hb_T P S v k → hb_T P S a k) → (∀ k, hb_T P S v k → hb_T P S b k) → 0 < hb_val (P p) a → hb_val (P p) b < 0 → hb_Vx P S a ∧ hb_Vx P S b ∧ 0 < hb_val (P p) a ∧ hb_val (P p) b < 0 ∧ hb_R2 P (hb_Com P S a b) ∧ hb_Same (hb_cr P p a b) v := by
      intro a b va vb ma mb pa pb
      refine ⟨va, vb, pa, pb, ⟨i, j, ⟨ma i hi, mb i hi⟩, ⟨ma j hj, mb j hj⟩, hp⟩, ?_⟩
      exact hb_uniq hd ((hb_cr_T va.1 vb.1 pa pb i).mpr ⟨ma i hi, mb i hi⟩).2 ((hb_cr_T va.1 vb.1 pa pb j).mpr ⟨ma j hj, mb j hj⟩).2 (hb_cr_val P p a b) hi.2 hj.2 ep
    rcases Int.lt_or_gt_of_ne hd with h1 | h1
    · have p1 : 0 < hb_val (P p) a := by rw [ea]; exact Int.mul_pos t10 (by omega)
      have p2 : hb_val (P p) b < 0 := by rw [eb]; exact Int.mul_neg_of_pos_of_neg t20 (by omega)
      exact ⟨a, b, go a b va vb ma mb p1 p2⟩
    · have p1 : hb_val (P p) a < 0 := by rw [ea]; exact Int.mul_neg_of_pos_of_neg t10 (by omega)
      have p2 : 0 < hb_val (P p) b := by rw [eb]; exact Int.mul_pos t20 (by omega)
      exact ⟨b, a, go b a vb va mb ma p2 p1⟩
/-- a crossing is no old corner -/
theorem hb_cr_new {P : Nat → hb_Q} {S : Nat → Prop} {p : Nat} {a b v : hb_Q} (ha : hb_Vx P S a) (hb : hb_Vx P S b) (pa : 0 < hb_val (P p) a) (pb : hb_val (P p) b < 0) (hv : hb_Vx P S v) (hs : hb_Same (hb_cr P p a b) v) : False := by
  have wq := (hb_cr_in ha.1 hb.1 pa pb).1
  have s := hb_uniqR (u := a) (v := b) hv.2 (fun i hi => ((hb_cr_T ha.1 hb.1 pa pb i).mp ((hb_same_T wq hv.1.1 hs i).mpr hi)).1.2) (fun i hi => ((hb_cr_T ha.1 hb.1 pa pb i).mp ((hb_same_T wq hv.1.1 hs i).mpr hi)).2.2)
  have e := hb_same_val s (P p)
  have p1 := Int.mul_pos pa hb.1.1
  have p2 := Int.mul_neg_of_neg_of_pos pb ha.1.1
  omega
/-- two crossings that are one point come from the same two corners -/
theorem hb_cr_inj {P : Nat → hb_Q} {S : Nat → Prop} {p : Nat} {a b a' b' : hb_Q} (ha : hb_Vx P S a) (hb : hb_Vx P S b) (pa : 0 < hb_val (P p) a) (pb : hb_val (P p) b < 0) (r : hb_R2 P (hb_Com P S a b)) (ha' : hb_Vx P S a') (hb' : hb_Vx P S b') (pa' : 0 < hb_val (P p) a') (pb' : hb_val (P p) b' < 0) (hs : hb_Same (hb_cr P p a b) (hb_cr P p a' b')) : hb_Same a' a ∧ hb_Same b' b := by
  have wq := (hb_cr_in ha.1 hb.1 pa pb).1
  have wq' := (hb_cr_in ha'.1 hb'.1 pa' pb').1
  have hc : ∀ i, hb_T P S a i → hb_T P S b i → hb_Com P S a' b' i := fun i h1 h2 =>
    (hb_cr_T ha'.1 hb'.1 pa' pb' i).mp ((hb_same_T wq wq' hs i).mp ((hb_cr_T ha.1 hb.1 pa pb i).mpr ⟨h1, h2⟩))
  have sep : ∀ u w : hb_Q, 0 < u.2.2.2 → 0 < w.2.2.2 → 0 < hb_val (P p) u → hb_val (P p) w < 0 → ¬ hb_Same u w := by
    intro u w wu ww hu hw s
    have e := hb_same_val s (P p)
    have p1 := Int.mul_pos hu ww
    have p2 := Int.mul_neg_of_neg_of_pos hw wu
    omega
  have sab := sep a b ha.1.1 hb.1.1 pa pb
  constructor
  · refine Classical.byContradiction fun hn => ?_
    exact hb_no_third ha hb ha' sab hn (sep a' b ha'.1.1 hb.1.1 pa' pb) r (fun i h1 h2 => (hc i h1 h2).1)
  · refine Classical.byContradiction fun hn => ?_
    exact hb_no_third ha hb hb' sab (fun s => sep a b' ha.1.1 hb'.1.1 pa pb' (hb_same_symm s)) hn r (fun i h1 h2 => (hc i h1 h2).2)
end
section
/-! lists of all corners: how many, how great their numbers, in order -/
theorem hb_pig : ∀ (m n : Nat) (f : Nat → Nat), (∀ i, i < n → f i < m) → (∀ i j, i < n → j < n → f i = f j → i = j) → n ≤ m := by
  intro m
  induction m with
  | zero =>
    intro n f h _
    rcases Nat.eq_zero_or_pos n with h0 | h0
    · omega
    · exact absurd (h 0 h0) (Nat.not_lt_zero _)
  | succ m ih =>
    intro n f h hi
    by_cases hc : ∃ i, i < n ∧ f i = m
    · obtain ⟨i0, hi0, e0⟩ := hc
      have := ih (n - 1) (fun i => if i < i0 then f i else f (i + 1)) (by
        intro i hin
        by_cases hl : i < i0
        · simp only [if_pos hl]
          have h1 := h i (by omega)
          have h2 : f i ≠ m := fun e => by have := hi i i0 (by omega) hi0 (e.trans e0.symm); omega
          omega
        · simp only [if_neg hl]
          have h1 := h (i + 1) (by omega)
          have h2 : f (i + 1) ≠ m := fun e => by have := hi (i + 1) i0 (by omega) hi0 (e.trans e0.symm); omega
          omega) (by
        intro i j hin hjn e
        by_cases hl : i < i0
        · by_cases hl' : j < i0
          · simp only [if_pos hl, if_pos hl'] at e
            exact hi i j (by omega) (by omega) e
          · simp only [if_pos hl, if_neg hl'] at e
            have := hi i (j + 1) (by omega) (by omega) e
            omega
        · by_cases hl' : j < i0
          · simp only [if_neg hl, if_pos hl'] at e
            have := hi (i + 1) j (by omega) (by omega) e
            omega
          · simp only [if_neg hl, if_neg hl'] at e
            have := hi (i + 1) (j + 1) (by omega) (by omega) e
            omega)
      omega
    · have := ih n f (fun i hin => by
        have h1 := h i hin
        have h2 : f i ≠ m := fun e => hc ⟨i, hin, e⟩
        omega) hi
      omega
/-- m lists the points of K, each once, c of them -/
def hb_MD (K : hb_Q → Prop) (c : Nat) (m : Nat → hb_Q) : Prop := (∀ j, j < c → K (m j)) ∧ (∀ q, K q → ∃ j, j < c ∧ m j = q) ∧ (∀ i j, i < c → j < c → m i = m j → i = j)
theorem hb_md_congr {K K' : hb_Q → Prop} {c : Nat} {m m' : Nat → hb_Q} (h : hb_MD K c m) (hk : ∀ q, K q ↔ K' q) (hm : ∀ j, j < c → m' j = m j) : hb_MD K' c m' := by
  obtain ⟨h1, h2, h3⟩ := h
  refine ⟨fun j hj => ?_, fun q hq => ?_, fun i j hi hj e => ?_⟩
  · rw [hm j hj]; exact (hk _).mp (h1 j hj)
  · obtain ⟨j, hj, e⟩ := h2 q ((hk q).mpr hq)
    exact ⟨j, hj, (hm j hj).trans e⟩
  · rw [hm i hi, hm j hj] at e
    exact h3 i j hi hj e
theorem hb_md_push {K : hb_Q → Prop} {c : Nat} {m m' : Nat → hb_Q} {q : hb_Q} (h : hb_MD K c m) (hq : ¬ K q) (hm : ∀ j, j < c → m' j = m j) (hc : m' c = q) : hb_MD (fun x => K x ∨ x = q) (c + 1) m' := by
  obtain ⟨h1, h2, h3⟩ := h
  refine ⟨fun j hj => ?_, fun x hx => ?_, fun i j hi hj e => ?_⟩
  · by_cases hjc : j < c
    · rw [hm j hjc]; exact Or.inl (h1 j hjc)
    · have : j = c := by omega
      rw [this, hc]; exact Or.inr rfl
  · rcases hx with hx | hx
    · obtain ⟨j, hj, e⟩ := h2 x hx
      exact ⟨j, by omega, (hm j hj).trans e⟩
    · exact ⟨c, by omega, hc.trans hx.symm⟩
  · by_cases hic : i < c
    · by_cases hjc : j < c
      · rw [hm i hic, hm j hjc] at e
        exact h3 i j hic hjc e
      · have hj' : j = c := by omega
        rw [hm i hic, hj', hc] at e
        exact absurd (e ▸ h1 i hic) hq
    · have hi' : i = c := by omega
      by_cases hjc : j < c
      · rw [hm j hjc, hi', hc] at e
        exact absurd (e ▸ h1 j hjc) hq
      · omega
theorem hb_md_0 {K : hb_Q → Prop} {m : Nat → hb_Q} (h : ∀ q, ¬ K q) : hb_MD K 0 m :=
  ⟨fun j hj => absurd hj (Nat.not_lt_zero j), fun q hq => absurd hq (h q), fun i _ hi => absurd hi (Nat.not_lt_zero i)⟩
theorem hb_md_count {K : hb_Q → Prop} {c c' : Nat} {m m' : Nat → hb_Q} (h : hb_MD K c m) (h' : hb_MD K c' m') : c ≤ c' := by
  have hf : ∀ i, ∃ j, i < c → j < c' ∧ m' j = m i := fun i => by
    by_cases hi : i < c
    · obtain ⟨j, hj, e⟩ := h'.2.1 _ (h.1 i hi)
      exact ⟨j, fun _ => ⟨hj, e⟩⟩
    · exact ⟨0, fun h => absurd h hi⟩
  refine hb_pig c' c (fun i => (hf i).choose) (fun i hi => ((hf i).choose_spec hi).1) (fun i j hi hj e => ?_)
  have e1 := ((hf i).choose_spec hi).2
  have e2 := ((hf j).choose_spec hj).2
  have e' : (hf i).choose = (hf j).choose := e
  rw [e'] at e1
  exact h.2.2 i j hi hj (e1.symm.trans e2)
/-- the corners in lowest terms -/
def hb_K (P : Nat → hb_Q) (S : Nat → Prop) (v : hb_Q) : Prop := hb_Vx P S v ∧ hb_Nrm v
/-! no more than 32 -/
def hb_c3 : hb_Q := (10000, 100, 1, 0)
def hb_Sml (p : hb_Q) : Prop := (-4 ≤ p.1 ∧ p.1 ≤ 4) ∧ (-4 ≤ p.2.1 ∧ p.2.1 ≤ 4) ∧ (-4 ≤ p.2.2.1 ∧ p.2.2.1 ≤ 4)
theorem hb_mul4 {a b : Int} (h1 : -4 ≤ a ∧ a ≤ 4) (h2 : -4 ≤ b ∧ b ≤ 4) : -16 ≤ a * b ∧ a * b ≤ 16 := by
  have p1 := Int.mul_nonneg (by omega : 0 ≤ a + 4) (by omega : 0 ≤ b + 4)
  have p2 := Int.mul_nonneg (by omega : 0 ≤ 4 - a) (by omega : 0 ≤ 4 - b)
  have p3 := Int.mul_nonneg (by omega : 0 ≤ 4 - a) (by omega : 0 ≤ b + 4)
  have p4 := Int.mul_nonneg (by omega : 0 ≤ a + 4) (by omega : 0 ≤ 4 - b)
  have e1 : (a + 4) * (b + 4) = a * b + 4 * a + 4 * b + 16 := by grind
  have e2 : (4 - a) * (4 - b) = a * b - 4 * a - 4 * b + 16 := by grind
  have e3 : (4 - a) * (b + 4) = - (a * b) - 4 * a * 0 + 4 * b - 4 * a + 16 := by grind
  have e4 : (a + 4) * (4 - b) = - (a * b) + 4 * a - 4 * b + 16 := by grind
  omega
theorem hb_crs_bd {p q : hb_Q} (hp : hb_Sml p) (hq : hb_Sml q) : (-32 ≤ hb_cx p q ∧ hb_cx p q ≤ 32) ∧ (-32 ≤ hb_cy p q ∧ hb_cy p q ≤ 32) ∧ (-32 ≤ hb_cz p q ∧ hb_cz p q ≤ 32) := by
  obtain ⟨p1, p2, p3⟩ := hp
  obtain ⟨q1, q2, q3⟩ := hq
  have a1 := hb_mul4 p2 q3
  have a2 := hb_mul4 p3 q2
  have a3 := hb_mul4 p3 q1
  have a4 := hb_mul4 p1 q3
  have a5 := hb_mul4 p1 q2
  have a6 := hb_mul4 p2 q1
  simp only [hb_cx, hb_cy, hb_cz]
  omega
theorem hb_gen {p q : hb_Q} (hp : hb_Sml p) (hq : hb_Sml q) (hn : ¬ hb_Par p q) : hb_dot hb_c3 (hb_crs p q) ≠ 0 := by
  have := hb_crs_bd hp hq
  intro e
  apply hn
  simp only [hb_dot, hb_c3, hb_crs] at e
  unfold hb_Par
  omega
theorem hb_solve (c p q r e : hb_Q) : hb_det p q r * hb_dot c e = hb_dot p e * hb_dot c (hb_crs q r) + hb_dot q e * hb_dot c (hb_crs r p) + hb_dot r e * hb_dot c (hb_crs p q) := by
  simp only [hb_det, hb_dot, hb_crs, hb_cx, hb_cy, hb_cz]; grind
/-- a sign: c rises (or falls) along every way from v in plane r that planes p, q hold -/
theorem hb_sign1 {p q r : hb_Q} (hd : hb_det p q r ≠ 0) (ha : hb_dot hb_c3 (hb_crs q r) ≠ 0) (hb : hb_dot hb_c3 (hb_crs r p) ≠ 0) (hsame : 0 < hb_dot hb_c3 (hb_crs q r) ↔ 0 < hb_dot hb_c3 (hb_crs r p)) : (∀ e, hb_Nz e → hb_dot p e ≤ 0 → hb_dot q e ≤ 0 → hb_dot r e = 0 → hb_dot hb_c3 e < 0) ∨ (∀ e, hb_Nz e → hb_dot p e ≤ 0 → hb_dot q e ≤ 0 → hb_dot r e = 0 → 0 < hb_dot hb_c3 e) := by
  have key : ∀ e, hb_Nz e → hb_dot p e ≤ 0 → hb_dot q e ≤ 0 → hb_dot r e = 0 → hb_dot p e < 0 ∨ hb_dot q e < 0 := by
    intro e hn h1 h2 h3
    refine Classical.byContradiction fun hc => ?_
    exact hb_det_zero hd (by omega) (by omega) h3 hn
  have sgn : ∀ x y a b : Int, x ≤ 0 → y ≤ 0 → (x < 0 ∨ y < 0) → 0 < a → 0 < b → x * a + y * b < 0 := by
    intro x y a b hx hy hxy ha hb
    have p1 := Int.mul_nonneg (by omega : 0 ≤ -x) (Int.le_of_lt ha)
    have p2 := Int.mul_nonneg (by omega : 0 ≤ -y) (Int.le_of_lt hb)
    rw [Int.neg_mul] at p1 p2
    rcases hxy with h | h
    · have := Int.mul_neg_of_neg_of_pos h ha
      omega
    · have := Int.mul_neg_of_neg_of_pos h hb
      omega
  have sol : ∀ e, hb_dot r e = 0 → hb_det p q r * hb_dot hb_c3 e = hb_dot p e * hb_dot hb_c3 (hb_crs q r) + hb_dot q e * hb_dot hb_c3 (hb_crs r p) := by
    intro e h3
    have := hb_solve hb_c3 p q r e
    rw [h3] at this
    omega
  by_cases h1 : 0 < hb_dot hb_c3 (hb_crs q r)
  · have h2 := hsame.mp h1
    rcases Int.lt_or_gt_of_ne hd with h | h
    · refine Or.inr fun e hn a1 a2 a3 => ?_
      have s := sgn _ _ _ _ a1 a2 (key e hn a1 a2 a3) h1 h2
      rw [← sol e a3] at s
      exact Int.pos_of_mul_neg_right s h
    · refine Or.inl fun e hn a1 a2 a3 => ?_
      have s := sgn _ _ _ _ a1 a2 (key e hn a1 a2 a3) h1 h2
      rw [← sol e a3] at s
      exact Int.neg_of_mul_neg_right s h
  · have h2 : ¬ 0 < hb_dot hb_c3 (hb_crs r p) := fun h => h1 (hsame.mpr h)
    rcases Int.lt_or_gt_of_ne hd with h | h
    · refine Or.inl fun e hn a1 a2 a3 => ?_
      have s := sgn _ _ _ _ a1 a2 (key e hn a1 a2 a3) (by omega : 0 < - hb_dot hb_c3 (hb_crs q r)) (by omega : 0 < - hb_dot hb_c3 (hb_crs r p))
      have s2 : 0 < hb_det p q r * hb_dot hb_c3 e := by rw [sol e a3]; rw [Int.mul_neg, Int.mul_neg] at s; omega
      exact Int.neg_of_mul_pos_right s2 h
    · refine Or.inr fun e hn a1 a2 a3 => ?_
      have s := sgn _ _ _ _ a1 a2 (key e hn a1 a2 a3) (by omega : 0 < - hb_dot hb_c3 (hb_crs q r)) (by omega : 0 < - hb_dot hb_c3 (hb_crs r p))
      have s2 : 0 < hb_det p q r * hb_dot hb_c3 e := by rw [sol e a3]; rw [Int.mul_neg, Int.mul_neg] at s; omega
      exact Int.pos_of_mul_pos_right s2 h
/-- plane i of corner v: on it c is greatest (s = 0) or least (s = 1) at v alone -/
def hb_Ext (P : Nat → hb_Q) (S : Nat → Prop) (v : hb_Q) (i s : Nat) : Prop := hb_T P S v i ∧ ∀ u, hb_In P S u → hb_val (P i) u = 0 → ¬ hb_Same u v → if s = 0 then hb_Lt hb_c3 u v else hb_Lt hb_c3 v u
theorem hb_ext1 {P : Nat → hb_Q} {S : Nat → Prop} {v : hb_Q} (hv : 0 < v.2.2.2) {i j k : Nat} (hi : hb_T P S v i) (hj : hb_T P S v j) (hk : hb_T P S v k) (h : (∀ e, hb_Nz e → hb_dot (P i) e ≤ 0 → hb_dot (P j) e ≤ 0 → hb_dot (P k) e = 0 → hb_dot hb_c3 e < 0) ∨ (∀ e, hb_Nz e → hb_dot (P i) e ≤ 0 → hb_dot (P j) e ≤ 0 → hb_dot (P k) e = 0 → 0 < hb_dot hb_c3 e)) : ∃ s, s < 2 ∧ hb_Ext P S v k s := by
  have key : ∀ u, hb_In P S u → ∀ l, hb_T P S v l → hb_dot (P l) (hb_diff u v) = - (v.2.2.2 * hb_val (P l) u) := by
    intro u hu l hl
    have e := hb_diff_val (P l) u v
    rw [hb_val_dir _ _ (hb_diff_w _ _), hl.2] at e
    omega
  have le : ∀ u, hb_In P S u → ∀ l, hb_T P S v l → hb_dot (P l) (hb_diff u v) ≤ 0 := by
    intro u hu l hl
    rw [key u hu l hl]
    have := Int.mul_nonneg (Int.le_of_lt hv) (hu.2 l hl.1)
    omega
  have nz : ∀ u, ¬ hb_Same u v → hb_Nz (hb_diff u v) := fun u hs => Classical.byContradiction fun hc => hs ((hb_same_iff u v).mp hc)
  rcases h with h | h
  · refine ⟨0, by omega, hk, fun u hu e hs => ?_⟩
    have := h _ (nz u hs) (le u hu i hi) (le u hu j hj) (by rw [key u hu k hk, e]; omega)
    rw [hb_diff_dot] at this
    rw [if_pos rfl]
    unfold hb_Lt
    have c1 := Int.mul_comm v.2.2.2 (hb_dot hb_c3 u)
    have c2 := Int.mul_comm u.2.2.2 (hb_dot hb_c3 v)
    omega
  · refine ⟨1, by omega, hk, fun u hu e hs => ?_⟩
    have := h _ (nz u hs) (le u hu i hi) (le u hu j hj) (by rw [key u hu k hk, e]; omega)
    rw [hb_diff_dot] at this
    rw [if_neg (by omega)]
    unfold hb_Lt
    have c1 := Int.mul_comm v.2.2.2 (hb_dot hb_c3 u)
    have c2 := Int.mul_comm u.2.2.2 (hb_dot hb_c3 v)
    omega
theorem hb_sml {P : Nat → hb_Q} {S : Nat → Prop} (hS : hb_Sys P S) {i : Nat} (h : S i) : hb_Sml (P i) := by
  have := (hS.2.2 i h).2
  exact ⟨this.1, this.2.1, this.2.2.1⟩
theorem hb_ext {P : Nat → hb_Q} {S : Nat → Prop} (hS : hb_Sys P S) {v : hb_Q} (hv : hb_Vx P S v) : ∃ i s, i < 16 ∧ s < 2 ∧ hb_Ext P S v i s := by
  obtain ⟨hin, i, j, k, hi, hj, hk, hd⟩ := hv
  have si := hb_sml hS hi.1
  have sj := hb_sml hS hj.1
  have sk := hb_sml hS hk.1
  have d1 : hb_det (P j) (P k) (P i) ≠ 0 := by rw [hb_det_rot]; exact hd
  have d2 : hb_det (P k) (P i) (P j) ≠ 0 := by rw [hb_det_rot]; exact d1
  have g1 := hb_gen si sj (hb_det_par hd)
  have g2 := hb_gen sj sk (hb_det_par d1)
  have g3 := hb_gen sk si (hb_det_par d2)
  by_cases h12 : 0 < hb_dot hb_c3 (hb_crs (P j) (P k)) ↔ 0 < hb_dot hb_c3 (hb_crs (P k) (P i))
  · obtain ⟨s, hs, he⟩ := hb_ext1 hin.1 hi hj hk (hb_sign1 hd g2 g3 h12)
    exact ⟨k, s, (hS.2.2 k hk.1).1, hs, he⟩
  · by_cases h23 : 0 < hb_dot hb_c3 (hb_crs (P k) (P i)) ↔ 0 < hb_dot hb_c3 (hb_crs (P i) (P j))
    · obtain ⟨s, hs, he⟩ := hb_ext1 hin.1 hj hk hi (hb_sign1 d1 g3 g1 h23)
      exact ⟨i, s, (hS.2.2 i hi.1).1, hs, he⟩
    · have h31 : 0 < hb_dot hb_c3 (hb_crs (P i) (P j)) ↔ 0 < hb_dot hb_c3 (hb_crs (P j) (P k)) := by
        constructor
        · intro h
          refine Classical.byContradiction fun hc => ?_
          by_cases h3 : 0 < hb_dot hb_c3 (hb_crs (P k) (P i))
          · exact h23 ⟨fun _ => h, fun _ => h3⟩
          · exact h12 ⟨fun h => absurd h hc, fun h => absurd h h3⟩
        · intro h
          refine Classical.byContradiction fun hc => ?_
          by_cases h3 : 0 < hb_dot hb_c3 (hb_crs (P k) (P i))
          · exact h12 ⟨fun _ => h3, fun _ => h⟩
          · exact h23 ⟨fun h => absurd h h3, fun h => absurd h hc⟩
      obtain ⟨s, hs, he⟩ := hb_ext1 hin.1 hk hi hj (hb_sign1 d2 g1 g2 h31)
      exact ⟨j, s, (hS.2.2 j hj.1).1, hs, he⟩
theorem hb_le32 {P : Nat → hb_Q} {S : Nat → Prop} (hS : hb_Sys P S) {c : Nat} {m : Nat → hb_Q} (h1 : ∀ j, j < c → hb_K P S (m j)) (h2 : ∀ i j, i < c → j < c → m i = m j → i = j) : c ≤ 32 := by
  have hf : ∀ j, ∃ r : Nat × Nat, j < c → r.1 < 16 ∧ r.2 < 2 ∧ hb_Ext P S (m j) r.1 r.2 := fun j => by
    by_cases hj : j < c
    · obtain ⟨i, s, hi, hs, he⟩ := hb_ext hS (h1 j hj).1
      exact ⟨(i, s), fun _ => ⟨hi, hs, he⟩⟩
    · exact ⟨(0, 0), fun h => absurd h hj⟩
  refine hb_pig 32 c (fun j => 2 * (hf j).choose.1 + (hf j).choose.2) (fun j hj => ?_) (fun i j hi hj e => ?_)
  · have := (hf j).choose_spec hj
    show 2 * (hf j).choose.1 + (hf j).choose.2 < 32
    omega
  · have a := (hf i).choose_spec hi
    have b := (hf j).choose_spec hj
    have e : 2 * (hf i).choose.1 + (hf i).choose.2 = 2 * (hf j).choose.1 + (hf j).choose.2 := e
    have e1 : (hf i).choose.1 = (hf j).choose.1 := by omega
    have e2 : (hf i).choose.2 = (hf j).choose.2 := by omega
    rw [e1, e2] at a
    refine h2 i j hi hj (Classical.byContradiction fun hn => ?_)
    have hs : ¬ hb_Same (m i) (m j) := fun hs => hn (hb_nrm_eq (h1 i hi).2 (h1 j hj).2 hs)
    have l1 := a.2.2.2 (m j) (h1 j hj).1.1 b.2.2.1.2 (fun s => hs (hb_same_symm s))
    have l2 := b.2.2.2 (m i) (h1 i hi).1.1 a.2.2.1.2 hs
    by_cases hz : (hf j).choose.2 = 0
    · rw [if_pos hz] at l1 l2
      unfold hb_Lt at l1 l2
      omega
    · rw [if_neg hz] at l1 l2
      unfold hb_Lt at l1 l2
      omega
end
section
/-! bounds of a corner's numbers, the cube's corners, the order of corners -/
theorem hb_mulb {a b A B : Int} (h1 : -A ≤ a ∧ a ≤ A) (h2 : -B ≤ b ∧ b ≤ B) : -(A * B) ≤ a * b ∧ a * b ≤ A * B := by
  have p1 := Int.mul_nonneg (by omega : 0 ≤ A + a) (by omega : 0 ≤ B + b)
  have p2 := Int.mul_nonneg (by omega : 0 ≤ A - a) (by omega : 0 ≤ B - b)
  have p3 := Int.mul_nonneg (by omega : 0 ≤ A - a) (by omega : 0 ≤ B + b)
  have p4 := Int.mul_nonneg (by omega : 0 ≤ A + a) (by omega : 0 ≤ B - b)
  have e1 : (A + a) * (B + b) = A * B + A * b + a * B + a * b := by grind
  have e2 : (A - a) * (B - b) = A * B - A * b - a * B + a * b := by grind
  have e3 : (A - a) * (B + b) = A * B + A * b - a * B - a * b := by grind
  have e4 : (A + a) * (B - b) = A * B - A * b + a * B - a * b := by grind
  omega
/-- where three planes meet -/
def hb_met (p q r : hb_Q) : hb_Q := (p.2.2.2 * hb_cx q r + q.2.2.2 * hb_cx r p + r.2.2.2 * hb_cx p q, p.2.2.2 * hb_cy q r + q.2.2.2 * hb_cy r p + r.2.2.2 * hb_cy p q, p.2.2.2 * hb_cz q r + q.2.2.2 * hb_cz r p + r.2.2.2 * hb_cz p q, hb_det p q r)
theorem hb_met_same {p q r v : hb_Q} (hp : hb_val p v = 0) (hq : hb_val q v = 0) (hr : hb_val r v = 0) : hb_Same (hb_met p q r) v := by
  have e1 := hb_solve1 p q r v
  have e2 := hb_solve2 p q r v
  have e3 := hb_solve3 p q r v
  have f1 : hb_dot p v = p.2.2.2 * v.2.2.2 := by unfold hb_val at hp; omega
  have f2 : hb_dot q v = q.2.2.2 * v.2.2.2 := by unfold hb_val at hq; omega
  have f3 : hb_dot r v = r.2.2.2 * v.2.2.2 := by unfold hb_val at hr; omega
  rw [f1, f2, f3] at e1 e2 e3
  refine ⟨?_, ?_, ?_⟩ <;> simp only [hb_met] <;> grind
theorem hb_met_val (p q r : hb_Q) : hb_val p (hb_met p q r) = 0 ∧ hb_val q (hb_met p q r) = 0 ∧ hb_val r (hb_met p q r) = 0 := by
  simp only [hb_val, hb_dot, hb_met, hb_det, hb_cx, hb_cy, hb_cz]
  refine ⟨?_, ?_, ?_⟩ <;> grind
theorem hb_met_bd {p q r : hb_Q} (hp : hb_Good p) (hq : hb_Good q) (hr : hb_Good r) : (-5760 ≤ (hb_met p q r).1 ∧ (hb_met p q r).1 ≤ 5760) ∧ (-5760 ≤ (hb_met p q r).2.1 ∧ (hb_met p q r).2.1 ≤ 5760) ∧ (-5760 ≤ (hb_met p q r).2.2.1 ∧ (hb_met p q r).2.2.1 ≤ 5760) ∧ (-384 ≤ hb_det p q r ∧ hb_det p q r ≤ 384) := by
  obtain ⟨p1, p2, p3, p4, -⟩ := hp
  obtain ⟨q1, q2, q3, q4, -⟩ := hq
  obtain ⟨r1, r2, r3, r4, -⟩ := hr
  obtain ⟨a1, a2, a3⟩ := hb_crs_bd (p := p) (q := q) ⟨p1, p2, p3⟩ ⟨q1, q2, q3⟩
  obtain ⟨b1, b2, b3⟩ := hb_crs_bd (p := q) (q := r) ⟨q1, q2, q3⟩ ⟨r1, r2, r3⟩
  obtain ⟨c1, c2, c3⟩ := hb_crs_bd (p := r) (q := p) ⟨r1, r2, r3⟩ ⟨p1, p2, p3⟩
  have x1 := hb_mulb p4 b1
  have x2 := hb_mulb q4 c1
  have x3 := hb_mulb r4 a1
  have y1 := hb_mulb p4 b2
  have y2 := hb_mulb q4 c2
  have y3 := hb_mulb r4 a2
  have z1 := hb_mulb p4 b3
  have z2 := hb_mulb q4 c3
  have z3 := hb_mulb r4 a3
  have d1 := hb_mulb a1 r1
  have d2 := hb_mulb a2 r2
  have d3 := hb_mulb a3 r3
  simp only [hb_met, hb_det]
  omega
def hb_Bd (v : hb_Q) : Prop := (-5760 ≤ v.1 ∧ v.1 ≤ 5760) ∧ (-5760 ≤ v.2.1 ∧ v.2.1 ≤ 5760) ∧ (-5760 ≤ v.2.2.1 ∧ v.2.2.1 ≤ 5760) ∧ (1 ≤ v.2.2.2 ∧ v.2.2.2 ≤ 384)
theorem hb_abs_le {a b : Nat} {x y : Int} {g : Nat} (hg : 0 < g) (ha : x.natAbs = a) (hb : y.natAbs = b) (e : a * g = b) {B : Int} (h : -B ≤ y ∧ y ≤ B) : -B ≤ x ∧ x ≤ B := by
  have : a ≤ b := by rw [← e]; exact Nat.le_mul_of_pos_right a hg
  omega
theorem hb_K_bd {P : Nat → hb_Q} {S : Nat → Prop} (hS : hb_Sys P S) {v : hb_Q} (h : hb_K P S v) : hb_Bd v := by
  obtain ⟨⟨hin, i, j, k, hi, hj, hk, hd⟩, hw, hg⟩ := h
  obtain ⟨b1, b2, b3, b4⟩ := hb_met_bd (hS.2.2 i hi.1).2 (hS.2.2 j hj.1).2 (hS.2.2 k hk.1).2
  obtain ⟨s1, s2, s3⟩ := hb_met_same hi.2 hj.2 hk.2
  have e4 : (hb_met (P i) (P j) (P k)).2.2.2 = hb_det (P i) (P j) (P k) := rfl
  rw [e4] at s1 s2 s3
  have e := hb_gq_mul (u := v) (v := hb_met (P i) (P j) (P k)) (m := hb_det (P i) (P j) (P k)) (n := v.2.2.2) s1.symm s2.symm s3.symm (Int.mul_comm _ _)
  rw [hg, Nat.one_mul] at e
  have wn : 0 < v.2.2.2.natAbs := by omega
  have g0 : 0 < hb_gq (hb_met (P i) (P j) (P k)) := by
    rcases Nat.eq_zero_or_pos (hb_gq (hb_met (P i) (P j) (P k))) with h | h
    · rw [h, Nat.zero_mul] at e; omega
    · exact h
  have red : ∀ x y : Int, y * v.2.2.2 = x * hb_det (P i) (P j) (P k) → x.natAbs * hb_gq (hb_met (P i) (P j) (P k)) = y.natAbs := by
    intro x y hxy
    have h1 := congrArg Int.natAbs hxy
    rw [Int.natAbs_mul, Int.natAbs_mul, e, ← Nat.mul_assoc] at h1
    exact (Nat.eq_of_mul_eq_mul_right wn h1).symm
  have w4 : v.2.2.2.natAbs * hb_gq (hb_met (P i) (P j) (P k)) = (hb_det (P i) (P j) (P k)).natAbs := by rw [e, Nat.mul_comm]
  refine ⟨hb_abs_le g0 rfl rfl (red _ _ s1) b1, hb_abs_le g0 rfl rfl (red _ _ s2) b2, hb_abs_le g0 rfl rfl (red _ _ s3) b3, ?_⟩
  have := hb_abs_le g0 rfl rfl w4 b4
  omega
/-! the cube -/
def hb_c8 (k : Nat) : hb_Q := (if k % 2 = 0 then 8 else -8, if k / 2 % 2 = 0 then 8 else -8, if k / 4 % 2 = 0 then 8 else -8, 1)
def hb_S6 : Nat → Prop := fun i => i < 6
theorem hb_sys6 {P : Nat → hb_Q} (h : hb_Cube P) : hb_Sys P hb_S6 := by
  refine ⟨h, fun i hi => hi, fun i hi => ⟨by unfold hb_S6 at hi; omega, ?_⟩⟩
  obtain ⟨c0, c1, c2, c3, c4, c5⟩ := h
  have : i = 0 ∨ i = 1 ∨ i = 2 ∨ i = 3 ∨ i = 4 ∨ i = 5 := by unfold hb_S6 at hi; omega
  rcases this with e | e | e | e | e | e <;> subst e
  · rw [c0]; simp only [hb_Good, hb_Nz]; omega
  · rw [c1]; simp only [hb_Good, hb_Nz]; omega
  · rw [c2]; simp only [hb_Good, hb_Nz]; omega
  · rw [c3]; simp only [hb_Good, hb_Nz]; omega
  · rw [c4]; simp only [hb_Good, hb_Nz]; omega
  · rw [c5]; simp only [hb_Good, hb_Nz]; omega
theorem hb_cube_val {P : Nat → hb_Q} (h : hb_Cube P) (v : hb_Q) : hb_val (P 0) v = 8 * v.2.2.2 - v.1 ∧ hb_val (P 1) v = 8 * v.2.2.2 + v.1 ∧ hb_val (P 2) v = 8 * v.2.2.2 - v.2.1 ∧ hb_val (P 3) v = 8 * v.2.2.2 + v.2.1 ∧ hb_val (P 4) v = 8 * v.2.2.2 - v.2.2.1 ∧ hb_val (P 5) v = 8 * v.2.2.2 + v.2.2.1 := by
  obtain ⟨c0, c1, c2, c3, c4, c5⟩ := h
  rw [c0, c1, c2, c3, c4, c5]
  simp only [hb_val, hb_dot]
  omega
theorem hb_c8_w (k : Nat) : (hb_c8 k).2.2.2 = 1 := rfl
theorem hb_c8_vals {P : Nat → hb_Q} (h : hb_Cube P) (k : Nat) : (hb_val (P 0) (hb_c8 k) = 0 ↔ k % 2 = 0) ∧ (hb_val (P 1) (hb_c8 k) = 0 ↔ k % 2 = 1) ∧ (hb_val (P 2) (hb_c8 k) = 0 ↔ k / 2 % 2 = 0) ∧ (hb_val (P 3) (hb_c8 k) = 0 ↔ k / 2 % 2 = 1) ∧ (hb_val (P 4) (hb_c8 k) = 0 ↔ k / 4 % 2 = 0) ∧ (hb_val (P 5) (hb_c8 k) = 0 ↔ k / 4 % 2 = 1) := by
  obtain ⟨e0, e1, e2, e3, e4, e5⟩ := hb_cube_val h (hb_c8 k)
  rw [e0, e1, e2, e3, e4, e5]
  simp only [hb_c8]
  refine ⟨?_, ?_, ?_, ?_, ?_, ?_⟩ <;> split <;> omega
theorem hb_c8_in {P : Nat → hb_Q} (h : hb_Cube P) (k : Nat) : hb_In P hb_S6 (hb_c8 k) := by
  refine ⟨by rw [hb_c8_w]; omega, fun i hi => ?_⟩
  obtain ⟨e0, e1, e2, e3, e4, e5⟩ := hb_cube_val h (hb_c8 k)
  have : i = 0 ∨ i = 1 ∨ i = 2 ∨ i = 3 ∨ i = 4 ∨ i = 5 := by unfold hb_S6 at hi; omega
  rcases this with e | e | e | e | e | e <;> subst e
  · rw [e0]; simp only [hb_c8]; split <;> omega
  · rw [e1]; simp only [hb_c8]; split <;> omega
  · rw [e2]; simp only [hb_c8]; split <;> omega
  · rw [e3]; simp only [hb_c8]; split <;> omega
  · rw [e4]; simp only [hb_c8]; split <;> omega
  · rw [e5]; simp only [hb_c8]; split <;> omega
theorem hb_cube_det {P : Nat → hb_Q} (h : hb_Cube P) (a b c : Nat) (ha : a = 0 ∨ a = 1) (hb : b = 2 ∨ b = 3) (hc : c = 4 ∨ c = 5) : hb_det (P a) (P b) (P c) ≠ 0 := by
  obtain ⟨c0, c1, c2, c3, c4, c5⟩ := h
  rcases ha with e | e <;> rcases hb with f | f <;> rcases hc with g | g <;> subst e <;> subst f <;> subst g <;> simp only [c0, c1, c2, c3, c4, c5] <;> decide
theorem hb_c8_K {P : Nat → hb_Q} (h : hb_Cube P) (k : Nat) : hb_K P hb_S6 (hb_c8 k) := by
  obtain ⟨v0, v1, v2, v3, v4, v5⟩ := hb_c8_vals h k
  refine ⟨⟨hb_c8_in h k, k % 2, 2 + k / 2 % 2, 4 + k / 4 % 2, ⟨by unfold hb_S6; omega, ?_⟩, ⟨by unfold hb_S6; omega, ?_⟩, ⟨by unfold hb_S6; omega, ?_⟩, ?_⟩, by rw [hb_c8_w]; omega, ?_⟩
  · rcases Nat.mod_two_eq_zero_or_one k with e | e
    · rw [e]; exact v0.mpr e
    · rw [e]; exact v1.mpr e
  · rcases Nat.mod_two_eq_zero_or_one (k / 2) with e | e
    · rw [e]; exact v2.mpr e
    · rw [e]; exact v3.mpr e
  · rcases Nat.mod_two_eq_zero_or_one (k / 4) with e | e
    · rw [e]; exact v4.mpr e
    · rw [e]; exact v5.mpr e
  · exact hb_cube_det h _ _ _ (by omega) (by omega) (by omega)
  · show hb_G _ _ _ 1 = 1
    exact Nat.gcd_one_right _
theorem hb_c8_inj {i j : Nat} (hi : i < 8) (hj : j < 8) (e : hb_c8 i = hb_c8 j) : i = j := by
  have e1 := congrArg (fun v : hb_Q => v.1) e
  have e2 := congrArg (fun v : hb_Q => v.2.1) e
  have e3 := congrArg (fun v : hb_Q => v.2.2.1) e
  simp only [hb_c8] at e1 e2 e3
  have f1 : i % 2 = j % 2 := by split at e1 <;> split at e1 <;> omega
  have f2 : i / 2 % 2 = j / 2 % 2 := by split at e2 <;> split at e2 <;> omega
  have f3 : i / 4 % 2 = j / 4 % 2 := by split at e3 <;> split at e3 <;> omega
  omega
theorem hb_col0 {P : Nat → hb_Q} {T : Nat → Prop} (r : hb_R3 P T) : (∃ t, T t ∧ (P t).1 ≠ 0) ∧ (∃ t, T t ∧ (P t).2.1 ≠ 0) ∧ (∃ t, T t ∧ (P t).2.2.1 ≠ 0) := by
  obtain ⟨i, j, k, hi, hj, hk, hd⟩ := r
  refine ⟨Classical.byContradiction fun hc => hd ?_, Classical.byContradiction fun hc => hd ?_, Classical.byContradiction fun hc => hd ?_⟩
  · have z : ∀ t, T t → (P t).1 = 0 := fun t ht => Classical.byContradiction fun h => hc ⟨t, ht, h⟩
    simp only [hb_det, hb_cx, hb_cy, hb_cz, z i hi, z j hj, z k hk]; grind
  · have z : ∀ t, T t → (P t).2.1 = 0 := fun t ht => Classical.byContradiction fun h => hc ⟨t, ht, h⟩
    simp only [hb_det, hb_cx, hb_cy, hb_cz, z i hi, z j hj, z k hk]; grind
  · have z : ∀ t, T t → (P t).2.2.1 = 0 := fun t ht => Classical.byContradiction fun h => hc ⟨t, ht, h⟩
    simp only [hb_det, hb_cx, hb_cy, hb_cz, z i hi, z j hj, z k hk]; grind
theorem hb_cube_all {P : Nat → hb_Q} (h : hb_Cube P) {v : hb_Q} (hv : hb_K P hb_S6 v) : ∃ k, k < 8 ∧ hb_c8 k = v := by
  obtain ⟨⟨hin, r⟩, hw, hg⟩ := hv
  obtain ⟨⟨a, ta, na⟩, ⟨b, tb, nb⟩, ⟨c, tc, nc⟩⟩ := hb_col0 r
  obtain ⟨e0, e1, e2, e3, e4, e5⟩ := hb_cube_val h v
  obtain ⟨c0, c1, c2, c3, c4, c5⟩ := h
  have six : ∀ i, hb_S6 i → i = 0 ∨ i = 1 ∨ i = 2 ∨ i = 3 ∨ i = 4 ∨ i = 5 := fun i hi => by unfold hb_S6 at hi; omega
  have hx : v.1 = 8 * v.2.2.2 ∨ v.1 = -8 * v.2.2.2 := by
    obtain ⟨sa, va⟩ := ta
    rcases six a sa with e | e | e | e | e | e <;> subst e
    · rw [e0] at va; omega
    · rw [e1] at va; omega
    · rw [c2] at na; exact absurd rfl na
    · rw [c3] at na; exact absurd rfl na
    · rw [c4] at na; exact absurd rfl na
    · rw [c5] at na; exact absurd rfl na
  have hy : v.2.1 = 8 * v.2.2.2 ∨ v.2.1 = -8 * v.2.2.2 := by
    obtain ⟨sb, vb⟩ := tb
    rcases six b sb with e | e | e | e | e | e <;> subst e
    · rw [c0] at nb; exact absurd rfl nb
    · rw [c1] at nb; exact absurd rfl nb
    · rw [e2] at vb; omega
    · rw [e3] at vb; omega
    · rw [c4] at nb; exact absurd rfl nb
    · rw [c5] at nb; exact absurd rfl nb
  have hz : v.2.2.1 = 8 * v.2.2.2 ∨ v.2.2.1 = -8 * v.2.2.2 := by
    obtain ⟨sc, vc⟩ := tc
    rcases six c sc with e | e | e | e | e | e <;> subst e
    · rw [c0] at nc; exact absurd rfl nc
    · rw [c1] at nc; exact absurd rfl nc
    · rw [c2] at nc; exact absurd rfl nc
    · rw [c3] at nc; exact absurd rfl nc
    · rw [e4] at vc; omega
    · rw [e5] at vc; omega
  have w1 : v.2.2.2 = 1 := by
    have ax : v.1.natAbs = 8 * v.2.2.2.natAbs := by omega
    have ay : v.2.1.natAbs = 8 * v.2.2.2.natAbs := by omega
    have az : v.2.2.1.natAbs = 8 * v.2.2.2.natAbs := by omega
    unfold hb_gq at hg
    rw [ax, ay, az] at hg
    have := hb_G_mul 8 8 8 1 v.2.2.2.natAbs
    rw [Nat.one_mul] at this
    rw [this] at hg
    have g1 : hb_G 8 8 8 1 = 1 := by decide
    rw [g1] at hg
    omega
  refine ⟨(if v.1 = 8 then 0 else 1) + (if v.2.1 = 8 then 0 else 2) + (if v.2.2.1 = 8 then 0 else 4), ?_, ?_⟩
  · split <;> split <;> split <;> omega
  · rw [w1] at hx hy hz
    have x8 : v.1 = 8 ∨ v.1 = -8 := by omega
    have y8 : v.2.1 = 8 ∨ v.2.1 = -8 := by omega
    have z8 : v.2.2.1 = 8 ∨ v.2.2.1 = -8 := by omega
    have ev : v = (v.1, v.2.1, v.2.2.1, 1) := Prod.ext rfl (Prod.ext rfl (Prod.ext rfl w1))
    rcases x8 with x8 | x8 <;> rcases y8 with y8 | y8 <;> rcases z8 with z8 | z8 <;> rw [ev] <;> simp only [x8, y8, z8] <;> decide
theorem hb_cube_md {P : Nat → hb_Q} (h : hb_Cube P) : hb_MD (hb_K P hb_S6) 8 hb_c8 :=
  ⟨fun j _ => hb_c8_K h j, fun q hq => hb_cube_all h hq, fun i j hi hj e => hb_c8_inj hi hj e⟩
/-! the order -/
def hb_dx (u v : hb_Q) : Int := u.1 * v.2.2.2 - v.1 * u.2.2.2
def hb_dy (u v : hb_Q) : Int := u.2.1 * v.2.2.2 - v.2.1 * u.2.2.2
def hb_dz (u v : hb_Q) : Int := u.2.2.1 * v.2.2.2 - v.2.2.1 * u.2.2.2
def hb_Bf (u v : hb_Q) : Prop := hb_dx u v < 0 ∨ (hb_dx u v = 0 ∧ (hb_dy u v < 0 ∨ (hb_dy u v = 0 ∧ hb_dz u v < 0)))
theorem hb_bf_irr (u : hb_Q) : ¬ hb_Bf u u := by
  simp only [hb_Bf, hb_dx, hb_dy, hb_dz]; omega
theorem hb_bf_asym {u v : hb_Q} (h : hb_Bf u v) : ¬ hb_Bf v u := by
  simp only [hb_Bf, hb_dx, hb_dy, hb_dz] at *; omega
theorem hb_bf_tot {u v : hb_Q} (h : ¬ hb_Same u v) : hb_Bf u v ∨ hb_Bf v u := by
  simp only [hb_Bf, hb_Same, hb_dx, hb_dy, hb_dz] at *; omega
theorem hb_fr3 {a b c e f g : Int} (he : 0 < e) (hf : 0 < f) (hg : 0 < g) (h1 : a * f - b * e ≤ 0) (h2 : b * g - c * f ≤ 0) : a * g - c * e ≤ 0 ∧ (a * g - c * e = 0 → a * f - b * e = 0 ∧ b * g - c * f = 0) := by
  have t := hb_frac_tr (a := a) (b := b) (c := c) he hf hg (by omega) (by omega)
  refine ⟨by omega, fun ez => ?_⟩
  constructor
  · refine Classical.byContradiction fun hc => ?_
    have := hb_frac_tr' (a := a) (b := b) (c := c) he hf hg (by omega) (by omega)
    omega
  · refine Classical.byContradiction fun hc => ?_
    have := hb_frac_tr2 (a := a) (b := b) (c := c) he hf hg (by omega) (by omega)
    omega
theorem hb_fr0 {a b c e f g : Int} (hf : 0 < f) (h1 : a * f - b * e = 0) (h2 : b * g - c * f = 0) : a * g - c * e = 0 := by
  have e1 : (a * g - c * e) * f = 0 := by
    have k1 : (a * g - c * e) * f = (a * f - b * e) * g + (b * g - c * f) * e := by grind
    rw [k1, h1, h2]; omega
  rcases Int.mul_eq_zero.mp e1 with h | h
  · exact h
  · omega
theorem hb_bf_tr {u v w : hb_Q} (hu : 0 < u.2.2.2) (hv : 0 < v.2.2.2) (hw : 0 < w.2.2.2) (h1 : hb_Bf u v) (h2 : hb_Bf v w) : hb_Bf u w := by
  unfold hb_Bf at *
  have x1 : hb_dx u v ≤ 0 := by omega
  have x2 : hb_dx v w ≤ 0 := by omega
  obtain ⟨lx, ex⟩ := hb_fr3 (a := u.1) (b := v.1) (c := w.1) hu hv hw x1 x2
  rcases Int.lt_or_eq_of_le lx with hx | hx
  · exact Or.inl hx
  · obtain ⟨p1, p2⟩ := ex hx
    have y1 : hb_dy u v ≤ 0 := by simp only [hb_dx] at h1; omega
    have y2 : hb_dy v w ≤ 0 := by simp only [hb_dx] at h2; omega
    obtain ⟨ly, ey⟩ := hb_fr3 (a := u.2.1) (b := v.2.1) (c := w.2.1) hu hv hw y1 y2
    refine Or.inr ⟨hx, ?_⟩
    rcases Int.lt_or_eq_of_le ly with hy | hy
    · exact Or.inl hy
    · obtain ⟨q1, q2⟩ := ey hy
      refine Or.inr ⟨hy, ?_⟩
      have z1 : hb_dz u v < 0 := by simp only [hb_dx, hb_dy] at h1; omega
      have z2 : hb_dz v w < 0 := by simp only [hb_dx, hb_dy] at h2; omega
      obtain ⟨lz, ez⟩ := hb_fr3 (a := u.2.2.1) (b := v.2.2.1) (c := w.2.2.1) hu hv hw (Int.le_of_lt z1) (Int.le_of_lt z2)
      rcases Int.lt_or_eq_of_le lz with hz | hz
      · exact hz
      · have := (ez hz).1
        simp only [hb_dz] at z1
        omega
def hb_Srt (c : Nat) (m : Nat → hb_Q) : Prop := ∀ i j, i < j → j < c → hb_Bf (m i) (m j)
/-- two lists of the same points in order are the same -/
theorem hb_srt_eq {K : hb_Q → Prop} {c c' : Nat} {m m' : Nat → hb_Q} (h : hb_MD K c m) (h' : hb_MD K c' m') (s : hb_Srt c m) (s' : hb_Srt c' m') : c' = c ∧ ∀ k, k < c → m' k = m k := by
  have ec : c' = c := Nat.le_antisymm (hb_md_count h' h) (hb_md_count h h')
  subst ec
  refine ⟨rfl, fun k => ?_⟩
  induction k using Nat.strongRecOn with
  | ind k ih =>
    intro hk
    obtain ⟨a, ha, ea⟩ := h'.2.1 _ (h.1 k hk)
    obtain ⟨b, hb, eb⟩ := h.2.1 _ (h'.1 k hk)
    have ak : ¬ a < k := fun hak => by
      have := ih a hak (by omega)
      rw [ea] at this
      have := h.2.2 _ _ hk (by omega) this
      omega
    have bk : ¬ b < k := fun hbk => by
      have := ih b hbk (by omega)
      rw [eb] at this
      have := h'.2.2 _ _ (by omega) hk this
      omega
    rcases Nat.lt_or_eq_of_le (Nat.le_of_not_lt ak) with hak | hak
    · have l1 := s' k a hak ha
      rw [ea] at l1
      rcases Nat.lt_or_eq_of_le (Nat.le_of_not_lt bk) with hbk | hbk
      · have l2 := s k b hbk hb
        rw [eb] at l2
        exact absurd l2 (hb_bf_asym l1)
      · rw [← hbk] at eb; exact eb.symm
    · rw [← hak] at ea; exact ea
end
section
/-! from every corner a way over neighbours to every other -/
/-- a direction at k that its tight planes allow, turned until one more holds it; c on it stays -/
theorem hb_turn {P : Nat → hb_Q} {S : Nat → Prop} (hS : hb_Sys P S) {k : hb_Q} (hk : hb_Vx P S k) {c d e : hb_Q} (d0 : d.2.2.2 = 0) (hd : ∀ i, hb_T P S k i → 0 ≤ hb_val (P i) d) (hc : 0 < hb_dot c d) (e0 : e.2.2.2 = 0) (en : hb_Nz e) (ec : hb_dot c e = 0) (ed : ∀ i, hb_T P S k i → hb_val (P i) d = 0 → hb_val (P i) e = 0) : ∃ d' j, d'.2.2.2 = 0 ∧ (∀ i, hb_T P S k i → 0 ≤ hb_val (P i) d') ∧ 0 < hb_dot c d' ∧ hb_T P S k j ∧ hb_val (P j) d' = 0 ∧ hb_val (P j) e ≠ 0 ∧ (∀ i, hb_T P S k i → hb_val (P i) d = 0 → hb_val (P i) d' = 0) := by
  have main : ∀ e : hb_Q, e.2.2.2 = 0 → hb_dot c e = 0 → (∀ i, hb_T P S k i → hb_val (P i) d = 0 → hb_val (P i) e = 0) → (∃ i, hb_T P S k i ∧ hb_val (P i) e < 0) → ∃ d' j, d'.2.2.2 = 0 ∧ (∀ i, hb_T P S k i → 0 ≤ hb_val (P i) d') ∧ 0 < hb_dot c d' ∧ hb_T P S k j ∧ hb_val (P j) d' = 0 ∧ hb_val (P j) e ≠ 0 ∧ (∀ i, hb_T P S k i → hb_val (P i) d = 0 → hb_val (P i) d' = 0) := by
    intro e e0 ec ed ⟨i0, hi0, hl⟩
    rcases hb_min (fun i => hb_T P S k i ∧ hb_val (P i) e < 0) (fun i j => hb_val (P i) d * (- hb_val (P j) e) ≤ hb_val (P j) d * (- hb_val (P i) e)) (fun i _ => Int.le_refl _) (fun i j _ _ => Int.le_total _ _) (fun i j k hi hj hk h1 h2 => hb_frac_tr (by omega) (by omega) (by omega) h1 h2) 16 with h | ⟨j, hj, ⟨tj, nj⟩, hm⟩
    · exact absurd ⟨hi0, hl⟩ (h i0 (hS.2.2 i0 hi0.1).1)
    · have key : ∀ i, hb_val (P i) (hb_lin (- hb_val (P j) e) (hb_val (P j) d) d e) = (- hb_val (P j) e) * hb_val (P i) d + hb_val (P j) d * hb_val (P i) e := fun i => hb_val_lin _ _ _ _ _
      have vj := hd j tj
      refine ⟨hb_lin (- hb_val (P j) e) (hb_val (P j) d) d e, j, ?_, fun i hi => ?_, ?_, tj, ?_, by omega, fun i hi h0 => ?_⟩
      · simp only [hb_lin, d0, e0]; omega
      · rw [key i]
        have vi := hd i hi
        by_cases ni : hb_val (P i) e < 0
        · have := hm i (hS.2.2 i hi.1).1 ⟨hi, ni⟩
          have e1 : (- hb_val (P j) e) * hb_val (P i) d = hb_val (P i) d * (- hb_val (P j) e) := Int.mul_comm _ _
          have e2 : hb_val (P j) d * (- hb_val (P i) e) = - (hb_val (P j) d * hb_val (P i) e) := Int.mul_neg _ _
          omega
        · have p1 := Int.mul_nonneg (by omega : 0 ≤ - hb_val (P j) e) vi
          have p2 := Int.mul_nonneg vj (by omega : 0 ≤ hb_val (P i) e)
          omega
      · rw [hb_dot_lin, ec]
        have := Int.mul_pos (by omega : 0 < - hb_val (P j) e) hc
        omega
      · rw [key j]; grind
      · rw [key i, h0, ed i hi h0]; omega
  by_cases hneg : ∃ i, hb_T P S k i ∧ hb_val (P i) e < 0
  · exact main e e0 ec ed hneg
  · have hneg' : ∃ i, hb_T P S k i ∧ hb_val (P i) (hb_neg e) < 0 := by
      refine Classical.byContradiction fun hc' => ?_
      obtain ⟨i, j, l, hi, hj, hl, hdet⟩ := hk.2
      have z : ∀ i, hb_T P S k i → hb_dot (P i) e = 0 := fun i hi => by
        have h1 : ¬ hb_val (P i) e < 0 := fun h => hneg ⟨i, hi, h⟩
        have h2 : ¬ hb_val (P i) (hb_neg e) < 0 := fun h => hc' ⟨i, hi, h⟩
        rw [hb_val_neg] at h2
        rw [hb_val_dir _ _ e0] at h1 h2
        omega
      exact hb_det_zero hdet (z i hi) (z j hj) (z l hl) en
    obtain ⟨d', j, a1, a2, a3, a4, a5, a6, a7⟩ := main (hb_neg e) (by simp only [hb_neg, e0]; rfl) (by rw [hb_dot_neg, ec]; rfl) (fun i hi h0 => by rw [hb_val_neg, ed i hi h0]; rfl) hneg'
    refine ⟨d', j, a1, a2, a3, a4, a5, ?_, a7⟩
    rw [hb_val_neg] at a6
    omega
/-- an edge from k on which c rises, if c rises at all -/
theorem hb_ray {P : Nat → hb_Q} {S : Nat → Prop} (hS : hb_Sys P S) {k : hb_Q} (hk : hb_Vx P S k) {c d : hb_Q} (d0 : d.2.2.2 = 0) (hd : ∀ i, hb_T P S k i → 0 ≤ hb_val (P i) d) (hc : 0 < hb_dot c d) : ∃ r, r.2.2.2 = 0 ∧ (∀ i, hb_T P S k i → 0 ≤ hb_val (P i) r) ∧ 0 < hb_dot c r ∧ hb_R2 P (fun i => hb_T P S k i ∧ hb_val (P i) r = 0) := by
  have one : ∃ d1 j, d1.2.2.2 = 0 ∧ (∀ i, hb_T P S k i → 0 ≤ hb_val (P i) d1) ∧ 0 < hb_dot c d1 ∧ hb_T P S k j ∧ hb_val (P j) d1 = 0 := by
    by_cases h : ∃ j, hb_T P S k j ∧ hb_val (P j) d = 0
    · obtain ⟨j, h1, h2⟩ := h
      exact ⟨d, j, d0, hd, hc, h1, h2⟩
    · obtain ⟨e, e0, en, ec⟩ := hb_perp c
      obtain ⟨d', j, a1, a2, a3, a4, a5, -, -⟩ := hb_turn hS hk d0 hd hc e0 en ec (fun i hi h0 => absurd ⟨i, hi, h0⟩ h)
      exact ⟨d', j, a1, a2, a3, a4, a5⟩
  obtain ⟨d1, j, b0, b1, b2, b3, b4⟩ := one
  by_cases hr : hb_R2 P (fun i => hb_T P S k i ∧ hb_val (P i) d1 = 0)
  · exact ⟨d1, b0, b1, b2, hr⟩
  · have nj := hb_in_good hS b3.1
    have hpar : ∀ i, hb_T P S k i → hb_val (P i) d1 = 0 → hb_Par (P j) (P i) := fun i hi h0 => Classical.byContradiction fun hc => hr ⟨j, i, ⟨b3, b4⟩, ⟨hi, h0⟩, hc⟩
    have bj : hb_dot (P j) d1 = 0 := by rw [hb_val_dir _ _ b0] at b4; omega
    have np : ¬ hb_Par (P j) c := fun hp => by
      have := hb_par_dot nj hp bj
      omega
    obtain ⟨d', l, a1, a2, a3, a4, a5, a6, a7⟩ := hb_turn hS hk b0 b1 b2 (hb_crs_w (P j) c) (hb_crs_nz np) (hb_crs_q _ _) (fun i hi h0 => by
      rw [hb_val_dir _ _ rfl, hb_par_dot nj (hpar i hi h0) (hb_crs_p _ _)]; rfl)
    refine ⟨d', a1, a2, a3, j, l, ⟨b3, a7 j b3 b4⟩, ⟨a4, a5⟩, fun hp => a6 ?_⟩
    rw [hb_val_dir _ _ rfl, hb_par_dot nj hp (hb_crs_p _ _)]; rfl
theorem hb_improve {P : Nat → hb_Q} {S : Nat → Prop} (hS : hb_Sys P S) {k l c : hb_Q} (hk : hb_Vx P S k) (hl : hb_In P S l) (h : hb_Lt c k l) : ∃ k', hb_Vx P S k' ∧ hb_Lt c k k' ∧ hb_R2 P (hb_Com P S k k') := by
  have wk := hk.1.1
  obtain ⟨r, r0, r1, r2, i, j, ⟨ti, vi⟩, ⟨tj, vj⟩, hp⟩ := hb_ray hS hk (c := c) (d := hb_diff l k) (hb_diff_w _ _) (fun i hi => by
    rw [hb_diff_val, hi.2]
    have := Int.mul_nonneg (Int.le_of_lt wk) (hl.2 i hi.1)
    omega) (by
    rw [hb_diff_dot]
    unfold hb_Lt at h
    have c1 := Int.mul_comm k.2.2.2 (hb_dot c l)
    have c2 := Int.mul_comm l.2.2.2 (hb_dot c k)
    omega)
  have rn : hb_Nz r := fun ⟨z1, z2, z3⟩ => by
    simp only [hb_dot, z1, z2, z3] at r2
    omega
  obtain ⟨s, t, k', m, s0, t0, e, i1, m1, n1, tt⟩ := hb_stepC hS hk.1 r0 rn r1
  have di : hb_dot (P i) r = 0 := by rw [hb_val_dir _ _ r0] at vi; omega
  have dj : hb_dot (P j) r = 0 := by rw [hb_val_dir _ _ r0] at vj; omega
  refine ⟨k', ⟨i1, i, j, m, tt i ti vi, tt j tj vj, m1, fun hz => ?_⟩, hb_lt_step wk t0 r0 e r2, i, j, ⟨ti, tt i ti vi⟩, ⟨tj, tt j tj vj⟩, hp⟩
  have ln := hb_line (P m) di dj
  rw [hb_det_crs, hb_dot_comm] at hz
  rw [hz] at ln
  have gg := hb_dot_pos (hb_crs_nz hp)
  have := hb_cancel0 (a := hb_dot (hb_crs (P i) (P j)) (hb_crs (P i) (P j))) (by omega) (by rw [ln]; omega)
  rw [hb_val_dir _ _ r0, hb_dot_comm] at n1
  omega
/-- a function that is greatest at one corner alone -/
theorem hb_peak {P : Nat → hb_Q} {S : Nat → Prop} {l : hb_Q} (hl : hb_Vx P S l) : ∃ c, ∀ u, hb_In P S u → ¬ hb_Same u l → hb_Lt c u l := by
  obtain ⟨hin, i, j, k, hi, hj, hk, hd⟩ := hl
  refine ⟨hb_lin 1 1 (hb_lin 1 1 (P i) (P j)) (P k), fun u hu hs => ?_⟩
  have key : ∀ p : hb_Q, hb_val p l = 0 → hb_dot p u * l.2.2.2 = hb_dot p l * u.2.2.2 - l.2.2.2 * hb_val p u := by
    intro p e
    have e1 : hb_dot p l = p.2.2.2 * l.2.2.2 := by unfold hb_val at e; omega
    rw [e1]; unfold hb_val; grind
  have a1 := key _ hi.2
  have a2 := key _ hj.2
  have a3 := key _ hk.2
  have b1 := hu.2 i hi.1
  have b2 := hu.2 j hj.1
  have b3 := hu.2 k hk.1
  have c1 := Int.mul_nonneg (Int.le_of_lt hin.1) b1
  have c2 := Int.mul_nonneg (Int.le_of_lt hin.1) b2
  have c3 := Int.mul_nonneg (Int.le_of_lt hin.1) b3
  have ne : ¬ (hb_val (P i) u = 0 ∧ hb_val (P j) u = 0 ∧ hb_val (P k) u = 0) := fun ⟨z1, z2, z3⟩ => hs (hb_uniq hd z1 z2 z3 hi.2 hj.2 hk.2)
  have pos : 0 < l.2.2.2 * hb_val (P i) u + l.2.2.2 * hb_val (P j) u + l.2.2.2 * hb_val (P k) u := by
    by_cases z1 : hb_val (P i) u = 0
    · by_cases z2 : hb_val (P j) u = 0
      · have z3 : hb_val (P k) u ≠ 0 := fun z3 => ne ⟨z1, z2, z3⟩
        have := Int.mul_pos hin.1 (by omega : 0 < hb_val (P k) u)
        omega
      · have := Int.mul_pos hin.1 (by omega : 0 < hb_val (P j) u)
        omega
    · have := Int.mul_pos hin.1 (by omega : 0 < hb_val (P i) u)
      omega
  have lu : ∀ w : hb_Q, hb_dot (hb_lin 1 1 (hb_lin 1 1 (P i) (P j)) (P k)) w = hb_dot (P i) w + hb_dot (P j) w + hb_dot (P k) w := by
    intro w
    simp only [hb_dot, hb_lin]; grind
  unfold hb_Lt
  rw [lu, lu, Int.add_mul, Int.add_mul, Int.add_mul, Int.add_mul, a1, a2, a3]
  omega
/-- lowest terms -/
def hb_red (v : hb_Q) : hb_Q := (v.1 / (hb_gq v : Int), v.2.1 / (hb_gq v : Int), v.2.2.1 / (hb_gq v : Int), v.2.2.2 / (hb_gq v : Int))
theorem hb_gq_dvd (v : hb_Q) : (hb_gq v : Int) ∣ v.1 ∧ (hb_gq v : Int) ∣ v.2.1 ∧ (hb_gq v : Int) ∣ v.2.2.1 ∧ (hb_gq v : Int) ∣ v.2.2.2 := by
  have d4 : hb_gq v ∣ v.2.2.2.natAbs := Nat.gcd_dvd_right _ _
  have d0 : hb_gq v ∣ Nat.gcd (Nat.gcd v.1.natAbs v.2.1.natAbs) v.2.2.1.natAbs := Nat.gcd_dvd_left _ _
  have d3 := Nat.dvd_trans d0 (Nat.gcd_dvd_right _ _)
  have d00 := Nat.dvd_trans d0 (Nat.gcd_dvd_left _ _)
  have d2 := Nat.dvd_trans d00 (Nat.gcd_dvd_right _ _)
  have d1 := Nat.dvd_trans d00 (Nat.gcd_dvd_left _ _)
  exact ⟨Int.ofNat_dvd_left.mpr d1, Int.ofNat_dvd_left.mpr d2, Int.ofNat_dvd_left.mpr d3, Int.ofNat_dvd_left.mpr d4⟩
theorem hb_gq_pos {v : hb_Q} (h : 0 < v.2.2.2) : 0 < hb_gq v := by
  rcases Nat.eq_zero_or_pos (hb_gq v) with e | e
  · have := (hb_gq_dvd v).2.2.2
    rw [e] at this
    have := Int.zero_dvd.mp this
    omega
  · exact e
theorem hb_red_mul {v : hb_Q} : (hb_red v).1 * (hb_gq v : Int) = v.1 ∧ (hb_red v).2.1 * (hb_gq v : Int) = v.2.1 ∧ (hb_red v).2.2.1 * (hb_gq v : Int) = v.2.2.1 ∧ (hb_red v).2.2.2 * (hb_gq v : Int) = v.2.2.2 := by
  obtain ⟨d1, d2, d3, d4⟩ := hb_gq_dvd v
  exact ⟨Int.ediv_mul_cancel d1, Int.ediv_mul_cancel d2, Int.ediv_mul_cancel d3, Int.ediv_mul_cancel d4⟩
theorem hb_red_Red {v : hb_Q} (h : 0 < v.2.2.2) : hb_Red v (hb_red v) := by
  obtain ⟨m1, m2, m3, m4⟩ := hb_red_mul (v := v)
  have g0 := hb_gq_pos h
  have w0 : 0 < (hb_red v).2.2.2 := by
    rw [← m4] at h
    exact Int.pos_of_mul_pos_left h (by omega)
  refine ⟨⟨w0, ?_⟩, ?_, ?_, ?_⟩
  · have := hb_gq_mul (u := hb_red v) (v := v) (m := (hb_gq v : Int)) (n := 1) (by rw [m1, Int.mul_one]) (by rw [m2, Int.mul_one]) (by rw [m3, Int.mul_one]) (by rw [m4, Int.mul_one])
    have e1 : (1 : Int).natAbs = 1 := rfl
    rw [e1, Nat.mul_one, Int.natAbs_natCast] at this
    exact Nat.eq_of_mul_eq_mul_right g0 (by omega)
  · rw [← m1, ← m4]; grind
  · rw [← m2, ← m4]; grind
  · rw [← m3, ← m4]; grind
theorem hb_vx_list {P : Nat → hb_Q} {S : Nat → Prop} {c : Nat} {m : Nat → hb_Q} (h : hb_MD (hb_K P S) c m) {v : hb_Q} (hv : hb_Vx P S v) : ∃ j, j < c ∧ hb_Same v (m j) := by
  have r := hb_red_Red hv.1.1
  obtain ⟨j, hj, e⟩ := h.2.1 (hb_red v) ⟨hb_same_Vx hv r.1.1 r.2, r.1⟩
  exact ⟨j, hj, by rw [e]; exact r.2⟩
/-! steps in a graph -/
def hb_rch (nb : Nat → Nat → Prop) (c k : Nat) : Nat → Nat → Prop
  | 0 => fun m => m = k
  | r + 1 => fun m => hb_rch nb c k r m ∨ ∃ m', m' < c ∧ hb_rch nb c k r m' ∧ nb m' m
theorem hb_rch_mono {nb : Nat → Nat → Prop} {c k m : Nat} {r s : Nat} (h : r ≤ s) (hr : hb_rch nb c k r m) : hb_rch nb c k s m := by
  induction h with
  | refl => exact hr
  | step _ ih => exact Or.inl ih
def hb_Nb (P : Nat → hb_Q) (S : Nat → Prop) (m : Nat → hb_Q) (i j : Nat) : Prop := i ≠ j ∧ hb_R2 P (hb_Com P S (m i) (m j))
theorem hb_conn {P : Nat → hb_Q} {S : Nat → Prop} (hS : hb_Sys P S) {c : Nat} {m : Nat → hb_Q} (h : hb_MD (hb_K P S) c m) {k l : Nat} (hk : k < c) (hl : l < c) : ∃ r, hb_rch (hb_Nb P S m) c k r l := by
  obtain ⟨f, hf⟩ := hb_peak (h.1 l hl).1
  have wp : ∀ i, i < c → 0 < (m i).2.2.2 := fun i hi => (h.1 i hi).1.1.1
  rcases hb_min (fun i => i < c ∧ ∃ r, hb_rch (hb_Nb P S m) c k r i) (fun i j => hb_Le f (m j) (m i)) (fun i _ => Int.le_refl _) (fun i j _ _ => Int.le_total _ _) (fun i j n hi hj hn h1 h2 => hb_le_tr (wp n hn.1) (wp j hj.1) (wp i hi.1) h2 h1) c with hh | ⟨i, hi, ⟨-, r, hr⟩, hm⟩
  · exact absurd ⟨hk, 0, rfl⟩ (hh k hk)
  · by_cases hs : hb_Same (m i) (m l)
    · have e := h.2.2 i l hi hl (hb_nrm_eq (h.1 i hi).2 (h.1 l hl).2 hs)
      exact ⟨r, e ▸ hr⟩
    · have lt := hf (m i) (h.1 i hi).1.1 hs
      obtain ⟨v, vv, vl, vr⟩ := hb_improve hS (h.1 i hi).1 (h.1 l hl).1.1 lt
      obtain ⟨j, hj, sj⟩ := hb_vx_list h vv
      have wj := wp j hj
      have lj : hb_Lt f (m i) (m j) := hb_lt_le (wp i hi) vv.1.1 wj vl (Int.le_of_eq (hb_same_dot sj f))
      have nij : i ≠ j := fun e => by
        rw [e] at lj
        exact Int.lt_irrefl _ lj
      have nb : hb_Nb P S m i j := ⟨nij, hb_R2_mono (fun a ha => ⟨ha.1, (hb_same_T vv.1.1 wj sj a).mp ha.2⟩) vr⟩
      have := hm j hj ⟨hj, r + 1, Or.inr ⟨i, hi, hr, nb⟩⟩
      unfold hb_Lt at lj
      unfold hb_Le at this
      omega
theorem hb_least {p : Nat → Prop} : ∀ n, p n → ∃ m, m ≤ n ∧ p m ∧ ∀ i, i < m → ¬ p i := by
  intro n
  induction n using Nat.strongRecOn with
  | ind n ih =>
    intro hn
    by_cases h : ∃ i, i < n ∧ p i
    · obtain ⟨i, hi, pi⟩ := h
      obtain ⟨m, hm, pm, hl⟩ := ih i hi pi
      exact ⟨m, by omega, pm, hl⟩
    · exact ⟨n, Nat.le_refl n, hn, fun i hi pi => h ⟨i, hi, pi⟩⟩
/-- exactly r steps away -/
def hb_dst (nb : Nat → Nat → Prop) (c k r m : Nat) : Prop := hb_rch nb c k r m ∧ ∀ s, s < r → ¬ hb_rch nb c k s m
theorem hb_dst_back {nb : Nat → Nat → Prop} {c k : Nat} (hk : k < c) : ∀ d r m, m < c → hb_dst nb c k r m → d ≤ r → ∃ m', m' < c ∧ hb_dst nb c k (r - d) m' := by
  intro d
  induction d with
  | zero => intro r m hm h _; exact ⟨m, hm, h⟩
  | succ d ih =>
    intro r m hm h hd
    obtain ⟨m1, hm1, h1⟩ := ih r m hm h (by omega)
    have e : r - d = (r - (d + 1)) + 1 := by omega
    rw [e] at h1
    rcases h1.1 with h2 | ⟨m2, hm2, h2, n2⟩
    · exact absurd h2 (h1.2 _ (by omega))
    · refine ⟨m2, hm2, h2, fun s hs hr => ?_⟩
      exact h1.2 (s + 1) (by omega) (Or.inr ⟨m2, hm2, hr, n2⟩)
theorem hb_dst_lt {nb : Nat → Nat → Prop} {c k l r : Nat} (hk : k < c) (hl : l < c) (h : hb_dst nb c k r l) : r < c := by
  have hf : ∀ d, ∃ m, d ≤ r → m < c ∧ hb_dst nb c k d m := fun d => by
    by_cases hd : d ≤ r
    · obtain ⟨m, hm, e⟩ := hb_dst_back hk (r - d) r l hl h (by omega)
      have : r - (r - d) = d := by omega
      rw [this] at e
      exact ⟨m, fun _ => ⟨hm, e⟩⟩
    · exact ⟨0, fun h => absurd h hd⟩
  refine hb_pig c (r + 1) (fun d => (hf d).choose) (fun d hd => ((hf d).choose_spec (by omega)).1) (fun i j hi hj e => ?_)
  have a := ((hf i).choose_spec (by omega)).2
  have b := ((hf j).choose_spec (by omega)).2
  have e : (hf i).choose = (hf j).choose := e
  rw [e] at a
  rcases Nat.lt_trichotomy i j with h | h | h
  · exact absurd a.1 (b.2 i h)
  · exact h
  · exact absurd b.1 (a.2 j h)
theorem hb_dist {P : Nat → hb_Q} {S : Nat → Prop} (hS : hb_Sys P S) {c : Nat} {m : Nat → hb_Q} (h : hb_MD (hb_K P S) c m) {k l : Nat} (hk : k < c) (hl : l < c) : ∃ r, r < c ∧ hb_dst (hb_Nb P S m) c k r l := by
  obtain ⟨r, hr⟩ := hb_conn hS h hk hl
  obtain ⟨r', -, h1, h2⟩ := hb_least (p := fun r => hb_rch (hb_Nb P S m) c k r l) r hr
  exact ⟨r', hb_dst_lt hk hl ⟨h1, h2⟩, h1, h2⟩
end
section
/-! the outline of points in order: X / W rises; V / W is the other coordinate -/
def hu_D (X V W : Nat → Int) (i j k : Nat) : Int := X i * (V j * W k - V k * W j) - V i * (X j * W k - X k * W j) + W i * (X j * V k - X k * V j)
def hu_l (X W : Nat → Int) (t x : Nat) : Int := X x * W t - X t * W x
def hu_Ord (X W : Nat → Int) (N : Nat) : Prop := (∀ i, i < N → 0 < W i) ∧ ∀ i j, i < j → j < N → 0 < hu_l X W i j
section
variable {X V W : Nat → Int}
theorem hu_rot (i j k : Nat) : hu_D X V W j k i = hu_D X V W i j k := by
  simp only [hu_D]; grind
theorem hu_swp (i j k : Nat) : hu_D X V W j i k = - hu_D X V W i j k := by
  simp only [hu_D]; grind
theorem hu_swp2 (i j k : Nat) : hu_D X V W i k j = - hu_D X V W i j k := by
  simp only [hu_D]; grind
theorem hu_0 (i k : Nat) : hu_D X V W i i k = 0 := by
  simp only [hu_D]; grind
theorem hu_0b (i k : Nat) : hu_D X V W i k k = 0 := by
  simp only [hu_D]; grind
theorem hu_0c (i k : Nat) : hu_D X V W i k i = 0 := by
  simp only [hu_D]; grind
theorem hu_ln (t x : Nat) : hu_l X W x t = - hu_l X W t x := by
  simp only [hu_l]; omega
theorem hu_id (a t n i : Nat) : hu_D X V W a t n * hu_l X W t i = hu_D X V W i t n * hu_l X W t a + hu_D X V W i a t * hu_l X W t n := by
  simp only [hu_D, hu_l]; grind
theorem hu_lneg {N : Nat} (h : hu_Ord X W N) {i t : Nat} (hi : i < t) (ht : t < N) : hu_l X W t i < 0 := by
  have := h.2 i t hi ht
  rw [hu_ln] at this
  omega
/-- from signs of products -/
theorem hu_pos_neg {x y : Int} (h : x * y < 0) (hy : y < 0) : 0 < x := by
  rcases Int.lt_trichotomy x 0 with hx | hx | hx
  · have := Int.mul_pos_of_neg_of_neg hx hy; omega
  · rw [hx] at h; omega
  · exact hx
theorem hu_pos_pos {x y : Int} (h : 0 < x * y) (hy : 0 < y) : 0 < x := by
  rcases Int.lt_trichotomy x 0 with hx | hx | hx
  · have := Int.mul_neg_of_neg_of_pos hx hy; omega
  · rw [hx] at h; omega
  · exact hx
theorem hu_nn_pos {x y : Int} (h : 0 ≤ x * y) (hy : 0 < y) : 0 ≤ x := by
  by_cases hx : x < 0
  · have := Int.mul_neg_of_neg_of_pos hx hy; omega
  · omega
theorem hu_nn_neg {x y : Int} (h : x * y ≤ 0) (hy : y < 0) : 0 ≤ x := by
  by_cases hx : x < 0
  · have := Int.mul_pos_of_neg_of_neg hx hy; omega
  · omega
theorem hu_np {x y : Int} (hx : 0 ≤ x) (hy : y < 0) : x * y ≤ 0 := by
  have := Int.mul_nonneg hx (by omega : 0 ≤ -y)
  rw [Int.mul_neg] at this
  omega
theorem hu_pp {x y : Int} (hx : 0 ≤ x) (hy : 0 < y) : 0 ≤ x * y := Int.mul_nonneg hx (Int.le_of_lt hy)
theorem hu_A {N : Nat} (h : hu_Ord X W N) {a t n i : Nat} (ha : a < t) (hi : i < t) (hn : t < n) (hN : n < N) (h1 : 0 < hu_D X V W a t n) (h2 : 0 ≤ hu_D X V W a t i) : 0 < hu_D X V W i t n := by
  have e := hu_id (X := X) (V := V) (W := W) a t n i
  have la := hu_lneg h ha (by omega)
  have li := hu_lneg h hi (by omega)
  have ln := h.2 t n hn hN
  have e1 : hu_D X V W i a t = hu_D X V W a t i := (hu_rot i a t).symm
  rw [e1] at e
  have q1 := Int.mul_neg_of_pos_of_neg h1 li
  have q2 := hu_pp h2 ln
  exact hu_pos_neg (y := hu_l X W t a) (by omega) la
theorem hu_A' {N : Nat} (h : hu_Ord X W N) {b t i j : Nat} (hb : t < b) (hj : t < j) (hi : i < t) (hbN : b < N) (hjN : j < N) (h1 : 0 < hu_D X V W i t b) (h2 : 0 ≤ hu_D X V W t b j) : 0 < hu_D X V W i t j := by
  have e := hu_id (X := X) (V := V) (W := W) b t i j
  have lb := h.2 t b hb hbN
  have lj := h.2 t j hj hjN
  have li := hu_lneg h hi (by omega)
  have e1 : hu_D X V W b t i = - hu_D X V W i t b := by simp only [hu_D]; grind
  have e2 : hu_D X V W j t i = - hu_D X V W i t j := by simp only [hu_D]; grind
  have e3 : hu_D X V W j b t = - hu_D X V W t b j := by simp only [hu_D]; grind
  rw [e1, e2, e3, Int.neg_mul, Int.neg_mul, Int.neg_mul] at e
  have q1 := Int.mul_pos h1 lj
  have q2 := hu_np h2 li
  exact hu_pos_pos (y := hu_l X W t b) (by omega) lb
theorem hu_B1 {N : Nat} (h : hu_Ord X W N) {a t n i : Nat} (ht : a < t) (hn : a < n) (hi : a < i) (htN : t < N) (hnN : n < N) (hiN : i < N) (h1 : 0 ≤ hu_D X V W a t i) (h2 : hu_D X V W a t n ≤ 0) : 0 ≤ hu_D X V W a n i := by
  have e := hu_id (X := X) (V := V) (W := W) t a n i
  have lt := h.2 a t ht htN
  have ln := h.2 a n hn hnN
  have li := h.2 a i hi hiN
  have e1 : hu_D X V W t a n = - hu_D X V W a t n := hu_swp a t n
  have e2 : hu_D X V W i a n = hu_D X V W a n i := (hu_rot i a n).symm
  have e3 : hu_D X V W i t a = - hu_D X V W a t i := by simp only [hu_D]; grind
  rw [e1, e2, e3, Int.neg_mul, Int.neg_mul] at e
  have q1 := hu_pp h1 ln
  have q2 := hu_pp (by omega : 0 ≤ - hu_D X V W a t n) li
  rw [Int.neg_mul] at q2
  exact hu_nn_pos (y := hu_l X W a t) (by omega) lt
theorem hu_B2 {N : Nat} (h : hu_Ord X W N) {a t n i : Nat} (ht : a < t) (htn : t < n) (hin : i < n) (hnN : n < N) (h1 : 0 ≤ hu_D X V W t n i) (h2 : hu_D X V W a t n ≤ 0) : 0 ≤ hu_D X V W a n i := by
  have e := hu_id (X := X) (V := V) (W := W) a n t i
  have lt := hu_lneg h htn hnN
  have la := hu_lneg h (by omega : a < n) hnN
  have li := hu_lneg h hin hnN
  have e1 : hu_D X V W a n t = - hu_D X V W a t n := hu_swp2 a t n
  have e2 : hu_D X V W i n t = - hu_D X V W t n i := by simp only [hu_D]; grind
  have e3 : hu_D X V W i a n = hu_D X V W a n i := (hu_rot i a n).symm
  rw [e1, e2, e3, Int.neg_mul, Int.neg_mul] at e
  have q1 := hu_np (by omega : 0 ≤ - hu_D X V W a t n) li
  have q2 := hu_np h1 la
  rw [Int.neg_mul] at q1
  exact hu_nn_neg (y := hu_l X W n t) (by omega) lt
/-- the stack st of height h over the first n points -/
def hu_Stk (X V W : Nat → Int) (n h : Nat) (st : Nat → Nat) : Prop := 0 < n ∧ 0 < h ∧ st 0 = 0 ∧ st (h - 1) = n - 1 ∧ (∀ r, r + 1 < h → st r < st (r + 1)) ∧ (∀ r, r < h → st r < n) ∧ (∀ r, r + 1 < h → ∀ i, i < n → 0 ≤ hu_D X V W (st r) (st (r + 1)) i) ∧ (∀ r, r + 2 < h → 0 < hu_D X V W (st r) (st (r + 1)) (st (r + 2)))
def hu_Pop (X V W : Nat → Int) (n h g : Nat) (st : Nat → Nat) : Prop := 0 < g ∧ g ≤ h ∧ ∀ i, st (g - 1) ≤ i → i < n → 0 ≤ hu_D X V W (st (g - 1)) n i
theorem hu_start {st : Nat → Nat} (h : st 0 = 0) : hu_Stk X V W 1 1 st := by
  refine ⟨by omega, by omega, h, h, fun r hr => by omega, fun r hr => ?_, fun r hr => by omega, fun r hr => by omega⟩
  have e : r = 0 := by omega
  rw [e, h]; omega
theorem hu_pop0 {n h : Nat} {st : Nat → Nat} (s : hu_Stk X V W n h st) : hu_Pop X V W n h h st := by
  obtain ⟨hn, hh, s0, s1, -⟩ := s
  refine ⟨hh, Nat.le_refl _, fun i h1 h2 => ?_⟩
  have : i = st (h - 1) := by omega
  rw [this, hu_0c]; omega
theorem hu_pop {N n h g : Nat} {st : Nat → Nat} (o : hu_Ord X W N) (hnN : n < N) (s : hu_Stk X V W n h st) (p : hu_Pop X V W n h g st) (hg : 2 ≤ g) (hd : hu_D X V W (st (g - 2)) (st (g - 1)) n ≤ 0) : hu_Pop X V W n h (g - 1) st := by
  obtain ⟨hn, hh, s0, s1, s2, s3, s4, s5⟩ := s
  obtain ⟨p1, p2, p3⟩ := p
  have e1 : g - 2 + 1 = g - 1 := by omega
  have e2 : g - 1 - 1 = g - 2 := by omega
  have m := s2 (g - 2) (by omega)
  have c := s4 (g - 2) (by omega)
  have b1 := s3 (g - 2) (by omega)
  have b2 := s3 (g - 1) (by omega)
  rw [e1] at m c
  refine ⟨by omega, by omega, fun i h1 h2 => ?_⟩
  rw [e2] at h1 ⊢
  rcases Nat.lt_or_ge i (st (g - 1)) with hi | hi
  · rcases Nat.eq_or_lt_of_le h1 with he | he
    · rw [← he, hu_0c]; omega
    · exact hu_B1 o m (by omega) he (by omega) hnN (by omega) (c i h2) hd
  · exact hu_B2 o m (by omega) h2 hnN (p3 i hi h2) hd
theorem hu_push {N n h g : Nat} {st st' : Nat → Nat} (o : hu_Ord X W N) (hnN : n < N) (s : hu_Stk X V W n h st) (p : hu_Pop X V W n h g st) (hd : g = 1 ∨ 0 < hu_D X V W (st (g - 2)) (st (g - 1)) n) (he : ∀ r, r < g → st' r = st r) (hg : st' g = n) : hu_Stk X V W (n + 1) (g + 1) st' := by
  obtain ⟨hn, hh, s0, s1, s2, s3, s4, s5⟩ := s
  obtain ⟨p1, p2, p3⟩ := p
  have b2 := s3 (g - 1) (by omega)
  -- old edges see n on the left
  have old : ∀ d r, r + 1 + d + 1 = g → 0 < hu_D X V W (st r) (st (r + 1)) n := by
    intro d
    induction d with
    | zero =>
      intro r hr
      rcases hd with hd | hd
      · omega
      · have e1 : g - 2 = r := by omega
        have e2 : g - 1 = r + 1 := by omega
        rw [e1, e2] at hd
        exact hd
    | succ d ih =>
      intro r hr
      have h1 := ih (r + 1) (by omega)
      have m1 := s2 r (by omega)
      have m2 := s2 (r + 1) (by omega)
      have b3 : st (r + 1 + 1) < n := s3 (r + 2) (by omega)
      have b4 := s3 (r + 1) (by omega)
      exact hu_A' o m2 (by omega) m1 (by have := b3; omega) hnN (s5 r (by omega)) (Int.le_of_lt h1)
  have top : ∀ i, i < n → 0 ≤ hu_D X V W (st (g - 1)) n i := by
    intro i hi
    rcases Nat.lt_or_ge i (st (g - 1)) with h1 | h1
    · rcases hd with hd | hd
      · rw [hd] at h1
        have : st (1 - 1) = 0 := s0
        omega
      · have hg2 : 2 ≤ g := by
          rcases Nat.lt_or_ge g 2 with h2 | h2
          · have : g = 1 := by omega
            rw [this] at h1
            have : st (1 - 1) = 0 := s0
            omega
          · exact h2
        have e1 : g - 2 + 1 = g - 1 := by omega
        have m := s2 (g - 2) (by omega)
        have c := s4 (g - 2) (by omega) i hi
        rw [e1] at m c
        have := hu_A o m h1 b2 hnN hd c
        rw [hu_rot] 
        exact Int.le_of_lt this
    · exact p3 i h1 hi
  have g0 : st' 0 = st 0 := he 0 p1
  have eg : g + 1 - 1 = g := by omega
  refine ⟨by omega, by omega, by rw [g0, s0], by rw [eg, hg]; omega, fun r hr => ?_, fun r hr => ?_, fun r hr i hi => ?_, fun r hr => ?_⟩
  · by_cases h1 : r + 1 < g
    · rw [he r (by omega), he (r + 1) h1]; exact s2 r (by omega)
    · have e : r + 1 = g := by omega
      rw [e, hg, he r (by omega)]; exact s3 r (by omega)
  · by_cases h1 : r < g
    · rw [he r h1]; have := s3 r (by omega); omega
    · have e : r = g := by omega
      rw [e, hg]; omega
  · by_cases h1 : r + 1 < g
    · rw [he r (by omega), he (r + 1) h1]
      by_cases h2 : i < n
      · exact s4 r (by omega) i h2
      · have e : i = n := by omega
        rw [e]
        exact Int.le_of_lt (old (g - (r + 2)) r (by omega))
    · have e : r + 1 = g := by omega
      have e' : r = g - 1 := by omega
      rw [e, hg, he r (by omega), e']
      by_cases h2 : i < n
      · exact top i h2
      · have e2 : i = n := by omega
        rw [e2, hu_0b]; omega
  · by_cases h1 : r + 2 < g
    · rw [he r (by omega), he (r + 1) (by omega), he (r + 2) h1]; exact s5 r (by omega)
    · have e : r + 2 = g := by omega
      rw [e, hg, he r (by omega), he (r + 1) (by omega)]
      exact old 0 r (by omega)
/-- t is a corner of the lower outline of the first N -/
def hu_H (X V W : Nat → Int) (N t : Nat) : Prop := ∀ i j, i < t → t < j → j < N → 0 < hu_D X V W i t j
theorem hu_mono {h : Nat} {st : Nat → Nat} (s : ∀ r, r + 1 < h → st r < st (r + 1)) : ∀ d r, r + d + 1 < h → st r < st (r + d + 1) := by
  intro d
  induction d with
  | zero => intro r hr; exact s r hr
  | succ d ih =>
    intro r hr
    have h1 := ih r (by omega)
    have h2 := s (r + d + 1) (by omega)
    have e : r + (d + 1) + 1 = r + d + 1 + 1 := by omega
    rw [e]; omega
theorem hu_mono' {h : Nat} {st : Nat → Nat} (s : ∀ r, r + 1 < h → st r < st (r + 1)) {r q : Nat} (hr : r < q) (hq : q < h) : st r < st q := by
  have := hu_mono s (q - r - 1) r (by omega)
  have e : r + (q - r - 1) + 1 = q := by omega
  rw [e] at this
  exact this
/-- where t stands between the entries of a stack -/
theorem hu_slot {st : Nat → Nat} {t : Nat} (h0 : st 0 ≤ t) : ∀ h, 0 < h → t ≤ st (h - 1) → (∃ r, r < h ∧ st r = t) ∨ ∃ r, r + 1 < h ∧ st r < t ∧ t < st (r + 1) := by
  intro h
  induction h with
  | zero => intro h1; omega
  | succ h ih =>
    intro _ h2
    rcases Nat.eq_zero_or_pos h with hz | hz
    · refine Or.inl ⟨0, by omega, ?_⟩
      rw [hz] at h2
      have : st (0 + 1 - 1) = st 0 := rfl
      omega
    · by_cases h3 : t ≤ st (h - 1)
      · rcases ih hz h3 with ⟨r, hr, e⟩ | ⟨r, hr, e⟩
        · exact Or.inl ⟨r, by omega, e⟩
        · exact Or.inr ⟨r, by omega, e⟩
      · have e : h + 1 - 1 = h := by omega
        rw [e] at h2
        rcases Nat.eq_or_lt_of_le h2 with h4 | h4
        · exact Or.inl ⟨h, by omega, h4.symm⟩
        · refine Or.inr ⟨h - 1, by omega, by omega, ?_⟩
          have e2 : h - 1 + 1 = h := by omega
          rw [e2]; exact h4
theorem hu_final {N h : Nat} {st : Nat → Nat} (o : hu_Ord X W N) (s : hu_Stk X V W N h st) {t : Nat} (ht : t < N) : (∃ r, r < h ∧ st r = t) ↔ hu_H X V W N t := by
  obtain ⟨hn, hh, s0, s1, s2, s3, s4, s5⟩ := s
  constructor
  · intro ⟨r, hr, e⟩ i j hi hj hjN
    have r0 : 0 < r := by
      rcases Nat.eq_zero_or_pos r with h | h
      · rw [h, s0] at e; omega
      · exact h
    have r1 : r + 1 < h := by
      rcases Nat.lt_or_ge (r + 1) h with h1 | h1
      · exact h1
      · have : r = h - 1 := by omega
        rw [this, s1] at e; omega
    have e1 : r - 1 + 1 = r := by omega
    have e2 : r - 1 + 2 = r + 1 := by omega
    have c1 := s4 (r - 1) (by omega) i (by omega)
    have c2 := s4 r r1 j hjN
    have c3 := s5 (r - 1) (by omega)
    have m1 := s2 (r - 1) (by omega)
    have m2 := s2 r r1
    have b := s3 (r + 1) r1
    rw [e1] at c1 c3 m1
    rw [e2] at c3
    rw [e] at c1 c2 c3 m1 m2
    have q := hu_A o m1 hi m2 b c3 c1
    exact hu_A' o m2 hj hi b hjN q c2
  · intro hH
    rcases hu_slot (st := st) (t := t) (by omega) h hh (by omega) with h1 | ⟨r, hr, l1, l2⟩
    · exact h1
    · have c := s4 r hr t ht
      have b := s3 (r + 1) hr
      have := hH (st r) (st (r + 1)) l1 l2 b
      rw [hu_swp2] at this
      omega
end
end
section
/-! counts, the outline's corners are the outer points, sums over whole points -/
noncomputable def hu_cnt (p : Nat → Prop) : Nat → Nat
  | 0 => 0
  | n + 1 => hu_cnt p n + @ite Nat (p n) (Classical.propDecidable _) 1 0
theorem hu_cnt_t {p : Nat → Prop} {n : Nat} (h : p n) : hu_cnt p (n + 1) = hu_cnt p n + 1 := by
  rw [hu_cnt, if_pos h]
theorem hu_cnt_f {p : Nat → Prop} {n : Nat} (h : ¬ p n) : hu_cnt p (n + 1) = hu_cnt p n := by
  rw [hu_cnt, if_neg h]; omega
theorem hu_cnt_congr {p q : Nat → Prop} : ∀ n, (∀ t, t < n → (p t ↔ q t)) → hu_cnt p n = hu_cnt q n := by
  intro n
  induction n with
  | zero => intro _; rfl
  | succ n ih =>
    intro h
    have e := ih (fun t ht => h t (by omega))
    by_cases hp : p n
    · rw [hu_cnt_t hp, hu_cnt_t ((h n (by omega)).mp hp), e]
    · rw [hu_cnt_f hp, hu_cnt_f (fun hq => hp ((h n (by omega)).mpr hq)), e]
theorem hu_cnt_le (p : Nat → Prop) : ∀ n, hu_cnt p n ≤ n := by
  intro n
  induction n with
  | zero => exact Nat.le_refl _
  | succ n ih =>
    by_cases hp : p n
    · rw [hu_cnt_t hp]; omega
    · rw [hu_cnt_f hp]; omega
theorem hu_cnt_0 {p : Nat → Prop} : ∀ n, (∀ t, t < n → ¬ p t) → hu_cnt p n = 0 := by
  intro n
  induction n with
  | zero => intro _; rfl
  | succ n ih =>
    intro h
    rw [hu_cnt_f (h n (by omega))]
    exact ih (fun t ht => h t (by omega))
theorem hu_cnt_list {p : Nat → Prop} {st : Nat → Nat} : ∀ N h, (∀ r, r < h → st r < N ∧ p (st r)) → (∀ r, r + 1 < h → st r < st (r + 1)) → (∀ t, t < N → p t → ∃ r, r < h ∧ st r = t) → hu_cnt p N = h := by
  intro N
  induction N with
  | zero =>
    intro h h1 _ _
    rcases Nat.eq_zero_or_pos h with e | e
    · rw [e]; rfl
    · have := (h1 0 e).1; omega
  | succ N ih =>
    intro h h1 h2 h3
    by_cases hp : p N
    · obtain ⟨r, hr, e⟩ := h3 N (by omega) hp
      have rl : r = h - 1 := by
        rcases Nat.lt_or_ge (r + 1) h with hl | hl
        · have a := h2 r hl
          have b := (h1 (r + 1) hl).1
          omega
        · omega
      have := ih (h - 1) (fun q hq => by
        have a := hu_mono' h2 (r := q) (q := h - 1) hq (by omega)
        rw [← rl, e] at a
        exact ⟨a, (h1 q (by omega)).2⟩) (fun q hq => h2 q (by omega)) (fun t ht pt => by
        obtain ⟨q, hq, eq⟩ := h3 t (by omega) pt
        refine ⟨q, ?_, eq⟩
        rcases Nat.lt_or_ge q (h - 1) with hl | hl
        · exact hl
        · have : q = r := by omega
          rw [this, e] at eq
          omega)
      rw [hu_cnt_t hp, this]; omega
    · rw [hu_cnt_f hp]
      refine ih h (fun q hq => ?_) h2 (fun t ht pt => h3 t (by omega) pt)
      obtain ⟨a, b⟩ := h1 q hq
      refine ⟨?_, b⟩
      rcases Nat.lt_or_ge (st q) N with hl | hl
      · exact hl
      · have : st q = N := by omega
        rw [this] at b
        exact absurd b hp
theorem hu_cnt_incl (p q : Nat → Prop) : ∀ n, hu_cnt p n + hu_cnt q n = hu_cnt (fun t => p t ∨ q t) n + hu_cnt (fun t => p t ∧ q t) n := by
  intro n
  induction n with
  | zero => rfl
  | succ n ih =>
    by_cases hp : p n
    · by_cases hq : q n
      · rw [hu_cnt_t hp, hu_cnt_t hq, hu_cnt_t (p := fun t => p t ∨ q t) (Or.inl hp), hu_cnt_t (p := fun t => p t ∧ q t) ⟨hp, hq⟩]; omega
      · rw [hu_cnt_t hp, hu_cnt_f hq, hu_cnt_t (p := fun t => p t ∨ q t) (Or.inl hp), hu_cnt_f (p := fun t => p t ∧ q t) (fun h => hq h.2)]; omega
    · by_cases hq : q n
      · rw [hu_cnt_f hp, hu_cnt_t hq, hu_cnt_t (p := fun t => p t ∨ q t) (Or.inr hq), hu_cnt_f (p := fun t => p t ∧ q t) (fun h => hp h.1)]; omega
      · rw [hu_cnt_f hp, hu_cnt_f hq, hu_cnt_f (p := fun t => p t ∨ q t) (fun h => h.elim hp hq), hu_cnt_f (p := fun t => p t ∧ q t) (fun h => hp h.1)]; omega
theorem hu_cnt_two {N : Nat} (h : 2 ≤ N) : hu_cnt (fun t => t = 0 ∨ t = N - 1) N = 2 := by
  refine hu_cnt_list (st := fun r => if r = 0 then 0 else N - 1) N 2 (fun r hr => ?_) (fun r hr => ?_) (fun t ht pt => ?_)
  · by_cases e : r = 0
    · simp only [if_pos e]; exact ⟨by omega, Or.inl trivial⟩
    · simp only [if_neg e]; exact ⟨by omega, Or.inr trivial⟩
  · have e : r = 0 := by omega
    simp only [e]
    show 0 < N - 1
    omega
  · rcases pt with e | e
    · exact ⟨0, by omega, e.symm⟩
    · exact ⟨1, by omega, e.symm⟩
theorem hu_cnt_rm {p : Nat → Prop} {k0 : Nat} (hp : p k0) : ∀ c, k0 < c → hu_cnt p c = hu_cnt (fun k => p k ∧ k ≠ k0) c + 1 := by
  intro c
  induction c with
  | zero => intro h; omega
  | succ c ih =>
    intro h
    by_cases e : k0 = c
    · have := hu_cnt_congr (p := p) (q := fun k => p k ∧ k ≠ k0) c (fun t ht => ⟨fun h => ⟨h, by omega⟩, fun h => h.1⟩)
      rw [e] at hp this
      rw [hu_cnt_t hp, e, hu_cnt_f (p := fun k => p k ∧ k ≠ c) (fun h => h.2 rfl), ← this]
    · have := ih (by omega)
      by_cases hc : p c
      · rw [hu_cnt_t hc, hu_cnt_t (p := fun k => p k ∧ k ≠ k0) ⟨hc, fun h => e h.symm⟩, this]
      · rw [hu_cnt_f hc, hu_cnt_f (p := fun k => p k ∧ k ≠ k0) (fun h => hc h.1), this]
theorem hu_cnt_bij {s : Nat → Nat} {c : Nat} : ∀ (N : Nat) (p : Nat → Prop), (∀ j, j < N → s j < c) → (∀ i j, i < N → j < N → s i = s j → i = j) → (∀ k, k < c → p k → ∃ j, j < N ∧ s j = k) → hu_cnt (fun j => p (s j)) N = hu_cnt p c := by
  intro N
  induction N with
  | zero =>
    intro p _ _ h3
    exact (hu_cnt_0 c (fun t ht pt => by obtain ⟨j, hj, _⟩ := h3 t ht pt; omega)).symm
  | succ N ih =>
    intro p h1 h2 h3
    by_cases hp : p (s N)
    · have i1 := ih (fun k => p k ∧ k ≠ s N) (fun j hj => h1 j (by omega)) (fun i j hi hj => h2 i j (by omega) (by omega)) (fun k hk hpk => by
        obtain ⟨j, hj, e⟩ := h3 k hk hpk.1
        refine ⟨j, ?_, e⟩
        rcases Nat.lt_or_ge j N with hl | hl
        · exact hl
        · have : j = N := by omega
          rw [this] at e
          exact absurd e.symm hpk.2)
      have i2 := hu_cnt_congr (p := fun j => p (s j)) (q := fun j => p (s j) ∧ s j ≠ s N) N (fun t ht => ⟨fun h => ⟨h, fun e => by have := h2 t N (by omega) (by omega) e; omega⟩, fun h => h.1⟩)
      rw [hu_cnt_t (p := fun j => p (s j)) hp, hu_cnt_rm hp c (h1 N (by omega)), i2, i1]
    · have i1 := ih p (fun j hj => h1 j (by omega)) (fun i j hi hj => h2 i j (by omega) (by omega)) (fun k hk hpk => by
        obtain ⟨j, hj, e⟩ := h3 k hk hpk
        refine ⟨j, ?_, e⟩
        rcases Nat.lt_or_ge j N with hl | hl
        · exact hl
        · have : j = N := by omega
          rw [this] at e
          rw [← e] at hpk
          exact absurd hpk hp)
      rw [hu_cnt_f (p := fun j => p (s j)) hp, i1]
section
variable {X V W : Nat → Int}
def hu_Out (X V W : Nat → Int) (N t : Nat) : Prop := ∃ q, q < N ∧ q ≠ t ∧ ∀ j, j < N → j ≠ t → (0 < hu_D X V W t q j ∨ (hu_D X V W t q j = 0 ∧ 0 < hu_l X W t q * hu_l X W t j))
/-- three ways from t, all forward or all backward -/
theorem hu_tr (t i j k : Nat) : hu_D X V W t i k * hu_l X W t j = hu_D X V W t i j * hu_l X W t k + hu_D X V W t j k * hu_l X W t i := by
  simp only [hu_D, hu_l]; grind
theorem hu_negD (X V W : Nat → Int) (i j k : Nat) : hu_D X (fun x => - V x) W i j k = - hu_D X V W i j k := by
  simp only [hu_D]; grind
theorem hu_fwd {N t : Nat} (o : hu_Ord X W N) (ht : t + 1 < N) : ∃ q, q < N ∧ t < q ∧ ∀ j, j < N → t < j → 0 ≤ hu_D X V W t q j := by
  rcases hb_min (fun i => t < i ∧ i < N) (fun i j => 0 ≤ hu_D X V W t i j) (fun i _ => by rw [hu_0b]; omega) (fun i j _ _ => by rw [hu_swp2 t i j]; omega) (fun i j k hi hj hk h1 h2 => by
    have e := hu_tr (X := X) (V := V) (W := W) t i j k
    have q1 := hu_pp h1 (o.2 t k hk.1 hk.2)
    have q2 := hu_pp h2 (o.2 t i hi.1 hi.2)
    exact hu_nn_pos (y := hu_l X W t j) (by omega) (o.2 t j hj.1 hj.2)) N with h | ⟨q, hq, ⟨a, b⟩, hm⟩
  · exact absurd ⟨by omega, ht⟩ (h (t + 1) ht)
  · exact ⟨q, hq, a, fun j hj hjt => hm j hj ⟨hjt, hj⟩⟩
theorem hu_bwd {N t : Nat} (o : hu_Ord X W N) (ht : t < N) (h0 : 0 < t) : ∃ q, q < t ∧ ∀ j, j < t → 0 ≤ hu_D X V W t q j := by
  rcases hb_min (fun i => i < t) (fun i j => 0 ≤ hu_D X V W t i j) (fun i _ => by rw [hu_0b]; omega) (fun i j _ _ => by rw [hu_swp2 t i j]; omega) (fun i j k hi hj hk h1 h2 => by
    have e := hu_tr (X := X) (V := V) (W := W) t i j k
    have q1 := hu_np h1 (hu_lneg o hk ht)
    have q2 := hu_np h2 (hu_lneg o hi ht)
    exact hu_nn_neg (y := hu_l X W t j) (by omega) (hu_lneg o hj ht)) N with h | ⟨q, hq, a, hm⟩
  · exact absurd h0 (h 0 (by omega))
  · exact ⟨q, a, fun j hj => hm j (by omega) hj⟩
theorem hu_out_iff {N t : Nat} (o : hu_Ord X W N) (h2 : 2 ≤ N) (ht : t < N) : hu_Out X V W N t ↔ hu_H X V W N t ∨ hu_H X (fun x => - V x) W N t := by
  constructor
  · intro ⟨q, hq, hqt, hb⟩
    rcases Nat.lt_or_gt_of_ne hqt with h | h
    · refine Or.inr fun i j hi hj hjN => ?_
      have lq := hu_lneg o h ht
      have li := hu_lneg o hi ht
      have lj := o.2 t j hj hjN
      have bj := hb j hjN (by omega)
      have bi := hb i (by omega) (by omega)
      have pj : 0 < hu_D X V W t q j := by
        rcases bj with bj | ⟨_, bj⟩
        · exact bj
        · have := Int.mul_neg_of_neg_of_pos lq lj
          omega
      have pi : 0 ≤ hu_D X V W t q i := by omega
      have e := hu_tr (X := X) (V := V) (W := W) t i q j
      have e1 : hu_D X V W t i q = - hu_D X V W t q i := hu_swp2 t q i
      have e2 : hu_D X V W t i j = - hu_D X V W i t j := hu_swp i t j
      rw [e1, e2, Int.neg_mul, Int.neg_mul] at e
      have q1 := hu_pp pi lj
      have q2 := Int.mul_neg_of_pos_of_neg pj li
      rw [hu_negD]
      exact hu_pos_neg (y := hu_l X W t q) (by rw [Int.neg_mul]; omega) lq
    · refine Or.inl fun i j hi hj hjN => ?_
      have lq := o.2 t q h hq
      have li := hu_lneg o hi ht
      have lj := o.2 t j hj hjN
      have bj := hb j hjN (by omega)
      have bi := hb i (by omega) (by omega)
      have pi : 0 < hu_D X V W t q i := by
        rcases bi with bi | ⟨_, bi⟩
        · exact bi
        · have := Int.mul_neg_of_pos_of_neg lq li
          omega
      have pj : 0 ≤ hu_D X V W t q j := by omega
      have e := hu_tr (X := X) (V := V) (W := W) t i q j
      have e1 : hu_D X V W t i q = - hu_D X V W t q i := hu_swp2 t q i
      have e2 : hu_D X V W t i j = - hu_D X V W i t j := hu_swp i t j
      rw [e1, e2, Int.neg_mul, Int.neg_mul] at e
      have q1 := Int.mul_pos pi lj
      have q2 := hu_np pj li
      exact hu_pos_pos (y := hu_l X W t q) (by omega) lq
  · have main : ∀ h : (hu_H X V W N t ∧ t + 1 < N) ∨ (hu_H X (fun x => - V x) W N t ∧ 0 < t), hu_Out X V W N t := by
      intro h
      rcases h with ⟨h, hl⟩ | ⟨h, hl⟩
      · obtain ⟨q, hq, htq, hm⟩ := hu_fwd (V := V) o hl
        refine ⟨q, hq, by omega, fun j hj hjt => ?_⟩
        rcases Nat.lt_or_gt_of_ne hjt with h1 | h1
        · have := h j q h1 htq hq
          rw [← hu_rot] at this
          exact Or.inl this
        · have p := hm j hj h1
          rcases Int.lt_or_eq_of_le p with h3 | h3
          · exact Or.inl h3
          · exact Or.inr ⟨h3.symm, Int.mul_pos (o.2 t q htq hq) (o.2 t j h1 hj)⟩
      · obtain ⟨q, hq, hm⟩ := hu_bwd (V := V) o ht hl
        refine ⟨q, by omega, by omega, fun j hj hjt => ?_⟩
        rcases Nat.lt_or_gt_of_ne hjt with h1 | h1
        · have p := hm j h1
          rcases Int.lt_or_eq_of_le p with h3 | h3
          · exact Or.inl h3
          · exact Or.inr ⟨h3.symm, Int.mul_pos_of_neg_of_neg (hu_lneg o hq ht) (hu_lneg o h1 ht)⟩
        · have := h q j hq h1 hj
          rw [hu_negD, ← hu_swp] at this
          exact Or.inl this
    intro h
    by_cases ht0 : 0 < t
    · by_cases htN : t + 1 < N
      · rcases h with h | h
        · exact main (Or.inl ⟨h, htN⟩)
        · exact main (Or.inr ⟨h, ht0⟩)
      · exact main (Or.inr ⟨fun i j hi hj hjN => by omega, ht0⟩)
    · exact main (Or.inl ⟨fun i j hi hj hjN => by omega, by omega⟩)
/-- lower and upper outline together -/
theorem hu_both {N : Nat} (h2 : 2 ≤ N) : hu_cnt (hu_H X V W N) N + hu_cnt (hu_H X (fun x => - V x) W N) N = hu_cnt (fun t => hu_H X V W N t ∨ hu_H X (fun x => - V x) W N t) N + 2 := by
  rw [hu_cnt_incl]
  have e : hu_cnt (fun t => hu_H X V W N t ∧ hu_H X (fun x => - V x) W N t) N = hu_cnt (fun t => t = 0 ∨ t = N - 1) N := by
    refine hu_cnt_congr N fun t ht => ⟨fun ⟨a, b⟩ => ?_, fun h => ?_⟩
    · refine Classical.byContradiction fun hc => ?_
      have p1 := a 0 (N - 1) (by omega) (by omega) (by omega)
      have p2 := b 0 (N - 1) (by omega) (by omega) (by omega)
      rw [hu_negD] at p2
      omega
    · constructor <;> intro i j hi hj hjN <;> omega
  rw [e, hu_cnt_two h2]
theorem hu_stk_cnt {N h : Nat} {st : Nat → Nat} (o : hu_Ord X W N) (s : hu_Stk X V W N h st) : hu_cnt (hu_H X V W N) N = h := by
  have f : ∀ {t : Nat}, t < N → ((∃ r, r < h ∧ st r = t) ↔ hu_H X V W N t) := fun ht => hu_final o s ht
  obtain ⟨hn, hh, s0, s1, s2, s3, s4, s5⟩ := s
  exact hu_cnt_list N h (fun r hr => ⟨s3 r hr, (f (s3 r hr)).mp ⟨r, hr, rfl⟩⟩) s2 (fun t ht pt => (f ht).mpr pt)
end
/-! sums -/
def hu_sm (f : Nat → Nat) : Nat → Nat
  | 0 => 0
  | n + 1 => hu_sm f n + f n
theorem hu_sm_congr {f g : Nat → Nat} : ∀ n, (∀ i, i < n → f i = g i) → hu_sm f n = hu_sm g n := by
  intro n
  induction n with
  | zero => intro _; rfl
  | succ n ih => intro h; rw [hu_sm, hu_sm, ih (fun i hi => h i (by omega)), h n (by omega)]
theorem hu_sm_add (f g : Nat → Nat) : ∀ n, hu_sm (fun i => f i + g i) n = hu_sm f n + hu_sm g n := by
  intro n
  induction n with
  | zero => rfl
  | succ n ih => rw [hu_sm, hu_sm, hu_sm, ih]; omega
theorem hu_sm_cat (f : Nat → Nat) (n : Nat) : ∀ m, hu_sm f (n + m) = hu_sm f n + hu_sm (fun j => f (n + j)) m := by
  intro m
  induction m with
  | zero => rfl
  | succ m ih => rw [← Nat.add_assoc, hu_sm, hu_sm, ih]; omega
theorem hu_sm_split (f : Nat → Nat) (b : Nat) : ∀ a, hu_sm f (a * b) = hu_sm (fun i => hu_sm (fun j => f (i * b + j)) b) a := by
  intro a
  induction a with
  | zero => rw [Nat.zero_mul]; rfl
  | succ a ih => rw [Nat.succ_mul, hu_sm_cat, ih, hu_sm]
theorem hu_sm_0 : ∀ n, hu_sm (fun _ => 0) n = 0 := by
  intro n
  induction n with
  | zero => rfl
  | succ n ih => rw [hu_sm, ih]
theorem hu_sm_swap (f : Nat → Nat → Nat) (b : Nat) : ∀ a, hu_sm (fun i => hu_sm (fun j => f i j) b) a = hu_sm (fun j => hu_sm (fun i => f i j) a) b := by
  intro a
  induction a with
  | zero => exact (hu_sm_0 b).symm
  | succ a ih =>
    rw [hu_sm, ih, ← hu_sm_add]
    rfl
theorem hu_sm_cnt (p : Nat → Prop) : ∀ n, hu_cnt p n = hu_sm (fun i => @ite Nat (p i) (Classical.propDecidable _) 1 0) n := by
  intro n
  induction n with
  | zero => rfl
  | succ n ih => rw [hu_cnt, hu_sm, ih]
theorem hu_cube_sum (f : Nat → Nat → Nat → Nat) : hu_sm (fun p => f (p % 17) (p / 17 % 17) (p / 289)) 4913 = hu_sm (fun x => hu_sm (fun y => hu_sm (fun z => f x y z) 17) 17) 17 := by
  have e1 : (4913 : Nat) = 17 * 289 := rfl
  rw [e1, hu_sm_split]
  have e2 : hu_sm (fun i => hu_sm (fun j => f ((i * 289 + j) % 17) ((i * 289 + j) / 17 % 17) ((i * 289 + j) / 289)) 289) 17 = hu_sm (fun z => hu_sm (fun y => hu_sm (fun x => f x y z) 17) 17) 17 := by
    refine hu_sm_congr 17 fun z hz => ?_
    have e3 : (289 : Nat) = 17 * 17 := rfl
    show hu_sm (fun j => f ((z * 289 + j) % 17) ((z * 289 + j) / 17 % 17) ((z * 289 + j) / 289)) (17 * 17) = _
    rw [hu_sm_split]
    refine hu_sm_congr 17 fun y hy => ?_
    refine hu_sm_congr 17 fun x hx => ?_
    have a1 : (z * 289 + (y * 17 + x)) % 17 = x := by omega
    have a2 : (z * 289 + (y * 17 + x)) / 17 % 17 = y := by omega
    have a3 : (z * 289 + (y * 17 + x)) / 289 = z := by omega
    rw [a1, a2, a3]
  rw [e2, hu_sm_swap (fun z y => hu_sm (fun x => f x y z) 17)]
  have e4 : ∀ y, hu_sm (fun z => hu_sm (fun x => f x y z) 17) 17 = hu_sm (fun x => hu_sm (fun z => f x y z) 17) 17 := fun y => hu_sm_swap (fun z x => f x y z) 17 17
  rw [hu_sm_congr 17 (fun y _ => e4 y), hu_sm_swap (fun y x => hu_sm (fun z => f x y z) 17)]
theorem hu_ival {low high : Int} (hl : -8 ≤ low) (hh : high ≤ 8) : (hu_cnt (fun z => low ≤ (z : Int) - 8 ∧ (z : Int) - 8 ≤ high) 17 : Int) = if low ≤ high then high - low + 1 else 0 := by
  have key : ∀ n : Nat, n ≤ 17 → (hu_cnt (fun z => low ≤ (z : Int) - 8 ∧ (z : Int) - 8 ≤ high) n : Int) = if high + 9 ≤ n then (if low ≤ high then high - low + 1 else 0) else (if low + 8 ≤ n then n - (low + 8) else 0) := by
    intro n
    induction n with
    | zero =>
      intro _
      show (0 : Int) = _
      split
      · split <;> omega
      · split <;> omega
    | succ n ih =>
      intro hn
      have i := ih (by omega)
      by_cases hp : low ≤ (n : Int) - 8 ∧ (n : Int) - 8 ≤ high
      · rw [hu_cnt_t (p := fun z => low ≤ (z : Int) - 8 ∧ (z : Int) - 8 ≤ high) hp, Int.natCast_add, i]
        repeat' split
        all_goals omega
      · rw [hu_cnt_f (p := fun z => low ≤ (z : Int) - 8 ∧ (z : Int) - 8 ≤ high) hp, i]
        repeat' split
        all_goals omega
  have := key 17 (Nat.le_refl _)
  rw [this, if_pos (by omega)]
end
section
/-! Int32 and Int64 as images of Int -/
def zi_I (e : Int) : Int32 := Int32.ofInt e
def zi_L (e : Int) : Int64 := Int64.ofInt e
def zi_R (e : Int) : Prop := -2147483648 ≤ e ∧ e < 2147483648
def zi_RL (e : Int) : Prop := -9223372036854775808 ≤ e ∧ e < 9223372036854775808
theorem zi_t {e : Int} (h : zi_R e) : (zi_I e).toInt = e := Int32.toInt_ofInt_of_le h.1 h.2
theorem zl_t {e : Int} (h : zi_RL e) : (zi_L e).toInt = e := Int64.toInt_ofInt_of_le h.1 h.2
theorem zi_of (x : Int32) : x = zi_I x.toInt := (Int32.ofInt_toInt x).symm
theorem zl_of (x : Int64) : x = zi_L x.toInt := (Int64.ofInt_toInt x).symm
theorem zi_r (x : Int32) : zi_R x.toInt := ⟨x.le_toInt, x.toInt_lt⟩
theorem zi_add (a b : Int) : zi_I a + zi_I b = zi_I (a + b) := (Int32.ofInt_add a b).symm
theorem zi_sub (a b : Int) : zi_I a - zi_I b = zi_I (a - b) := (Int32.ofInt_sub a b).symm
theorem zi_mul (a b : Int) : zi_I a * zi_I b = zi_I (a * b) := (Int32.ofInt_mul a b).symm
theorem zi_neg (a : Int) : - zi_I a = zi_I (-a) := (Int32.ofInt_neg a).symm
theorem zl_add (a b : Int) : zi_L a + zi_L b = zi_L (a + b) := (Int64.ofInt_add a b).symm
theorem zl_sub (a b : Int) : zi_L a - zi_L b = zi_L (a - b) := (Int64.ofInt_sub a b).symm
theorem zl_mul (a b : Int) : zi_L a * zi_L b = zi_L (a * b) := (Int64.ofInt_mul a b).symm
theorem zl_neg (a : Int) : - zi_L a = zi_L (-a) := (Int64.ofInt_neg a).symm
theorem zi_64 (x : Int32) : x.toInt64 = zi_L x.toInt := (Int64.ofInt_int32ToInt x).symm
theorem zl_32 (e : Int) : (zi_L e).toInt32 = zi_I e := Int64.toInt32_ofInt
theorem zi_nI (n : Nat) : nI n = zi_I n := Int32.ofInt_eq_ofNat.symm
theorem zi_add' (x y : Int32) : x + y = zi_I (x.toInt + y.toInt) := by
  rw [← zi_add, ← zi_of, ← zi_of]
theorem zi_sub' (x y : Int32) : x - y = zi_I (x.toInt - y.toInt) := by
  rw [← zi_sub, ← zi_of, ← zi_of]
theorem zi_mul' (x y : Int32) : x * y = zi_I (x.toInt * y.toInt) := by
  rw [← zi_mul, ← zi_of, ← zi_of]
theorem zi_eq {a b : Int} (ha : zi_R a) (hb : zi_R b) : zi_I a = zi_I b ↔ a = b := by
  rw [← Int32.toInt_inj, zi_t ha, zi_t hb]
theorem zi_le {a b : Int} (ha : zi_R a) (hb : zi_R b) : zi_I a ≤ zi_I b ↔ a ≤ b := by
  rw [Int32.le_iff_toInt_le, zi_t ha, zi_t hb]
theorem zi_lt {a b : Int} (ha : zi_R a) (hb : zi_R b) : zi_I a < zi_I b ↔ a < b := by
  rw [Int32.lt_iff_toInt_lt, zi_t ha, zi_t hb]
theorem zl_eq {a b : Int} (ha : zi_RL a) (hb : zi_RL b) : zi_L a = zi_L b ↔ a = b := by
  rw [← Int64.toInt_inj, zl_t ha, zl_t hb]
theorem zl_le {a b : Int} (ha : zi_RL a) (hb : zi_RL b) : zi_L a ≤ zi_L b ↔ a ≤ b := by
  rw [Int64.le_iff_toInt_le, zl_t ha, zl_t hb]
theorem zl_lt {a b : Int} (ha : zi_RL a) (hb : zi_RL b) : zi_L a < zi_L b ↔ a < b := by
  rw [Int64.lt_iff_toInt_lt, zl_t ha, zl_t hb]
theorem zi_00 : (0 : Int32) = zi_I 0 := rfl
theorem zl_00 : (0 : Int64) = zi_L 0 := rfl
theorem zl_eq0 {a : Int} (ha : zi_RL a) : zi_L a = 0 ↔ a = 0 := by
  rw [zl_00, zl_eq ha ⟨by omega, by omega⟩]
theorem zl_le0 {a : Int} (ha : zi_RL a) : zi_L a ≤ 0 ↔ a ≤ 0 := by
  rw [zl_00, zl_le ha ⟨by omega, by omega⟩]
theorem zl_ge0 {a : Int} (ha : zi_RL a) : 0 ≤ zi_L a ↔ 0 ≤ a := by
  rw [zl_00, zl_le ⟨by omega, by omega⟩ ha]
theorem zl_lt0 {a : Int} (ha : zi_RL a) : zi_L a < 0 ↔ a < 0 := by
  rw [zl_00, zl_lt ha ⟨by omega, by omega⟩]
theorem zl_gt0 {a : Int} (ha : zi_RL a) : 0 < zi_L a ↔ 0 < a := by
  rw [zl_00, zl_lt ⟨by omega, by omega⟩ ha]
theorem zi_eq0 {a : Int} (ha : zi_R a) : zi_I a = 0 ↔ a = 0 := by
  rw [zi_00, zi_eq ha ⟨by omega, by omega⟩]
theorem zi_x0 (x : Int32) : x = 0 ↔ x.toInt = 0 := by
  rw [← Int32.toInt_inj]; rfl
theorem zi_xe (x y : Int32) : x = y ↔ x.toInt = y.toInt := Int32.toInt_inj.symm
theorem zi_le0 {a : Int} (ha : zi_R a) : zi_I a ≤ 0 ↔ a ≤ 0 := by
  rw [zi_00, zi_le ha ⟨by omega, by omega⟩]
theorem zi_ge0 {a : Int} (ha : zi_R a) : 0 ≤ zi_I a ↔ 0 ≤ a := by
  rw [zi_00, zi_le ⟨by omega, by omega⟩ ha]
theorem zi_lt0 {a : Int} (ha : zi_R a) : zi_I a < 0 ↔ a < 0 := by
  rw [zi_00, zi_lt ha ⟨by omega, by omega⟩]
theorem zi_gt0 {a : Int} (ha : zi_R a) : 0 < zi_I a ↔ 0 < a := by
  rw [zi_00, zi_lt ⟨by omega, by omega⟩ ha]
/-- exact division -/
theorem zl_dv {a b : Int} (hb : 0 < b) (hab : zi_RL (a * b)) (hbr : zi_RL b) : zi_L (a * b) / zi_L b = zi_L a := by
  have ha : zi_RL a := by
    rcases Int.lt_or_le a 0 with h | h
    · have p := Int.mul_nonneg (by omega : 0 ≤ -a) (by omega : 0 ≤ b - 1)
      have e : (-a) * (b - 1) = a - a * b := by grind
      unfold zi_RL at *; omega
    · have p := Int.mul_nonneg h (by omega : 0 ≤ b - 1)
      have e : a * (b - 1) = a * b - a := by grind
      unfold zi_RL at *; omega
  rw [← Int64.toInt_inj, Int64.toInt_div, zl_t hab, zl_t hbr, zl_t ha, Int.mul_tdiv_cancel _ (by omega)]
  exact Int.bmod_eq_of_le ha.1 ha.2
theorem zi_dv {a b : Int} (hb : 0 < b) (hab : zi_R (a * b)) (hbr : zi_R b) : zi_I (a * b) / zi_I b = zi_I a := by
  have ha : zi_R a := by
    rcases Int.lt_or_le a 0 with h | h
    · have p := Int.mul_nonneg (by omega : 0 ≤ -a) (by omega : 0 ≤ b - 1)
      have e : (-a) * (b - 1) = a - a * b := by grind
      unfold zi_R at *; omega
    · have p := Int.mul_nonneg h (by omega : 0 ≤ b - 1)
      have e : a * (b - 1) = a * b - a := by grind
      unfold zi_R at *; omega
  rw [← Int32.toInt_inj, Int32.toInt_div, zi_t hab, zi_t hbr, zi_t ha, Int.mul_tdiv_cancel _ (by omega)]
  exact Int.bmod_eq_of_le ha.1 ha.2
/-- a byte -/
theorem zi_byte {x : Int32} (h1 : -128 ≤ x.toInt) (h2 : x.toInt < 128) : vp_nar .byte x.toInt8.toInt32 = x := by
  rw [vp_nar_byte, lg_i2b_small h1 h2, lg_i2b_small h1 h2]
theorem zi_byte1 {x : Int32} (h1 : -128 ≤ x.toInt) (h2 : x.toInt < 128) : vp_nar .byte x = x := by
  rw [vp_nar_byte, lg_i2b_small h1 h2]
/-- point or plane out of four arrays -/
def hb_qt (x y z w : Nat → Int32) (k : Nat) : hb_Q := ((x k).toInt, (y k).toInt, (z k).toInt, (w k).toInt)
theorem hb_val_bd {p v : hb_Q} (hp : hb_Good p) (hv : hb_Bd v) : -100000 ≤ hb_val p v ∧ hb_val p v ≤ 100000 := by
  obtain ⟨p1, p2, p3, p4, -⟩ := hp
  obtain ⟨v1, v2, v3, v4⟩ := hv
  have a1 := hb_mulb p1 v1
  have a2 := hb_mulb p2 v2
  have a3 := hb_mulb p3 v3
  have a4 := hb_mulb p4 (by omega : -384 ≤ v.2.2.2 ∧ v.2.2.2 ≤ 384)
  simp only [hb_val, hb_dot]
  omega
/-- a set of bits -/
def hb_Bits (x : Int32) (T : Nat → Prop) : Prop := ∀ i, i < 32 → (bt x i = true ↔ T i)
theorem hb_bits_and {x y : Int32} {T U : Nat → Prop} (hx : hb_Bits x T) (hy : hb_Bits y U) : hb_Bits (x &&& y) (fun i => T i ∧ U i) := by
  intro i hi
  rw [b_and, Bool.and_eq_true, hx i hi, hy i hi]
theorem hb_bits_or {x y : Int32} {T U : Nat → Prop} (hx : hb_Bits x T) (hy : hb_Bits y U) : hb_Bits (x ||| y) (fun i => T i ∨ U i) := by
  intro i hi
  rw [b_or, Bool.or_eq_true, hx i hi, hy i hi]
theorem hb_bits_0 : hb_Bits 0 (fun _ => False) := by
  intro i _
  rw [b_0]
  exact ⟨fun h => (by cases h), fun h => h.elim⟩
theorem hb_bits_m1 : hb_Bits (-1) (fun _ => True) := by
  intro i hi
  rw [b_m1 i hi]
  exact ⟨fun _ => trivial, fun _ => rfl⟩
theorem hb_bits_congr {x : Int32} {T U : Nat → Prop} (hx : hb_Bits x T) (h : ∀ i, i < 32 → (T i ↔ U i)) : hb_Bits x U := fun i hi => (hx i hi).trans (h i hi)
theorem hb_b1 (i : Nat) : bt 1 i = decide (i = 0) := by
  rcases Nat.lt_or_ge i 32 with h | h
  · have : ∀ i, i < 32 → bt 1 i = decide (i = 0) := by decide
    exact this i h
  · rw [b_big h]
    exact (decide_eq_false (by omega)).symm
theorem hb_bits_1 {p : Nat} (hp : p < 32) : hb_Bits ((1 : Int32) <<< (nI p &&& 31)) (fun i => i = p) := by
  intro i hi
  rw [b_shl p hp 1 hi, hb_b1, Bool.and_eq_true, decide_eq_true_iff, decide_eq_true_iff]
  omega
theorem hb_bit0 {x : Int32} {T : Nat → Prop} (hx : hb_Bits x T) {p : Nat} (hp : p < 32) : ((x >>> (nI p &&& 31)) &&& 1) = 0 ↔ ¬ T p := by
  rw [← hx p hp]
  constructor
  · intro h hb
    have := congrArg (fun y => bt y 0) h
    simp only [b_and, b_0, b_sshr p hp x (by omega : 0 < 32), hb_b1] at this
    rw [if_pos (by omega), Nat.add_zero, hb] at this
    cases this
  · intro h
    refine b_ext fun i hi => ?_
    rw [b_and, b_0, hb_b1, b_sshr p hp x hi]
    rcases Nat.eq_zero_or_pos i with e | e
    · subst e
      rw [if_pos (by omega), Nat.add_zero]
      cases hc : bt x p
      · rfl
      · exact absurd hc h
    · rw [decide_eq_false (by omega : ¬ i = 0), Bool.and_false]
theorem hb_bit1 {x : Int32} {T : Nat → Prop} (hx : hb_Bits x T) {p : Nat} (hp : p < 32) : ((x >>> (nI p &&& 31)) &&& 1) = 1 ↔ T p := by
  rw [← hx p hp]
  constructor
  · intro h
    have := congrArg (fun y => bt y 0) h
    simp only [b_and, b_sshr p hp x (by omega : 0 < 32), hb_b1] at this
    rw [if_pos (by omega), Nat.add_zero] at this
    cases hc : bt x p
    · rw [hc] at this; cases this
    · rfl
  · intro h
    refine b_ext fun i hi => ?_
    rw [b_and, hb_b1, b_sshr p hp x hi]
    rcases Nat.eq_zero_or_pos i with e | e
    · subst e
      rw [if_pos (by omega), Nat.add_zero, h]
      rfl
    · rw [decide_eq_false (by omega : ¬ i = 0), Bool.and_false]
theorem hb_bits_sub {x y : Int32} {T U : Nat → Prop} (hx : hb_Bits x T) (hy : hb_Bits y U) : (x &&& y) = y ↔ ∀ i, i < 32 → U i → T i := by
  constructor
  · intro h i hi hu
    have := congrArg (fun z => bt z i) h
    simp only [b_and] at this
    rw [(hy i hi).mpr hu] at this
    rw [Bool.and_true] at this
    exact (hx i hi).mp this
  · intro h
    refine b_ext fun i hi => ?_
    rw [b_and]
    cases hc : bt y i
    · rw [Bool.and_false]
    · rw [(hx i hi).mpr (h i hi ((hy i hi).mp hc))]; rfl
/-- the rank of the planes of a set -/
noncomputable def hb_rk (P : Nat → hb_Q) (T : Nat → Prop) : Nat := @ite Nat (hb_R3 P T) (Classical.propDecidable _) 3 (@ite Nat (hb_R2 P T) (Classical.propDecidable _) 2 (@ite Nat (∃ i, T i) (Classical.propDecidable _) 1 0))
theorem hb_rk3 {P : Nat → hb_Q} {T : Nat → Prop} (h : hb_R3 P T) : hb_rk P T = 3 := by unfold hb_rk; rw [if_pos h]
theorem hb_rk2 {P : Nat → hb_Q} {T : Nat → Prop} (h3 : ¬ hb_R3 P T) (h : hb_R2 P T) : hb_rk P T = 2 := by unfold hb_rk; rw [if_neg h3, if_pos h]
theorem hb_rk1 {P : Nat → hb_Q} {T : Nat → Prop} (h2 : ¬ hb_R2 P T) (h : ∃ i, T i) : hb_rk P T = 1 := by unfold hb_rk; rw [if_neg (fun h3 => h2 (hb_R3_R2 h3)), if_neg h2, if_pos h]
theorem hb_rk0 {P : Nat → hb_Q} {T : Nat → Prop} (h : ¬ ∃ i, T i) : hb_rk P T = 0 := by
  have h2 : ¬ hb_R2 P T := fun ⟨i, _, hi, _⟩ => h ⟨i, hi⟩
  unfold hb_rk; rw [if_neg (fun h3 => h2 (hb_R3_R2 h3)), if_neg h2, if_neg h]
theorem hb_rk_congr {P Q : Nat → hb_Q} {T U : Nat → Prop} (h : ∀ i, T i ↔ U i) (hp : ∀ i, T i → P i = Q i) : hb_rk P T = hb_rk Q U := by
  have e : T = U := funext fun i => propext (h i)
  subst e
  have e3 : hb_R3 P T ↔ hb_R3 Q T := by
    constructor
    · intro ⟨i, j, k, hi, hj, hk, hd⟩
      exact ⟨i, j, k, hi, hj, hk, by rw [← hp i hi, ← hp j hj, ← hp k hk]; exact hd⟩
    · intro ⟨i, j, k, hi, hj, hk, hd⟩
      exact ⟨i, j, k, hi, hj, hk, by rw [hp i hi, hp j hj, hp k hk]; exact hd⟩
  have e2 : hb_R2 P T ↔ hb_R2 Q T := by
    constructor
    · intro ⟨i, j, hi, hj, hd⟩
      exact ⟨i, j, hi, hj, by rw [← hp i hi, ← hp j hj]; exact hd⟩
    · intro ⟨i, j, hi, hj, hd⟩
      exact ⟨i, j, hi, hj, by rw [hp i hi, hp j hj]; exact hd⟩
  by_cases h3 : hb_R3 P T
  · rw [hb_rk3 h3, hb_rk3 (e3.mp h3)]
  · by_cases h2 : hb_R2 P T
    · rw [hb_rk2 h3 h2, hb_rk2 (fun h => h3 (e3.mpr h)) (e2.mp h2)]
    · by_cases h1 : ∃ i, T i
      · rw [hb_rk1 h2 h1, hb_rk1 (fun h => h2 (e2.mpr h)) h1]
      · rw [hb_rk0 h1, hb_rk0 h1]
theorem hb_par_tr {p q r : hb_Q} (hp : hb_Nz p) (h1 : hb_Par p q) (h2 : hb_Par p r) : hb_Par q r := by
  have pp := hb_dot_pos hp
  obtain ⟨a1, a2, a3⟩ := h1
  obtain ⟨b1, b2, b3⟩ := h2
  have q1 : hb_dot p p * q.1 = hb_dot p q * p.1 := by simp only [hb_dot, hb_cx, hb_cy, hb_cz] at *; grind
  have q2 : hb_dot p p * q.2.1 = hb_dot p q * p.2.1 := by simp only [hb_dot, hb_cx, hb_cy, hb_cz] at *; grind
  have q3 : hb_dot p p * q.2.2.1 = hb_dot p q * p.2.2.1 := by simp only [hb_dot, hb_cx, hb_cy, hb_cz] at *; grind
  have c1 : hb_dot p p * hb_cx q r = hb_dot p q * hb_cx p r := by simp only [hb_cx]; grind
  have c2 : hb_dot p p * hb_cy q r = hb_dot p q * hb_cy p r := by simp only [hb_cy]; grind
  have c3 : hb_dot p p * hb_cz q r = hb_dot p q * hb_cz p r := by simp only [hb_cz]; grind
  rw [b1, Int.mul_zero] at c1
  rw [b2, Int.mul_zero] at c2
  rw [b3, Int.mul_zero] at c3
  have nz : hb_dot p p ≠ 0 := by omega
  exact ⟨hb_cancel0 nz c1, hb_cancel0 nz c2, hb_cancel0 nz c3⟩
/-- what a greedy search for rank finds -/
theorem hb_greedy1 {P : Nat → hb_Q} {T : Nat → Prop} {p : Nat} (hn : hb_Nz (P p)) (hT : T p) (h : ∀ q, T q → q ≠ p → hb_Par (P p) (P q)) : hb_rk P T = 1 := by
  refine hb_rk1 (fun ⟨i, j, hi, hj, hd⟩ => hd ?_) ⟨p, hT⟩
  have self : ∀ q, T q → hb_Par (P p) (P q) := fun q hq => by
    by_cases e : q = p
    · rw [e]; simp only [hb_Par, hb_cx, hb_cy, hb_cz]
      refine ⟨?_, ?_, ?_⟩ <;> grind
    · exact h q hq e
  exact hb_par_tr hn (self i hi) (self j hj)
theorem hb_greedy2 {P : Nat → hb_Q} {T : Nat → Prop} {p q : Nat} (hp : T p) (hq : T q) (hn : ¬ hb_Par (P p) (P q)) (h : ∀ r, T r → hb_det (P p) (P q) (P r) = 0) : hb_rk P T = 2 := by
  refine hb_rk2 (fun ⟨i, j, k, hi, hj, hk, hd⟩ => ?_) ⟨p, q, hp, hq, hn⟩
  have z : ∀ r, T r → hb_dot (P r) (hb_crs (P p) (P q)) = 0 := fun r hr => by rw [← hb_det_crs]; exact h r hr
  exact hb_det_zero hd (z i hi) (z j hj) (z k hk) (hb_crs_nz hn)
end
section
/-! X: planes, made corners, neighbours -/
section
variable {fn fb fc fm fk : Int32} {fT fB : Int64} {aA aB aC aL tX tY tZ tW tP mX mY mZ mW mP kX kY kZ kW aH aD : Nat → Int32} {aI : Nat → Int64}
theorem xb_in {p N : Nat} (hp : p < N) (hN : N < 2 ^ 31) : vp_in (nI p) N ↔ True := iff_true_intro (vp_in_nI hp hN)
theorem xb_setPlane {post : SX → Prop} {p : Nat} (hp : p < 16) {a b c : Int32} (ha : -128 ≤ a.toInt ∧ a.toInt < 128) (hb : -128 ≤ b.toInt ∧ b.toInt < 128) (hc : -128 ≤ c.toInt ∧ c.toInt < 128) (h : post (fn, fb, fc, fm, fk, fT, fB, upd aA p a, upd aB p b, upd aC p c, aL, tX, tY, tZ, tW, tP, mX, mY, mZ, mW, mP, aI, kX, kY, kZ, kW, aH, aD)) : wpX_setPlane post (fn, fb, fc, fm, fk, fT, fB, aA, aB, aC, aL, tX, tY, tZ, tW, tP, mX, mY, mZ, mW, mP, aI, kX, kY, kZ, kW, aH, aD) (nI p) a b c := by
  simp only [wpX_setPlane, xb_in hp (by omega : 16 < 2 ^ 31), forall_eq, nI_clamp (by omega : p < 2 ^ 31), zi_byte ha.1 ha.2, zi_byte hb.1 hb.2, zi_byte hc.1 hc.2, true_and]
  exact h
theorem xb_distanceTo {post : Int64 → Prop} {p k : Nat} (hp : p < 16) (hk : k < 64) (h : post (zi_L (hb_val (hb_qt aA aB aC aL p) (hb_qt tX tY tZ tW k)))) : wpX_distanceTo post (fn, fb, fc, fm, fk, fT, fB, aA, aB, aC, aL, tX, tY, tZ, tW, tP, mX, mY, mZ, mW, mP, aI, kX, kY, kZ, kW, aH, aD) (nI p) (nI k) := by
  simp only [wpX_distanceTo, xb_in hp (by omega : 16 < 2 ^ 31), xb_in hk (by omega : 64 < 2 ^ 31), forall_eq, nI_clamp (by omega : p < 2 ^ 31), nI_clamp (by omega : k < 2 ^ 31), true_and, zi_64, zl_mul, zl_add, zl_sub]
  exact h
theorem xb_addMade {post : SX → Prop} {m : Nat} (hm : m < 64) {x y z w q : Int32} (h : post (fn, fb, fc, nI (m + 1), fk, fT, fB, aA, aB, aC, aL, tX, tY, tZ, tW, tP, upd mX m x, upd mY m y, upd mZ m z, upd mW m w, upd mP m q, aI, kX, kY, kZ, kW, aH, aD)) : wpX_addMade post (fn, fb, fc, nI m, fk, fT, fB, aA, aB, aC, aL, tX, tY, tZ, tW, tP, mX, mY, mZ, mW, mP, aI, kX, kY, kZ, kW, aH, aD) x y z w q := by
  simp only [wpX_addMade, xb_in hm (by omega : 64 < 2 ^ 31), forall_eq, nI_clamp (by omega : m < 2 ^ 31), true_and, nI_1]
  exact h
theorem xb_liesOn {post : Int32 → Prop} {k p : Nat} (hk : k < 64) (hp : p < 32) {T : Nat → Prop} (hb : hb_Bits (tP k) T) (ht : T p → post 1) (hf : ¬ T p → post 0) : wpX_liesOn post (fn, fb, fc, fm, fk, fT, fB, aA, aB, aC, aL, tX, tY, tZ, tW, tP, mX, mY, mZ, mW, mP, aI, kX, kY, kZ, kW, aH, aD) (nI k) (nI p) := by
  simp only [wpX_liesOn, xb_in hk (by omega : 64 < 2 ^ 31), nI_clamp (by omega : k < 2 ^ 31), true_and, hb_bit0 hb hp]
  exact ⟨hf, fun h => ht (Classical.not_not.mp h)⟩
/-- the third corner on all common planes -/
theorem xb_areN_loop {post : Int32 → Prop} {c k l : Nat} (hc : c ≤ 64) (hk : k < c) (hl : l < c) {x3 : Int32} {T : Nat → Nat → Prop} {U : Nat → Prop} (hT : ∀ m, m < c → hb_Bits (tP m) (T m)) (hU : hb_Bits x3 U) (h1 : (∀ m, m < c → m ≠ k → m ≠ l → ¬ ∀ i, i < 32 → U i → T m i) → post 1) (h0 : (∃ m, m < c ∧ m ≠ k ∧ m ≠ l ∧ ∀ i, i < 32 → U i → T m i) → post 0) : ∀ d m, m + d = c → (∀ m', m' < m → m' ≠ k → m' ≠ l → ¬ ∀ i, i < 32 → U i → T m' i) → wX_areNeighbours_24 post (nI k) (nI l) x3 fn fb (nI c) fm fk fT fB aA aB aC aL tX tY tZ tW tP mX mY mZ mW mP aI kX kY kZ kW aH aD (d + 1) (nI m) := by
  intro d
  induction d with
  | zero =>
    intro m hm hp
    have e : m = c := by omega
    subst e
    rw [wX_areNeighbours_24]
    exact br_t (nI_le (Nat.le_refl _) (by omega)) (h1 hp)
  | succ d ih =>
    intro m hm hp
    rw [wX_areNeighbours_24]
    refine br_f (nI_ge (by omega) (by omega)) ?_
    simp only [nI_eq (by omega : m < 2 ^ 31) (by omega : k < 2 ^ 31), nI_eq (by omega : m < 2 ^ 31) (by omega : l < 2 ^ 31), forall_eq, nI_1, xb_in (by omega : m < 64) (by omega : 64 < 2 ^ 31), true_and, nI_clamp (by omega : m < 2 ^ 31), hb_bits_sub (hT m (by omega)) hU]
    have next : (m ≠ k → m ≠ l → ¬ ∀ i, i < 32 → U i → T m i) → wX_areNeighbours_24 post (nI k) (nI l) x3 fn fb (nI c) fm fk fT fB aA aB aC aL tX tY tZ tW tP mX mY mZ mW mP aI kX kY kZ kW aH aD (d + 1) (nI (m + 1)) := fun hq => ih (m + 1) (by omega) (fun m' hm' => by
      rcases Nat.lt_succ_iff_lt_or_eq.mp hm' with h | h
      · exact hp m' h
      · rw [h]; exact hq)
    refine br_c (fun e => next (fun h => absurd e h)) (fun nk => br_c (fun e => next (fun _ h => absurd e h)) (fun nl => br_c (fun e => h0 ⟨m, by omega, nk, nl, e⟩) (fun e => next (fun _ _ => e))))
theorem xb_areN {post : Int32 → Prop} {c k l : Nat} (hc : c ≤ 64) (hk : k < c) (hl : l < c) {T : Nat → Nat → Prop} (hT : ∀ m, m < c → hb_Bits (tP m) (T m)) (h1 : k ≠ l → (∀ m, m < c → m ≠ k → m ≠ l → ¬ ∀ i, i < 32 → (T k i ∧ T l i) → T m i) → post 1) (h0 : (k = l ∨ ∃ m, m < c ∧ m ≠ k ∧ m ≠ l ∧ ∀ i, i < 32 → (T k i ∧ T l i) → T m i) → post 0) : wpX_areNeighbours post (fn, fb, nI c, fm, fk, fT, fB, aA, aB, aC, aL, tX, tY, tZ, tW, tP, mX, mY, mZ, mW, mP, aI, kX, kY, kZ, kW, aH, aD) (nI k) (nI l) := by
  simp only [wpX_areNeighbours, nI_eq (by omega : k < 2 ^ 31) (by omega : l < 2 ^ 31), xb_in (by omega : k < 64) (by omega : 64 < 2 ^ 31), xb_in (by omega : l < 64) (by omega : 64 < 2 ^ 31), true_and, forall_eq, nI_clamp (by omega : k < 2 ^ 31), nI_clamp (by omega : l < 2 ^ 31)]
  refine br_c (fun e => h0 (Or.inl e)) (fun ne => ⟨c + 1, ?_⟩)
  exact xb_areN_loop hc hk hl hT (hb_bits_and (hT k hk) (hT l hl)) (h1 ne) (fun h => h0 (Or.inr h)) c 0 (by omega) (fun m' hm' => absurd hm' (Nat.not_lt_zero _))
/-- the greatest common divisor -/
theorem xb_gcd_loop {post : Int64 → Prop} : ∀ (d a b : Nat), b ≤ d → a < 2 ^ 63 → b < 2 ^ 63 → post (lN (Nat.gcd a b)) → wX_commonDivisor_28 post fn fb fc fm fk fT fB aA aB aC aL tX tY tZ tW tP mX mY mZ mW mP aI kX kY kZ kW aH aD (d + 1) (lN a) (lN b) := by
  intro d
  induction d with
  | zero =>
    intro a b hb ha _ h
    have e : b = 0 := by omega
    subst e
    rw [wX_commonDivisor_28]
    rw [Nat.gcd_zero_right] at h
    exact br_t rfl h
  | succ d ih =>
    intro a b hb ha hb' h
    rw [wX_commonDivisor_28]
    by_cases e : b = 0
    · subst e
      rw [Nat.gcd_zero_right] at h
      exact br_t rfl h
    · have ne : ¬ lN b = 0 := fun z => e ((pk_lEQ hb' (by omega : 0 < 2 ^ 63)).mp z)
      have hm : a % b < b := Nat.mod_lt a (by omega)
      refine br_f ne ⟨ne, nm_r (pk_lRem ha (by omega) hb') (ih b (a % b) (by omega) hb' (by omega) ?_)⟩
      rw [Nat.gcd_comm b, ← Nat.gcd_rec, Nat.gcd_comm]
      exact h
theorem xb_lN (n : Nat) : lN n = zi_L n := Int64.ofInt_eq_ofNat.symm
theorem xb_gcd {post : Int64 → Prop} {a b : Int} (ha : -9223372036854775808 < a ∧ a < 9223372036854775808) (hb : -9223372036854775808 < b ∧ b < 9223372036854775808) (h : post (zi_L (Nat.gcd a.natAbs b.natAbs))) : wpX_commonDivisor post (fn, fb, fc, fm, fk, fT, fB, aA, aB, aC, aL, tX, tY, tZ, tW, tP, mX, mY, mZ, mW, mP, aI, kX, kY, kZ, kW, aH, aD) (zi_L a) (zi_L b) := by
  have ra : zi_RL a := ⟨by omega, by omega⟩
  have rb : zi_RL b := ⟨by omega, by omega⟩
  have fin : ∀ y : Int64, y = lN b.natAbs → ∀ x : Int64, x = lN a.natAbs → wX_commonDivisor_28 post fn fb fc fm fk fT fB aA aB aC aL tX tY tZ tW tP mX mY mZ mW mP aI kX kY kZ kW aH aD (b.natAbs + 1) x y := by
    intro y ey x ex
    rw [ey, ex]
    exact xb_gcd_loop _ _ _ (Nat.le_refl _) (by omega) (by omega) (by rw [xb_lN]; exact h)
  have two : ∀ x : Int64, x = lN a.natAbs → wX_commonDivisor_12 post (zi_L b) x fn fb fc fm fk fT fB aA aB aC aL tX tY tZ tW tP mX mY mZ mW mP aI kX kY kZ kW aH aD := by
    intro x ex
    unfold wX_commonDivisor_12
    rw [zl_ge0 rb]
    refine br_c (fun h0 => ⟨b.natAbs + 1, fin _ ?_ _ ex⟩) (fun h0 => nm_e ⟨b.natAbs + 1, fin _ ?_ _ ex⟩)
    · rw [xb_lN]; congr 1; omega
    · rw [xb_lN, zl_neg]; congr 1; omega
  simp only [wpX_commonDivisor]
  rw [zl_ge0 ra]
  refine br_c (fun h0 => two _ ?_) (fun h0 => two _ ?_)
  · rw [xb_lN]; congr 1; omega
  · rw [xb_lN, zl_neg]; congr 1; omega
end
end
section
/-! Y: planes, where three meet, lowest terms -/
section
variable {gn gp gc : Int32} {qN qD pA pB pC pD yX yY yZ yW yP yF : Nat → Int32}
theorem yb_10 : ((1 : Int32) = 0) ↔ False := iff_false_intro (by decide)
theorem yb_20 : ((2 : Int32) = 0) ↔ False := iff_false_intro (by decide)
theorem yb_21 : ((2 : Int32) = 1) ↔ False := iff_false_intro (by decide)
theorem yb_addPlane {post : SY → Prop} {p : Nat} (hp : p < 16) {a b c d : Int32} (h : post (gn, nI (p + 1), gc, qN, qD, upd pA p a, upd pB p b, upd pC p c, upd pD p d, yX, yY, yZ, yW, yP, yF)) : wpY_addPlane post (gn, nI p, gc, qN, qD, pA, pB, pC, pD, yX, yY, yZ, yW, yP, yF) a b c d := by
  simp only [wpY_addPlane, xb_in hp (by omega : 16 < 2 ^ 31), forall_eq, nI_clamp (by omega : p < 2 ^ 31), true_and, nI_1]
  exact h
theorem yb_cross0 {post : Int32 → Prop} {p q : Nat} (hp : p < 16) (hq : q < 16) (h : post (zi_I (hb_cx (hb_qt pA pB pC pD p) (hb_qt pA pB pC pD q)))) : wpY_cross post (gn, gp, gc, qN, qD, pA, pB, pC, pD, yX, yY, yZ, yW, yP, yF) (nI p) (nI q) 0 := by
  simp only [wpY_cross, xb_in hp (by omega : 16 < 2 ^ 31), xb_in hq (by omega : 16 < 2 ^ 31), nI_clamp (by omega : p < 2 ^ 31), nI_clamp (by omega : q < 2 ^ 31), true_and, not_true, false_implies, true_implies, and_true, zi_mul', zi_sub]
  exact h
theorem yb_cross1 {post : Int32 → Prop} {p q : Nat} (hp : p < 16) (hq : q < 16) (h : post (zi_I (hb_cy (hb_qt pA pB pC pD p) (hb_qt pA pB pC pD q)))) : wpY_cross post (gn, gp, gc, qN, qD, pA, pB, pC, pD, yX, yY, yZ, yW, yP, yF) (nI p) (nI q) 1 := by
  simp only [wpY_cross, yb_10, xb_in hp (by omega : 16 < 2 ^ 31), xb_in hq (by omega : 16 < 2 ^ 31), nI_clamp (by omega : p < 2 ^ 31), nI_clamp (by omega : q < 2 ^ 31), true_and, not_true, not_false_iff, false_implies, true_implies, and_true, zi_mul', zi_sub]
  exact h
theorem yb_cross2 {post : Int32 → Prop} {p q : Nat} (hp : p < 16) (hq : q < 16) (h : post (zi_I (hb_cz (hb_qt pA pB pC pD p) (hb_qt pA pB pC pD q)))) : wpY_cross post (gn, gp, gc, qN, qD, pA, pB, pC, pD, yX, yY, yZ, yW, yP, yF) (nI p) (nI q) 2 := by
  simp only [wpY_cross, yb_20, yb_21, xb_in hp (by omega : 16 < 2 ^ 31), xb_in hq (by omega : 16 < 2 ^ 31), nI_clamp (by omega : p < 2 ^ 31), nI_clamp (by omega : q < 2 ^ 31), true_and, not_true, not_false_iff, false_implies, true_implies, and_true, zi_mul', zi_sub]
  exact h
theorem yb_mulI (x : Int32) (e : Int) : x * zi_I e = zi_I (x.toInt * e) := by
  rw [← zi_mul, ← zi_of]
theorem yb_det {post : Int32 → Prop} {p q r : Nat} (hp : p < 16) (hq : q < 16) (hr : r < 16) (h : post (zi_I (hb_det (hb_qt pA pB pC pD p) (hb_qt pA pB pC pD q) (hb_qt pA pB pC pD r)))) : wpY_determinant post (gn, gp, gc, qN, qD, pA, pB, pC, pD, yX, yY, yZ, yW, yP, yF) (nI p) (nI q) (nI r) := by
  simp only [wpY_determinant, xb_in hp (by omega : 16 < 2 ^ 31), true_and]
  refine yb_cross0 hq hr ?_
  refine yb_cross1 hq hr ?_
  refine yb_cross2 hq hr ?_
  simp only [nI_clamp (by omega : p < 2 ^ 31), yb_mulI, zi_add]
  rw [← hb_det_rot] at h
  have e : hb_det (hb_qt pA pB pC pD q) (hb_qt pA pB pC pD r) (hb_qt pA pB pC pD p) = (pA p).toInt * hb_cx (hb_qt pA pB pC pD q) (hb_qt pA pB pC pD r) + (pB p).toInt * hb_cy (hb_qt pA pB pC pD q) (hb_qt pA pB pC pD r) + (pC p).toInt * hb_cz (hb_qt pA pB pC pD q) (hb_qt pA pB pC pD r) := by
    show hb_cx (hb_qt pA pB pC pD q) (hb_qt pA pB pC pD r) * (pA p).toInt + hb_cy (hb_qt pA pB pC pD q) (hb_qt pA pB pC pD r) * (pB p).toInt + hb_cz (hb_qt pA pB pC pD q) (hb_qt pA pB pC pD r) * (pC p).toInt = _
    rw [Int.mul_comm (pA p).toInt, Int.mul_comm (pB p).toInt, Int.mul_comm (pC p).toInt]
  rw [e] at h
  exact h
theorem yb_met0 {post : Int32 → Prop} {p q r : Nat} (hp : p < 16) (hq : q < 16) (hr : r < 16) (h : post (zi_I (hb_met (hb_qt pA pB pC pD p) (hb_qt pA pB pC pD q) (hb_qt pA pB pC pD r)).1)) : wpY_met post (gn, gp, gc, qN, qD, pA, pB, pC, pD, yX, yY, yZ, yW, yP, yF) (nI p) (nI q) (nI r) 0 := by
  simp only [wpY_met, xb_in hp (by omega : 16 < 2 ^ 31), xb_in hq (by omega : 16 < 2 ^ 31), xb_in hr (by omega : 16 < 2 ^ 31), true_and]
  refine yb_cross0 hq hr ?_
  refine yb_cross0 hr hp ?_
  refine yb_cross0 hp hq ?_
  simp only [nI_clamp (by omega : p < 2 ^ 31), nI_clamp (by omega : q < 2 ^ 31), nI_clamp (by omega : r < 2 ^ 31), yb_mulI, zi_add]
  exact h
theorem yb_met1 {post : Int32 → Prop} {p q r : Nat} (hp : p < 16) (hq : q < 16) (hr : r < 16) (h : post (zi_I (hb_met (hb_qt pA pB pC pD p) (hb_qt pA pB pC pD q) (hb_qt pA pB pC pD r)).2.1)) : wpY_met post (gn, gp, gc, qN, qD, pA, pB, pC, pD, yX, yY, yZ, yW, yP, yF) (nI p) (nI q) (nI r) 1 := by
  simp only [wpY_met, xb_in hp (by omega : 16 < 2 ^ 31), xb_in hq (by omega : 16 < 2 ^ 31), xb_in hr (by omega : 16 < 2 ^ 31), true_and]
  refine yb_cross1 hq hr ?_
  refine yb_cross1 hr hp ?_
  refine yb_cross1 hp hq ?_
  simp only [nI_clamp (by omega : p < 2 ^ 31), nI_clamp (by omega : q < 2 ^ 31), nI_clamp (by omega : r < 2 ^ 31), yb_mulI, zi_add]
  exact h
theorem yb_met2 {post : Int32 → Prop} {p q r : Nat} (hp : p < 16) (hq : q < 16) (hr : r < 16) (h : post (zi_I (hb_met (hb_qt pA pB pC pD p) (hb_qt pA pB pC pD q) (hb_qt pA pB pC pD r)).2.2.1)) : wpY_met post (gn, gp, gc, qN, qD, pA, pB, pC, pD, yX, yY, yZ, yW, yP, yF) (nI p) (nI q) (nI r) 2 := by
  simp only [wpY_met, xb_in hp (by omega : 16 < 2 ^ 31), xb_in hq (by omega : 16 < 2 ^ 31), xb_in hr (by omega : 16 < 2 ^ 31), true_and]
  refine yb_cross2 hq hr ?_
  refine yb_cross2 hr hp ?_
  refine yb_cross2 hp hq ?_
  simp only [nI_clamp (by omega : p < 2 ^ 31), nI_clamp (by omega : q < 2 ^ 31), nI_clamp (by omega : r < 2 ^ 31), yb_mulI, zi_add]
  exact h
theorem yb_side {post : Int64 → Prop} {p k : Nat} (hp : p < 16) (hk : k < 40) (h : post (zi_L (- hb_val (hb_qt pA pB pC pD p) (hb_qt yX yY yZ yW k)))) : wpY_side post (gn, gp, gc, qN, qD, pA, pB, pC, pD, yX, yY, yZ, yW, yP, yF) (nI p) (nI k) := by
  simp only [wpY_side, xb_in hp (by omega : 16 < 2 ^ 31), xb_in hk (by omega : 40 < 2 ^ 31), nI_clamp (by omega : p < 2 ^ 31), nI_clamp (by omega : k < 2 ^ 31), true_and, zi_64, zl_mul, zl_add, zl_sub]
  have e : - hb_val (hb_qt pA pB pC pD p) (hb_qt yX yY yZ yW k) = hb_dot (hb_qt pA pB pC pD p) (hb_qt yX yY yZ yW k) - (hb_qt pA pB pC pD p).2.2.2 * (hb_qt yX yY yZ yW k).2.2.2 := by unfold hb_val; omega
  rw [e] at h
  exact h
/-- Euclid in sixty steps -/
theorem yb_gcd_idle {post : Int32 → Prop} {g : Nat} (hg : g < 2 ^ 31) (h : post (nI (if g < 1 then 1 else g))) : ∀ d s, s + d = 60 → wY_common_26 post gn gp gc qN qD pA pB pC pD yX yY yZ yW yP yF (d + 1) (nI g) 0 (nI s) := by
  intro d
  induction d with
  | zero =>
    intro s hs
    rw [wY_common_26]
    refine pk_le 60 s (fun _ => ?_) (fun h => by omega)
    refine pk_le 1 g (fun h1 => ?_) (fun h1 => ?_)
    · rw [if_neg (by omega)] at h; exact h
    · rw [if_pos (by omega)] at h; exact h
  | succ d ih =>
    intro s hs
    rw [wY_common_26]
    refine pk_le 60 s (fun h => by omega) (fun _ => ?_)
    exact br_t rfl (nm_r (nI_1 s) (ih (s + 1) (by omega)))
theorem yb_gcd_one {post : Int32 → Prop} {g a s d : Nat} (hg : g < 2 ^ 31) (ha : a < 2 ^ 31) (h0 : 0 < a) (hs : s < 60) (h : wY_common_26 post gn gp gc qN qD pA pB pC pD yX yY yZ yW yP yF d (nI a) (nI (g % a)) (nI (s + 1))) : wY_common_26 post gn gp gc qN qD pA pB pC pD yX yY yZ yW yP yF (d + 1) (nI g) (nI a) (nI s) := by
  rw [wY_common_26]
  refine pk_le 60 s (fun h => by omega) (fun _ => ?_)
  have ne : ¬ nI a = 0 := nI_ne0 h0 ha
  refine br_f ne (br_f ne ?_)
  unfold wY_common_50
  exact ⟨ne, nm_r (pk_rem hg h0 ha) (nm_r (nI_1 s) h)⟩
theorem yb_gcd_loop {post : Int32 → Prop} : ∀ k g a s d, s + d = 60 → s + 2 * k ≤ 60 → a < 2 ^ k → g < 2 ^ 31 → a < 2 ^ 31 → post (nI (if Nat.gcd g a < 1 then 1 else Nat.gcd g a)) → wY_common_26 post gn gp gc qN qD pA pB pC pD yX yY yZ yW yP yF (d + 1) (nI g) (nI a) (nI s) := by
  intro k
  induction k with
  | zero =>
    intro g a s d hs hk ha hg ha' h
    have e : a = 0 := by omega
    subst e
    rw [Nat.gcd_zero_right] at h
    exact yb_gcd_idle hg h d s hs
  | succ k ih =>
    intro g a s d hs hk ha hg ha' h
    by_cases e : a = 0
    · subst e
      rw [Nat.gcd_zero_right] at h
      exact yb_gcd_idle hg h d s hs
    · have m1 : g % a < a := Nat.mod_lt g (by omega)
      have e1 : Nat.gcd g a = Nat.gcd a (g % a) := by rw [Nat.gcd_comm a, ← Nat.gcd_rec, Nat.gcd_comm]
      obtain ⟨d1, rfl⟩ : ∃ d1, d = d1 + 1 := ⟨d - 1, by omega⟩
      refine yb_gcd_one hg ha' (by omega) (by omega) ?_
      by_cases e2 : g % a = 0
      · rw [e1, e2, Nat.gcd_zero_right] at h
        rw [e2]
        exact yb_gcd_idle ha' h d1 (s + 1) (by omega)
      · obtain ⟨d2, rfl⟩ : ∃ d2, d1 = d2 + 1 := ⟨d1 - 1, by omega⟩
        have m2 : a % (g % a) < g % a := Nat.mod_lt a (by omega)
        have m3 : 2 * (a % (g % a)) < a := by
          have : a % (g % a) ≤ a - g % a := by
            have h1 := Nat.mod_eq_sub_mod (a := a) (b := g % a) (by omega)
            rw [h1]
            exact Nat.mod_le _ _
          omega
        have e3 : Nat.gcd a (g % a) = Nat.gcd (g % a) (a % (g % a)) := by rw [Nat.gcd_comm (g % a), ← Nat.gcd_rec, Nat.gcd_comm]
        refine yb_gcd_one ha' (by omega) (by omega) (by omega) ?_
        rw [e1, e3] at h
        have pw : 2 ^ (k + 1) = 2 * 2 ^ k := by rw [Nat.pow_succ]; omega
        exact ih (g % a) (a % (g % a)) (s + 1 + 1) d2 (by omega) (by omega) (by omega) (by omega) (by omega) h
theorem yb_gcd {post : Int32 → Prop} {a b : Int} (ha : -1073741824 < a ∧ a < 1073741824) (hb : -1073741824 < b ∧ b < 1073741824) (h : post (nI (if Nat.gcd a.natAbs b.natAbs < 1 then 1 else Nat.gcd a.natAbs b.natAbs))) : wpY_common post (gn, gp, gc, qN, qD, pA, pB, pC, pD, yX, yY, yZ, yW, yP, yF) (zi_I a) (zi_I b) := by
  have ra : zi_R a := ⟨by omega, by omega⟩
  have rb : zi_R b := ⟨by omega, by omega⟩
  have fin : ∀ y : Int32, y = nI b.natAbs → ∀ x : Int32, x = nI a.natAbs → wY_common_26 post gn gp gc qN qD pA pB pC pD yX yY yZ yW yP yF 61 x y 0 := by
    intro y ey x ex
    rw [ey, ex]
    exact yb_gcd_loop 30 a.natAbs b.natAbs 0 60 (by omega) (by omega) (by omega) (by omega) (by omega) h
  have two : ∀ x : Int32, x = nI a.natAbs → wY_common_10 post (zi_I b) x gn gp gc qN qD pA pB pC pD yX yY yZ yW yP yF := by
    intro x ex
    unfold wY_common_10
    rw [zi_ge0 rb]
    refine br_c (fun h0 => ⟨61, fin _ ?_ _ ex⟩) (fun h0 => nm_e ⟨61, fin _ ?_ _ ex⟩)
    · rw [zi_nI]; congr 1; omega
    · rw [zi_nI, zi_neg]; congr 1; omega
  simp only [wpY_common]
  rw [zi_ge0 ra]
  refine br_c (fun h0 => two _ ?_) (fun h0 => two _ ?_)
  · rw [zi_nI]; congr 1; omega
  · rw [zi_nI, zi_neg]; congr 1; omega
end
end
section
/-! lists of corners and one more plane: what is kept, what is new -/
theorem hb_same_tr {a b c : hb_Q} (hb : 0 < b.2.2.2) (h1 : hb_Same a b) (h2 : hb_Same b c) : hb_Same a c := by
  obtain ⟨a1, a2, a3⟩ := h1
  obtain ⟨b1, b2, b3⟩ := h2
  have q0 : b.2.2.2 ≠ 0 := by omega
  refine ⟨?_, ?_, ?_⟩ <;> apply Int.eq_of_mul_eq_mul_left q0 <;> grind
section
variable {P : Nat → hb_Q} {S : Nat → Prop} {c : Nat} {v : Nat → hb_Q}
theorem hb_list_ne (h : hb_MD (hb_K P S) c v) {k l : Nat} (hk : k < c) (hl : l < c) (hn : k ≠ l) : ¬ hb_Same (v k) (v l) := fun s => hn (h.2.2 k l hk hl (hb_nrm_eq (h.1 k hk).2 (h.1 l hl).2 s))
theorem hb_nb_iff (hS : hb_Sys P S) (h : hb_MD (hb_K P S) c v) {k l : Nat} (hk : k < c) (hl : l < c) (hn : k ≠ l) : (∀ m, m < c → m ≠ k → m ≠ l → ¬ ∀ i, i < 32 → (hb_T P S (v k) i ∧ hb_T P S (v l) i) → hb_T P S (v m) i) ↔ hb_R2 P (hb_Com P S (v k) (v l)) := by
  constructor
  · intro hm
    refine Classical.byContradiction fun hr => ?_
    obtain ⟨u, vu, n1, n2, hc⟩ := hb_third hS (h.1 k hk).1 (h.1 l hl).1 (hb_list_ne h hk hl hn) hr
    obtain ⟨m, hmc, sm⟩ := hb_vx_list h vu
    have wm := (h.1 m hmc).1.1.1
    have a1 : m ≠ k := fun e => n1 (e ▸ sm)
    have a2 : m ≠ l := fun e => n2 (e ▸ sm)
    exact hm m hmc a1 a2 (fun i _ hi => (hb_same_T vu.1.1 wm sm i).mp (hc i hi.1 hi.2))
  · intro hr m hmc n1 n2 ha
    exact hb_no_third (h.1 k hk).1 (h.1 l hl).1 (h.1 m hmc).1 (hb_list_ne h hk hl hn) (hb_list_ne h hmc hk n1) (hb_list_ne h hmc hl n2) hr (fun i h1 h2 => ha i (by have := (hS.2.2 i h1.1).1; omega) ⟨h1, h2⟩)
/-- one crossing -/
def hb_X (P : Nat → hb_Q) (S : Nat → Prop) (p : Nat) (a b : hb_Q) : Prop := 0 < hb_val (P p) a ∧ hb_val (P p) b < 0 ∧ hb_R2 P (hb_Com P S a b)
theorem hb_crx {p : Nat} {a b : hb_Q} (ha : hb_K P S a) (hb : hb_K P S b) (hx : hb_X P S p a b) : hb_K P (hb_add S p) (hb_red (hb_cr P p a b)) ∧ hb_Same (hb_cr P p a b) (hb_red (hb_cr P p a b)) ∧ ∀ i, hb_T P (hb_add S p) (hb_red (hb_cr P p a b)) i ↔ (hb_Com P S a b i ∨ i = p) := by
  obtain ⟨pa, pb, r⟩ := hx
  have vx := hb_cr_Vx ha.1.1 hb.1.1 pa pb r
  have w := vx.1.1
  have rd := hb_red_Red w
  refine ⟨⟨hb_same_Vx vx rd.1.1 rd.2, rd.1⟩, rd.2, fun i => ?_⟩
  rw [← hb_same_T w rd.1.1 rd.2 i, hb_add_T, hb_cr_T ha.1.1 hb.1.1 pa pb i, hb_cr_val]
  constructor
  · intro hh
    rcases hh with hh | hh
    · exact Or.inl hh
    · exact Or.inr hh.1
  · intro hh
    rcases hh with hh | hh
    · exact Or.inl hh
    · exact Or.inr ⟨hh, rfl⟩
def hb_K1 (P : Nat → hb_Q) (p : Nat) (v : Nat → hb_Q) (k : Nat) (q : hb_Q) : Prop := ∃ j, j < k ∧ 0 ≤ hb_val (P p) (v j) ∧ q = v j
def hb_K2 (P : Nat → hb_Q) (S : Nat → Prop) (p c : Nat) (v : Nat → hb_Q) (k l : Nat) (q : hb_Q) : Prop := hb_K1 P p v c q ∨ ∃ k' l', (k' < k ∨ (k' = k ∧ l' < l)) ∧ k' < c ∧ l' < c ∧ hb_X P S p (v k') (v l') ∧ q = hb_red (hb_cr P p (v k') (v l'))
theorem hb_K1_K (h : hb_MD (hb_K P S) c v) {p k : Nat} (hk : k ≤ c) {q : hb_Q} (hq : hb_K1 P p v k q) : hb_K P (hb_add S p) q := by
  obtain ⟨j, hj, h0, e⟩ := hq
  rw [e]
  have := h.1 j (by omega)
  exact ⟨hb_cut_keep this.1 h0, this.2⟩
theorem hb_K2_K (h : hb_MD (hb_K P S) c v) {p k l : Nat} {q : hb_Q} (hq : hb_K2 P S p c v k l q) : hb_K P (hb_add S p) q := by
  rcases hq with hq | ⟨k', l', -, hk, hl, hx, e⟩
  · exact hb_K1_K h (Nat.le_refl c) hq
  · rw [e]
    exact (hb_crx (h.1 k' hk) (h.1 l' hl) hx).1
theorem hb_K2_new (h : hb_MD (hb_K P S) c v) {p k l : Nat} (hk : k < c) (hl : l < c) (hx : hb_X P S p (v k) (v l)) : ¬ hb_K2 P S p c v k l (hb_red (hb_cr P p (v k) (v l))) := by
  intro hq
  have kx := hb_crx (h.1 k hk) (h.1 l hl) hx
  rcases hq with ⟨j, hj, h0, e⟩ | ⟨k', l', ho, hk', hl', hx', e⟩
  · have s := kx.2.1
    rw [e] at s
    exact hb_cr_new (h.1 k hk).1 (h.1 l hl).1 hx.1 hx.2.1 (h.1 j hj).1 s
  · have kx' := hb_crx (h.1 k' hk') (h.1 l' hl') hx'
    have s := kx.2.1
    rw [e] at s
    have s2 := hb_same_tr kx'.1.2.1 s (hb_same_symm kx'.2.1)
    obtain ⟨s3, s4⟩ := hb_cr_inj (h.1 k hk).1 (h.1 l hl).1 hx.1 hx.2.1 hx.2.2 (h.1 k' hk').1 (h.1 l' hl').1 hx'.1 hx'.2.1 s2
    have e1 := h.2.2 k' k hk' hk (hb_nrm_eq (h.1 k' hk').2 (h.1 k hk).2 s3)
    have e2 := h.2.2 l' l hl' hl (hb_nrm_eq (h.1 l' hl').2 (h.1 l hl).2 s4)
    omega
theorem hb_K2_all (hS : hb_Sys P S) (h : hb_MD (hb_K P S) c v) {p : Nat} (q : hb_Q) : hb_K2 P S p c v c 0 q ↔ hb_K P (hb_add S p) q := by
  constructor
  · exact hb_K2_K h
  · intro hq
    rcases hb_cut_all hS hq.1 with hv | ⟨a, b, va, vb, pa, pb, r, s⟩
    · obtain ⟨j, hj, e⟩ := h.2.1 q ⟨hv, hq.2⟩
      refine Or.inl ⟨j, hj, ?_, e.symm⟩
      rw [e]
      exact (hb_add_in.mp hq.1.1).2
    · obtain ⟨k, hk, sk⟩ := hb_vx_list h va
      obtain ⟨l, hl, sl⟩ := hb_vx_list h vb
      have wk := (h.1 k hk).1.1.1
      have wl := (h.1 l hl).1.1.1
      have pk : 0 < hb_val (P p) (v k) := by
        have e := hb_same_val sk (P p)
        have := Int.mul_pos pa wk
        rw [e] at this
        exact Int.pos_of_mul_pos_left this va.1.1
      have pl : hb_val (P p) (v l) < 0 := by
        have e := hb_same_val sl (P p)
        have := Int.mul_neg_of_neg_of_pos pb wl
        rw [e] at this
        exact Int.neg_of_mul_neg_left this vb.1.1
      have rr : hb_R2 P (hb_Com P S (v k) (v l)) := hb_R2_mono (fun i hi => ⟨(hb_same_T va.1.1 wk sk i).mp hi.1, (hb_same_T vb.1.1 wl sl i).mp hi.2⟩) r
      have hx : hb_X P S p (v k) (v l) := ⟨pk, pl, rr⟩
      have kx := hb_crx (h.1 k hk) (h.1 l hl) hx
      refine Or.inr ⟨k, l, Or.inl hk, hk, hl, hx, hb_nrm_eq hq.2 kx.1.2 ?_⟩
      obtain ⟨i, j, hi, hj, hp⟩ := rr
      have d := hb_cr_det (h.1 k hk).1.1.1 (h.1 l hl).1.1.1 pk pl hi.1.2 hi.2.2 hj.1.2 hj.2.2 hp
      have hi' := (kx.2.2 i).mpr (Or.inl hi)
      have hj' := (kx.2.2 j).mpr (Or.inl hj)
      have hp' := (kx.2.2 p).mpr (Or.inr rfl)
      have wab := (hb_cr_in va.1 vb.1 pa pb).1
      have ti : ∀ n, hb_Com P S (v k) (v l) n → hb_val (P n) q = 0 := fun n hn => by
        have h1 : hb_Com P S a b n := ⟨(hb_same_T va.1.1 wk sk n).mpr hn.1, (hb_same_T vb.1.1 wl sl n).mpr hn.2⟩
        exact hb_same_tight wab hq.2.1 s ((hb_cr_T va.1 vb.1 pa pb n).mpr h1).2
      exact hb_uniq d (ti i hi) (ti j hj) (hb_same_tight wab hq.2.1 s (hb_cr_val P p a b)) hi'.2 hj'.2 hp'.2
theorem hb_K2_step (h : hb_MD (hb_K P S) c v) {p k l : Nat} (hk : k < c) (hl : l < c) (q : hb_Q) : hb_K2 P S p c v k (l + 1) q ↔ (hb_K2 P S p c v k l q ∨ (hb_X P S p (v k) (v l) ∧ q = hb_red (hb_cr P p (v k) (v l)))) := by
  constructor
  · intro hq
    rcases hq with hq | ⟨k', l', ho, hk', hl', hx', e⟩
    · exact Or.inl (Or.inl hq)
    · by_cases he : k' = k ∧ l' = l
      · obtain ⟨e1, e2⟩ := he
        subst e1; subst e2
        exact Or.inr ⟨hx', e⟩
      · exact Or.inl (Or.inr ⟨k', l', by omega, hk', hl', hx', e⟩)
  · intro hq
    rcases hq with hq | ⟨hx, e⟩
    · rcases hq with hq | ⟨k', l', ho, hk', hl', hx', e⟩
      · exact Or.inl hq
      · exact Or.inr ⟨k', l', by omega, hk', hl', hx', e⟩
    · exact Or.inr ⟨k, l, Or.inr ⟨rfl, by omega⟩, hk, hl, hx, e⟩
theorem hb_K2_row {p k : Nat} (q : hb_Q) : hb_K2 P S p c v k c q ↔ hb_K2 P S p c v (k + 1) 0 q := by
  constructor
  · intro hq
    rcases hq with hq | ⟨k', l', ho, hk', hl', hx', e⟩
    · exact Or.inl hq
    · exact Or.inr ⟨k', l', by omega, hk', hl', hx', e⟩
  · intro hq
    rcases hq with hq | ⟨k', l', ho, hk', hl', hx', e⟩
    · exact Or.inl hq
    · exact Or.inr ⟨k', l', by omega, hk', hl', hx', e⟩
theorem hb_K2_0 {p : Nat} (q : hb_Q) : hb_K1 P p v c q ↔ hb_K2 P S p c v 0 0 q := by
  constructor
  · exact Or.inl
  · intro hq
    rcases hq with hq | ⟨k', l', ho, -⟩
    · exact hq
    · omega
theorem hb_K1_step {p k : Nat} (q : hb_Q) : hb_K1 P p v (k + 1) q ↔ (hb_K1 P p v k q ∨ (0 ≤ hb_val (P p) (v k) ∧ q = v k)) := by
  constructor
  · intro ⟨j, hj, h0, e⟩
    by_cases he : j = k
    · subst he; exact Or.inr ⟨h0, e⟩
    · exact Or.inl ⟨j, by omega, h0, e⟩
  · intro hq
    rcases hq with ⟨j, hj, h0, e⟩ | ⟨h0, e⟩
    · exact ⟨j, by omega, h0, e⟩
    · exact ⟨k, by omega, h0, e⟩
theorem hb_K1_new (h : hb_MD (hb_K P S) c v) {p k : Nat} (hk : k < c) : ¬ hb_K1 P p v k (v k) := fun ⟨j, hj, _, e⟩ => by
  have := h.2.2 k j hk (by omega) e
  omega
end
end
section
/-! X: one more plane -/
def xb_C (P : Nat → hb_Q) (S : Nat → Prop) (c : Nat) (tX tY tZ tW tP : Nat → Int32) : Prop := hb_MD (hb_K P S) c (hb_qt tX tY tZ tW) ∧ ∀ k, k < c → hb_Bits (tP k) (hb_T P S (hb_qt tX tY tZ tW k))
/-- made corners: those of K, with their planes -/
def xb_M (P : Nat → hb_Q) (S : Nat → Prop) (K : hb_Q → Prop) (c : Nat) (mX mY mZ mW mP : Nat → Int32) : Prop := hb_MD K c (hb_qt mX mY mZ mW) ∧ ∀ k, k < c → hb_Bits (mP k) (hb_T P S (hb_qt mX mY mZ mW k))
theorem hb_qt_un {x y z w : Nat → Int32} {m j : Nat} {a b c d : Int32} (h : j ≠ m) : hb_qt (upd x m a) (upd y m b) (upd z m c) (upd w m d) j = hb_qt x y z w j := by
  simp only [hb_qt, pk_un h]
theorem hb_qt_us {x y z w : Nat → Int32} {m : Nat} {a b c d : Int32} : hb_qt (upd x m a) (upd y m b) (upd z m c) (upd w m d) m = (a.toInt, b.toInt, c.toInt, d.toInt) := by
  simp only [hb_qt, pk_us]
theorem xb_M_push {P : Nat → hb_Q} {S : Nat → Prop} {K K' : hb_Q → Prop} {c : Nat} {mX mY mZ mW mP : Nat → Int32} (h : xb_M P S K c mX mY mZ mW mP) {q : hb_Q} {a b x d t : Int32} (hq : (a.toInt, b.toInt, x.toInt, d.toInt) = q) (hn : ¬ K q) (ht : hb_Bits t (hb_T P S q)) (hK : ∀ r, K' r ↔ (K r ∨ r = q)) : xb_M P S K' (c + 1) (upd mX c a) (upd mY c b) (upd mZ c x) (upd mW c d) (upd mP c t) := by
  obtain ⟨h1, h2⟩ := h
  refine ⟨?_, fun k hk => ?_⟩
  · have := hb_md_push (m' := hb_qt (upd mX c a) (upd mY c b) (upd mZ c x) (upd mW c d)) h1 hn (fun j hj => hb_qt_un (by omega)) (by rw [hb_qt_us]; exact hq)
    exact hb_md_congr this (fun r => (hK r).symm) (fun j _ => rfl)
  · by_cases e : k = c
    · subst e
      rw [pk_us, hb_qt_us, hq]
      exact ht
    · rw [pk_un e, hb_qt_un e]
      exact h2 k (by omega)
theorem xb_M_congr {P : Nat → hb_Q} {S : Nat → Prop} {K K' : hb_Q → Prop} {c : Nat} {mX mY mZ mW mP : Nat → Int32} (h : xb_M P S K c mX mY mZ mW mP) (hK : ∀ r, K r ↔ K' r) : xb_M P S K' c mX mY mZ mW mP := ⟨hb_md_congr h.1 hK (fun _ _ => rfl), h.2⟩
theorem hb_K_R {P : Nat → hb_Q} {S : Nat → Prop} (hS : hb_Sys P S) {q : hb_Q} (h : hb_K P S q) : ((zi_I q.1).toInt, (zi_I q.2.1).toInt, (zi_I q.2.2.1).toInt, (zi_I q.2.2.2).toInt) = q := by
  obtain ⟨b1, b2, b3, b4⟩ := hb_K_bd hS h
  rw [zi_t ⟨by omega, by omega⟩, zi_t ⟨by omega, by omega⟩, zi_t ⟨by omega, by omega⟩, zi_t ⟨by omega, by omega⟩]
theorem hb_md_le {P : Nat → hb_Q} {S : Nat → Prop} (hS : hb_Sys P S) {K : hb_Q → Prop} {c : Nat} {m : Nat → hb_Q} (h : hb_MD K c m) (hK : ∀ q, K q → hb_K P S q) : c ≤ 32 := hb_le32 hS (fun j hj => hK _ (h.1 j hj)) h.2.2
section
variable {fn fb fc fm fk : Int32} {fT fB : Int64} {aA aB aC aL tX tY tZ tW tP mX mY mZ mW mP kX kY kZ kW aH aD : Nat → Int32} {aI : Nat → Int64}
theorem xb_areC {post : Int32 → Prop} {P : Nat → hb_Q} {S : Nat → Prop} (hS : hb_Sys P S) {c : Nat} (hC : xb_C P S c tX tY tZ tW tP) {k l : Nat} (hk : k < c) (hl : l < c) (h1 : k ≠ l → hb_R2 P (hb_Com P S (hb_qt tX tY tZ tW k) (hb_qt tX tY tZ tW l)) → post 1) (h0 : (k = l ∨ ¬ hb_R2 P (hb_Com P S (hb_qt tX tY tZ tW k) (hb_qt tX tY tZ tW l))) → post 0) : wpX_areNeighbours post (fn, fb, nI c, fm, fk, fT, fB, aA, aB, aC, aL, tX, tY, tZ, tW, tP, mX, mY, mZ, mW, mP, aI, kX, kY, kZ, kW, aH, aD) (nI k) (nI l) := by
  have c32 := hb_md_le hS hC.1 (fun _ h => h)
  refine xb_areN (by omega) hk hl hC.2 (fun ne h => h1 ne ((hb_nb_iff hS hC.1 hk hl ne).mp h)) (fun h => ?_)
  by_cases e : k = l
  · exact h0 (Or.inl e)
  · rcases h with h | ⟨m, hm, n1, n2, ha⟩
    · exact absurd h e
    · exact h0 (Or.inr fun r => (hb_nb_iff hS hC.1 hk hl e).mpr r m hm n1 n2 ha)
theorem xb_addCrossing {post : SX → Prop} {k l p m : Nat} (hk : k < 64) (hl : l < 64) (hm : m < 64) {a b : Int} (ha : aI k = zi_L a) (hb : aI l = zi_L b) {q : hb_Q} (hq : hb_lin (-b) a (hb_qt tX tY tZ tW k) (hb_qt tX tY tZ tW l) = q) (q1 : -4611686018427387904 < q.1 ∧ q.1 < 4611686018427387904) (q2 : -4611686018427387904 < q.2.1 ∧ q.2.1 < 4611686018427387904) (q3 : -4611686018427387904 < q.2.2.1 ∧ q.2.2.1 < 4611686018427387904) (q4 : 0 < q.2.2.2 ∧ q.2.2.2 < 4611686018427387904) (h : post (fn, fb, fc, nI (m + 1), fk, fT, fB, aA, aB, aC, aL, tX, tY, tZ, tW, tP, upd mX m (zi_I (hb_red q).1), upd mY m (zi_I (hb_red q).2.1), upd mZ m (zi_I (hb_red q).2.2.1), upd mW m (zi_I (hb_red q).2.2.2), upd mP m ((tP k &&& tP l) ||| ((1 : Int32) <<< (nI p &&& 31))), aI, kX, kY, kZ, kW, aH, aD)) : wpX_addCrossing post (fn, fb, fc, nI m, fk, fT, fB, aA, aB, aC, aL, tX, tY, tZ, tW, tP, mX, mY, mZ, mW, mP, aI, kX, kY, kZ, kW, aH, aD) (nI k) (nI l) (nI p) := by
  have e1 : (-b) * (tX k).toInt + a * (tX l).toInt = q.1 := congrArg (fun v : hb_Q => v.1) hq
  have e2 : (-b) * (tY k).toInt + a * (tY l).toInt = q.2.1 := congrArg (fun v : hb_Q => v.2.1) hq
  have e3 : (-b) * (tZ k).toInt + a * (tZ l).toInt = q.2.2.1 := congrArg (fun v : hb_Q => v.2.2.1) hq
  have e4 : (-b) * (tW k).toInt + a * (tW l).toInt = q.2.2.2 := congrArg (fun v : hb_Q => v.2.2.2) hq
  have g0 := hb_gq_pos q4.1
  obtain ⟨m1, m2, m3, m4⟩ := hb_red_mul (v := q)
  have gw : hb_gq q ≤ q.2.2.2.natAbs := Nat.le_of_dvd (by omega) (Nat.gcd_dvd_right _ _)
  have gr : zi_RL (hb_gq q : Int) := ⟨by omega, by omega⟩
  have gne : ¬ zi_L (hb_gq q : Int) = 0 := fun z => by
    have := (zl_eq0 gr).mp z
    omega
  have dv : ∀ x y : Int, y * (hb_gq q : Int) = x → -4611686018427387904 < x → x < 4611686018427387904 → (zi_L x / zi_L (hb_gq q : Int)).toInt32 = zi_I y := by
    intro x y e l1 l2
    rw [← e] at l1 l2
    rw [← e, zl_dv (by omega) ⟨by omega, by omega⟩ gr, zl_32]
  simp only [wpX_addCrossing, xb_in hk (by omega : 64 < 2 ^ 31), xb_in hl (by omega : 64 < 2 ^ 31), forall_eq, nI_clamp (by omega : k < 2 ^ 31), nI_clamp (by omega : l < 2 ^ 31), true_and, ha, hb, zi_64, zl_neg, zl_mul, zl_add, e1, e2, e3, e4]
  refine xb_gcd ⟨by omega, by omega⟩ ⟨by omega, by omega⟩ ?_
  have n1 : Nat.gcd q.1.natAbs q.2.1.natAbs < 9223372036854775808 := by
    rcases Nat.eq_zero_or_pos q.1.natAbs with z | z
    · rw [z, Nat.gcd_zero_left]; omega
    · have := Nat.le_of_dvd z (Nat.gcd_dvd_left q.1.natAbs q.2.1.natAbs); omega
  refine xb_gcd ⟨by omega, by omega⟩ ⟨by omega, by omega⟩ ?_
  rw [Int.natAbs_natCast]
  have n2 : Nat.gcd (Nat.gcd q.1.natAbs q.2.1.natAbs) q.2.2.1.natAbs < 9223372036854775808 := by
    rcases Nat.eq_zero_or_pos (Nat.gcd q.1.natAbs q.2.1.natAbs) with z | z
    · rw [z, Nat.gcd_zero_left]; omega
    · have := Nat.le_of_dvd z (Nat.gcd_dvd_left (Nat.gcd q.1.natAbs q.2.1.natAbs) q.2.2.1.natAbs); omega
  refine xb_gcd ⟨by omega, by omega⟩ ⟨by omega, by omega⟩ ?_
  rw [Int.natAbs_natCast]
  have eg : Nat.gcd (Nat.gcd (Nat.gcd q.1.natAbs q.2.1.natAbs) q.2.2.1.natAbs) q.2.2.2.natAbs = hb_gq q := rfl
  rw [eg]
  simp only [gne, not_false_iff, true_and, dv _ _ m1 q1.1 q1.2, dv _ _ m2 q2.1 q2.2, dv _ _ m3 q3.1 q3.2, dv _ _ m4 (by omega) q4.2]
  exact xb_addMade hm h
end
end
section
/-! X: one more plane, its loops -/
section
variable {fn fb fc fm fk : Int32} {fT fB : Int64} {aA aB aC aL tX tY tZ tW tP mX mY mZ mW mP kX kY kZ kW aH aD : Nat → Int32} {aI : Nat → Int64}
theorem xb_ap177 {post : SX → Prop} {m : Nat} (hm : m ≤ 64) (h : ∀ tX tY tZ tW tP : Nat → Int32, (∀ i, i < m → tX i = mX i ∧ tY i = mY i ∧ tZ i = mZ i ∧ tW i = mW i ∧ tP i = mP i) → post (fn, fb, fc, nI m, fk, fT, fB, aA, aB, aC, aL, tX, tY, tZ, tW, tP, mX, mY, mZ, mW, mP, aI, kX, kY, kZ, kW, aH, aD)) : ∀ (d j : Nat) (tX tY tZ tW tP : Nat → Int32), j + d = m → (∀ i, i < j → tX i = mX i ∧ tY i = mY i ∧ tZ i = mZ i ∧ tW i = mW i ∧ tP i = mP i) → wX_applyPlane_177 post fn fb fc (nI m) fk fT fB (d + 1) (nI j) aA aB aC aL tX tY tZ tW tP mX mY mZ mW mP aI kX kY kZ kW aH aD := by
  intro d
  induction d with
  | zero =>
    intro j tX tY tZ tW tP hj hp
    rw [wX_applyPlane_177]
    have e : j = m := by omega
    subst e
    exact br_t (nI_le (Nat.le_refl _) (by omega)) (h tX tY tZ tW tP hp)
  | succ d ih =>
    intro j tX tY tZ tW tP hj hp
    rw [wX_applyPlane_177]
    refine br_f (nI_ge (by omega) (by omega)) ?_
    simp only [xb_in (by omega : j < 64) (by omega : 64 < 2 ^ 31), forall_eq, nI_clamp (by omega : j < 2 ^ 31), true_and, nI_1]
    refine ih (j + 1) _ _ _ _ _ (by omega) (fun i hi => ?_)
    by_cases e : i = j
    · subst e
      simp only [pk_us, and_self]
    · simp only [pk_un e]
      exact hp i (by omega)
variable {P : Nat → hb_Q} {S : Nat → Prop} {p c : Nat}
theorem xb_ap109 {post : SX → Prop} {J : Int32 → Int32 → Int32 → Int32 → Int32 → Int32 → Int64 → Int64 → (Nat → Int32) → (Nat → Int32) → (Nat → Int32) → (Nat → Int32) → (Nat → Int32) → (Nat → Int32) → (Nat → Int32) → (Nat → Int32) → (Nat → Int32) → (Nat → Int32) → (Nat → Int32) → (Nat → Int32) → (Nat → Int32) → (Nat → Int32) → (Nat → Int64) → (Nat → Int32) → (Nat → Int32) → (Nat → Int32) → (Nat → Int32) → (Nat → Int32) → (Nat → Int32) → Prop} (hp : p < 16) (hS : hb_Sys P S) (hS' : hb_Sys P (hb_add S p)) (hC : xb_C P S c tX tY tZ tW tP) (hI : ∀ j, j < c → aI j = zi_L (hb_val (P p) (hb_qt tX tY tZ tW j))) {k : Nat} (hk : k < c) (hJ : ∀ (m : Nat) (mX mY mZ mW mP : Nat → Int32), xb_M P (hb_add S p) (hb_K2 P S p c (hb_qt tX tY tZ tW) (k + 1) 0) m mX mY mZ mW mP → J (nI (k + 1)) fn fb (nI c) (nI m) fk fT fB aA aB aC aL tX tY tZ tW tP mX mY mZ mW mP aI kX kY kZ kW aH aD) : ∀ (d l m : Nat) (mX mY mZ mW mP : Nat → Int32), l + d = c → xb_M P (hb_add S p) (hb_K2 P S p c (hb_qt tX tY tZ tW) k l) m mX mY mZ mW mP → wX_applyPlane_109 post J (nI p) (nI k) (d + 1) (nI l) fn fb (nI c) (nI m) fk fT fB aA aB aC aL tX tY tZ tW tP mX mY mZ mW mP aI kX kY kZ kW aH aD := by
  have c32 := hb_md_le hS hC.1 (fun _ h => h)
  intro d
  induction d with
  | zero =>
    intro l m mX mY mZ mW mP hl hM
    have e : l = c := by omega
    subst e
    rw [wX_applyPlane_109]
    exact br_t (nI_le (Nat.le_refl _) (by omega)) (nm_r (nI_1 k) (hJ m mX mY mZ mW mP (xb_M_congr hM (fun r => hb_K2_row r))))
  | succ d ih =>
    intro l m mX mY mZ mW mP hl hM
    have lc : l < c := by omega
    have m32 := hb_md_le hS' hM.1 (fun _ h => hb_K2_K hC.1 h)
    have bp := (hS'.2.2 p (Or.inr rfl)).2
    have bk := hb_val_bd bp (hb_K_bd hS (hC.1.1 k hk))
    have bl := hb_val_bd bp (hb_K_bd hS (hC.1.1 l lc))
    have skip : ¬ hb_X P S p (hb_qt tX tY tZ tW k) (hb_qt tX tY tZ tW l) → wX_applyPlane_109 post J (nI p) (nI k) (d + 1) (nI (l + 1)) fn fb (nI c) (nI m) fk fT fB aA aB aC aL tX tY tZ tW tP mX mY mZ mW mP aI kX kY kZ kW aH aD := fun hx =>
      ih (l + 1) m mX mY mZ mW mP (by omega) (xb_M_congr hM (fun r => ⟨fun h => (hb_K2_step hC.1 hk lc r).mpr (Or.inl h), fun h => ((hb_K2_step hC.1 hk lc r).mp h).elim id (fun h => absurd h.1 hx)⟩))
    rw [wX_applyPlane_109]
    refine br_f (nI_ge (by omega) (by omega)) ?_
    simp only [xb_in (by omega : k < 64) (by omega : 64 < 2 ^ 31), xb_in (by omega : l < 64) (by omega : 64 < 2 ^ 31), forall_eq, nI_clamp (by omega : k < 2 ^ 31), nI_clamp (by omega : l < 2 ^ 31), true_and, nI_1, hI k hk, hI l lc, zl_le0 (a := hb_val (P p) (hb_qt tX tY tZ tW k)) ⟨by omega, by omega⟩, zl_ge0 (a := hb_val (P p) (hb_qt tX tY tZ tW l)) ⟨by omega, by omega⟩]
    refine br_c (fun h => skip (fun hx => by have := hx.1; omega)) (fun h1 => br_c (fun h => skip (fun hx => by have := hx.2.1; omega)) (fun h2 => ?_))
    refine xb_areC hS hC hk lc (fun ne hr => ?_) (fun hr => ?_)
    · refine br_f (by decide) ?_
      have hx : hb_X P S p (hb_qt tX tY tZ tW k) (hb_qt tX tY tZ tW l) := ⟨by omega, by omega, hr⟩
      have kx := hb_crx (hC.1.1 k hk) (hC.1.1 l lc) hx
      have cb1 := hb_K_bd hS (hC.1.1 k hk)
      have cb2 := hb_K_bd hS (hC.1.1 l lc)
      have wq := (hb_cr_in (hC.1.1 k hk).1.1 (hC.1.1 l lc).1.1 hx.1 hx.2.1).1
      obtain ⟨x1, x2, x3, x4⟩ := cb1
      obtain ⟨y1, y2, y3, y4⟩ := cb2
      have bl' : -100000 ≤ - hb_val (P p) (hb_qt tX tY tZ tW l) ∧ - hb_val (P p) (hb_qt tX tY tZ tW l) ≤ 100000 := by omega
      have u1 := hb_mulb bl' x1
      have u2 := hb_mulb bl' x2
      have u3 := hb_mulb bl' x3
      have u4 := hb_mulb bl' (by omega : -384 ≤ (hb_qt tX tY tZ tW k).2.2.2 ∧ (hb_qt tX tY tZ tW k).2.2.2 ≤ 384)
      have w1 := hb_mulb bk y1
      have w2 := hb_mulb bk y2
      have w3 := hb_mulb bk y3
      have w4 := hb_mulb bk (by omega : -384 ≤ (hb_qt tX tY tZ tW l).2.2.2 ∧ (hb_qt tX tY tZ tW l).2.2.2 ≤ 384)
      refine xb_addCrossing (q := hb_cr P p (hb_qt tX tY tZ tW k) (hb_qt tX tY tZ tW l)) (by omega) (by omega) (by omega) (hI k hk) (hI l lc) rfl ?_ ?_ ?_ ⟨wq, ?_⟩ ?_
      · simp only [hb_cr, hb_lin]; omega
      · simp only [hb_cr, hb_lin]; omega
      · simp only [hb_cr, hb_lin]; omega
      · simp only [hb_cr, hb_lin]; omega
      · refine ih (l + 1) (m + 1) _ _ _ _ _ (by omega) ?_
        refine xb_M_push hM (hb_K_R hS' kx.1) (hb_K2_new hC.1 hk lc hx) ?_ (fun r => ?_)
        · exact hb_bits_congr (hb_bits_or (hb_bits_and (hC.2 k hk) (hC.2 l lc)) (hb_bits_1 (by omega : p < 32))) (fun i _ => (kx.2.2 i).symm)
        · rw [hb_K2_step hC.1 hk lc r]
          exact ⟨fun h => h.elim Or.inl (fun h => Or.inr h.2), fun h => h.elim Or.inl (fun h => Or.inr ⟨hx, h⟩)⟩
    · refine br_t rfl (skip (fun hx => ?_))
      rcases hr with e | hr
      · subst e
        have := hx.1
        have := hx.2.1
        omega
      · exact hr hx.2.2
theorem xb_ap99 {post : SX → Prop} (hp : p < 16) (hS : hb_Sys P S) (hS' : hb_Sys P (hb_add S p)) (hC : xb_C P S c tX tY tZ tW tP) (hI : ∀ j, j < c → aI j = zi_L (hb_val (P p) (hb_qt tX tY tZ tW j))) (h : ∀ (m : Nat) (tX tY tZ tW tP mX mY mZ mW mP : Nat → Int32), xb_C P (hb_add S p) m tX tY tZ tW tP → post (fn, fb, nI m, nI m, fk, fT, fB, aA, aB, aC, aL, tX, tY, tZ, tW, tP, mX, mY, mZ, mW, mP, aI, kX, kY, kZ, kW, aH, aD)) : ∀ (d k m : Nat) (mX mY mZ mW mP : Nat → Int32), k + d = c → xb_M P (hb_add S p) (hb_K2 P S p c (hb_qt tX tY tZ tW) k 0) m mX mY mZ mW mP → wX_applyPlane_99 post (nI p) (d + 1) (nI k) fn fb (nI c) (nI m) fk fT fB aA aB aC aL tX tY tZ tW tP mX mY mZ mW mP aI kX kY kZ kW aH aD := by
  have c32 := hb_md_le hS hC.1 (fun _ h => h)
  intro d
  induction d with
  | zero =>
    intro k m mX mY mZ mW mP hk hM
    have e : k = c := by omega
    subst e
    rw [wX_applyPlane_99]
    have m32 := hb_md_le hS' hM.1 (fun _ h => hb_K2_K hC.1 h)
    refine br_t (nI_le (Nat.le_refl _) (by omega)) ⟨m + 1, ?_⟩
    refine xb_ap177 (by omega) (fun tX' tY' tZ' tW' tP' he => ?_) m 0 _ _ _ _ _ (by omega) (fun i hi => absurd hi (Nat.not_lt_zero i))
    refine h m _ _ _ _ _ _ _ _ _ _ ⟨hb_md_congr hM.1 (fun q => hb_K2_all hS hC.1 q) (fun j hj => ?_), fun j hj => ?_⟩
    · obtain ⟨e1, e2, e3, e4, e5⟩ := he j hj
      simp only [hb_qt, e1, e2, e3, e4]
    · obtain ⟨e1, e2, e3, e4, e5⟩ := he j hj
      have := hM.2 j hj
      simp only [hb_qt, e1, e2, e3, e4, e5] at this ⊢
      exact this
  | succ d ih =>
    intro k m mX mY mZ mW mP hk hM
    rw [wX_applyPlane_99]
    refine br_f (nI_ge (by omega) (by omega)) ⟨c + 1, ?_⟩
    exact xb_ap109 hp hS hS' hC hI (by omega) (fun m mX mY mZ mW mP hM => ih (k + 1) m mX mY mZ mW mP (by omega) hM) c 0 m mX mY mZ mW mP (by omega) hM
theorem xb_ap7 {post : SX → Prop} (hp : p < 16) (hS : hb_Sys P S) (hS' : hb_Sys P (hb_add S p)) (hP : hb_qt aA aB aC aL p = P p) (hC : xb_C P S c tX tY tZ tW tP) (h : ∀ (m : Nat) (tX tY tZ tW tP mX mY mZ mW mP : Nat → Int32) (aI : Nat → Int64), xb_C P (hb_add S p) m tX tY tZ tW tP → post (fn, fb, nI m, nI m, fk, fT, fB, aA, aB, aC, aL, tX, tY, tZ, tW, tP, mX, mY, mZ, mW, mP, aI, kX, kY, kZ, kW, aH, aD)) : ∀ (d k m : Nat) (mX mY mZ mW mP : Nat → Int32) (aI : Nat → Int64), k + d = c → xb_M P (hb_add S p) (hb_K1 P p (hb_qt tX tY tZ tW) k) m mX mY mZ mW mP → (∀ j, j < k → aI j = zi_L (hb_val (P p) (hb_qt tX tY tZ tW j))) → wX_applyPlane_7 post (nI p) (d + 1) (nI k) fn fb (nI c) (nI m) fk fT fB aA aB aC aL tX tY tZ tW tP mX mY mZ mW mP aI kX kY kZ kW aH aD := by
  have c32 := hb_md_le hS hC.1 (fun _ h => h)
  intro d
  induction d with
  | zero =>
    intro k m mX mY mZ mW mP aI hk hM hI
    have e : k = c := by omega
    subst e
    rw [wX_applyPlane_7]
    refine br_t (nI_le (Nat.le_refl _) (by omega)) ⟨k + 1, ?_⟩
    exact xb_ap99 hp hS hS' hC hI (fun m tX tY tZ tW tP mX mY mZ mW mP hC' => h m tX tY tZ tW tP mX mY mZ mW mP aI hC') k 0 m mX mY mZ mW mP (by omega) (xb_M_congr hM (fun r => hb_K2_0 r))
  | succ d ih =>
    intro k m mX mY mZ mW mP aI hk hM hI
    have kc : k < c := by omega
    have m32 := hb_md_le hS' hM.1 (fun _ h => hb_K1_K hC.1 (Nat.le_of_lt kc) h)
    have bp := (hS'.2.2 p (Or.inr rfl)).2
    have bk := hb_val_bd bp (hb_K_bd hS (hC.1.1 k kc))
    have hI' : ∀ j, j < k + 1 → (vp_updL aI k (zi_L (hb_val (P p) (hb_qt tX tY tZ tW k)))) j = zi_L (hb_val (P p) (hb_qt tX tY tZ tW j)) := fun j hj => by
      by_cases e : j = k
      · subst e; rw [pk_uLs]
      · rw [pk_uLn e]; exact hI j (by omega)
    rw [wX_applyPlane_7]
    refine br_f (nI_ge (by omega) (by omega)) ?_
    refine xb_distanceTo hp (by omega) ?_
    rw [hP]
    simp only [xb_in (by omega : k < 64) (by omega : 64 < 2 ^ 31), forall_eq, nI_clamp (by omega : k < 2 ^ 31), true_and, nI_1, pk_uLs, zl_lt0 (a := hb_val (P p) (hb_qt tX tY tZ tW k)) ⟨by omega, by omega⟩, zl_eq0 (a := hb_val (P p) (hb_qt tX tY tZ tW k)) ⟨by omega, by omega⟩]
    have push : 0 ≤ hb_val (P p) (hb_qt tX tY tZ tW k) → ∀ z : Int32, hb_Bits z (fun i => i = p ∧ hb_val (P p) (hb_qt tX tY tZ tW k) = 0) → wX_applyPlane_87 post (wX_applyPlane_7 post (nI p) (d + 1)) (nI p) (nI k) z (tP k) (tW k) (tZ k) (tY k) (tX k) fn fb (nI c) (nI m) fk fT fB aA aB aC aL tX tY tZ tW tP mX mY mZ mW mP (vp_updL aI k (zi_L (hb_val (P p) (hb_qt tX tY tZ tW k)))) kX kY kZ kW aH aD := by
      intro h0 z hz
      unfold wX_applyPlane_87
      refine xb_addMade (by omega) ?_
      refine nm_r (nI_1 k) (ih (k + 1) (m + 1) _ _ _ _ _ _ (by omega) ?_ hI')
      refine xb_M_push hM (q := hb_qt tX tY tZ tW k) rfl (hb_K1_new hC.1 kc) ?_ (fun r => ?_)
      · exact hb_bits_congr (hb_bits_or (hC.2 k kc) hz) (fun i _ => hb_add_T.symm)
      · rw [hb_K1_step r]
        exact ⟨fun h => h.elim Or.inl (fun h => Or.inr h.2), fun h => h.elim Or.inl (fun h => Or.inr ⟨h0, h⟩)⟩
    refine br_c (fun hn => ?_) (fun hn => br_c (fun hz => push (by omega) _ ?_) (fun hz => push (by omega) _ ?_))
    · refine ih (k + 1) m mX mY mZ mW mP _ (by omega) (xb_M_congr hM (fun r => ?_)) hI'
      rw [hb_K1_step r]
      exact ⟨Or.inl, fun h => h.elim id (fun h => absurd h.1 (by omega))⟩
    · exact hb_bits_congr (hb_bits_1 (by omega : p < 32)) (fun i _ => ⟨fun h => ⟨h, hz⟩, fun h => h.1⟩)
    · exact hb_bits_congr hb_bits_0 (fun i _ => ⟨fun h => h.elim, fun h => hz h.2⟩)
theorem xb_apply {post : SX → Prop} (hp : p < 16) (hS : hb_Sys P S) (hS' : hb_Sys P (hb_add S p)) (hP : hb_qt aA aB aC aL p = P p) (hC : xb_C P S c tX tY tZ tW tP) (h : ∀ (m : Nat) (tX tY tZ tW tP mX mY mZ mW mP : Nat → Int32) (aI : Nat → Int64), xb_C P (hb_add S p) m tX tY tZ tW tP → post (fn, fb, nI m, nI m, fk, fT, fB, aA, aB, aC, aL, tX, tY, tZ, tW, tP, mX, mY, mZ, mW, mP, aI, kX, kY, kZ, kW, aH, aD)) : wpX_applyPlane post (fn, fb, nI c, fm, fk, fT, fB, aA, aB, aC, aL, tX, tY, tZ, tW, tP, mX, mY, mZ, mW, mP, aI, kX, kY, kZ, kW, aH, aD) (nI p) := by
  refine ⟨c + 1, ?_⟩
  exact xb_ap7 hp hS hS' hP hC h c 0 0 mX mY mZ mW mP aI (by omega) ⟨hb_md_0 (fun q ⟨j, hj, _⟩ => absurd hj (Nat.not_lt_zero j)), fun k hk => absurd hk (Nat.not_lt_zero k)⟩ (fun j hj => absurd hj (Nat.not_lt_zero j))
end
end
section
/-! X: the cube, the order -/
/-- two places exchanged -/
def hb_sg (k l j : Nat) : Nat := if j = l then k else if j = k then l else j
def hb_sw (a : Nat → Int32) (k l : Nat) : Nat → Int32 := upd (upd a k (a l)) l (a k)
theorem hb_sw_at (a : Nat → Int32) (k l j : Nat) : hb_sw a k l j = a (hb_sg k l j) := by
  unfold hb_sw hb_sg upd
  by_cases e : j = l
  · rw [if_pos e, if_pos e]
  · rw [if_neg e, if_neg e]
    by_cases e2 : j = k
    · rw [if_pos e2, if_pos e2]
    · rw [if_neg e2, if_neg e2]
theorem hb_sw_qt (x y z w : Nat → Int32) (k l j : Nat) : hb_qt (hb_sw x k l) (hb_sw y k l) (hb_sw z k l) (hb_sw w k l) j = hb_qt x y z w (hb_sg k l j) := by
  simp only [hb_qt, hb_sw_at]
theorem hb_sg_lt {k l j c : Nat} (hk : k < c) (hl : l < c) (hj : j < c) : hb_sg k l j < c := by
  unfold hb_sg; split
  · exact hk
  · split
    · exact hl
    · exact hj
theorem hb_sg_sg (k l j : Nat) : hb_sg k l (hb_sg k l j) = j := by
  unfold hb_sg
  by_cases e : j = l
  · rw [if_pos e]
    by_cases e2 : k = l
    · rw [if_pos e2]; omega
    · rw [if_neg e2, if_pos rfl]; omega
  · rw [if_neg e]
    by_cases e2 : j = k
    · rw [if_pos e2, if_pos rfl]; omega
    · rw [if_neg e2, if_neg e, if_neg e2]
theorem hb_md_sw {K : hb_Q → Prop} {c k l : Nat} {m m' : Nat → hb_Q} (h : hb_MD K c m) (hk : k < c) (hl : l < c) (hm : ∀ j, m' j = m (hb_sg k l j)) : hb_MD K c m' := by
  obtain ⟨h1, h2, h3⟩ := h
  refine ⟨fun j hj => ?_, fun q hq => ?_, fun i j hi hj e => ?_⟩
  · rw [hm j]; exact h1 _ (hb_sg_lt hk hl hj)
  · obtain ⟨j, hj, e⟩ := h2 q hq
    exact ⟨hb_sg k l j, hb_sg_lt hk hl hj, by rw [hm, hb_sg_sg]; exact e⟩
  · rw [hm i, hm j] at e
    have := h3 _ _ (hb_sg_lt hk hl hi) (hb_sg_lt hk hl hj) e
    have h4 := congrArg (hb_sg k l) this
    rw [hb_sg_sg, hb_sg_sg] at h4
    exact h4
theorem xb_C_sw {P : Nat → hb_Q} {S : Nat → Prop} {c k l : Nat} {tX tY tZ tW tP : Nat → Int32} (h : xb_C P S c tX tY tZ tW tP) (hk : k < c) (hl : l < c) : xb_C P S c (hb_sw tX k l) (hb_sw tY k l) (hb_sw tZ k l) (hb_sw tW k l) (hb_sw tP k l) := by
  refine ⟨hb_md_sw h.1 hk hl (fun j => hb_sw_qt _ _ _ _ _ _ _), fun j hj => ?_⟩
  rw [hb_sw_qt, hb_sw_at]
  exact h.2 _ (hb_sg_lt hk hl hj)
/-- all but place a in order up to k, and a before those behind it -/
def hb_Ins (v : Nat → hb_Q) (k a : Nat) : Prop := (∀ i j, i < j → j ≤ k → i ≠ a → j ≠ a → hb_Bf (v i) (v j)) ∧ (∀ j, a < j → j ≤ k → hb_Bf (v a) (v j))
theorem hb_ins_0 {v : Nat → hb_Q} {k : Nat} (h : hb_Srt k v) : hb_Ins v k k := ⟨fun i j hij hj hi hjk => h i j hij (by omega), fun j h1 h2 => by omega⟩
theorem hb_ins_end {v : Nat → hb_Q} {k a : Nat} (hw : ∀ i, i ≤ k → 0 < (v i).2.2.2) (ha : a ≤ k) (h : hb_Ins v k a) (hb : a = 0 ∨ hb_Bf (v (a - 1)) (v a)) : hb_Srt (k + 1) v := by
  obtain ⟨h1, h2⟩ := h
  intro i j hij hj
  by_cases ei : i = a
  · subst ei; exact h2 j hij (by omega)
  · by_cases ej : j = a
    · subst ej
      rcases hb with hb | hb
      · omega
      · by_cases e : i = j - 1
        · subst e; exact hb
        · exact hb_bf_tr (hw i (by omega)) (hw (j - 1) (by omega)) (hw j ha) (h1 i (j - 1) (by omega) (by omega) ei (by omega)) hb
    · exact h1 i j hij (by omega) ei ej
theorem hb_ins_step {v v' : Nat → hb_Q} {k a : Nat} (ha : a + 1 ≤ k) (h : hb_Ins v k (a + 1)) (hb : hb_Bf (v (a + 1)) (v a)) (hv : ∀ j, v' j = v (hb_sg (a + 1) a j)) : hb_Ins v' k a := by
  obtain ⟨h1, h2⟩ := h
  have e0 : v' a = v (a + 1) := by rw [hv]; unfold hb_sg; rw [if_pos rfl]
  have e1 : v' (a + 1) = v a := by rw [hv]; unfold hb_sg; rw [if_neg (by omega), if_pos rfl]
  have e2 : ∀ j, j ≠ a → j ≠ a + 1 → v' j = v j := fun j n1 n2 => by rw [hv]; unfold hb_sg; rw [if_neg n1, if_neg n2]
  refine ⟨fun i j hij hj ni nj => ?_, fun j haj hj => ?_⟩
  · by_cases ei : i = a + 1
    · subst ei
      rw [e1, e2 j nj (by omega)]
      exact h1 a j (by omega) hj (by omega) (by omega)
    · rw [e2 i ni ei]
      by_cases ej : j = a + 1
      · subst ej
        rw [e1]
        exact h1 i a (by omega) (by omega) ei (by omega)
      · rw [e2 j nj ej]
        exact h1 i j hij hj ei ej
  · rw [e0]
    by_cases ej : j = a + 1
    · subst ej
      rw [e1]; exact hb
    · rw [e2 j (by omega) ej]
      exact h2 j (by omega) hj
/-! the cube's planes by corner -/
def xb_V (k : Nat) : Int32 := (((1 : Int32) <<< ((nI k &&& 1) &&& 31)) ||| ((4 : Int32) <<< (((nI k >>> ((1 : Int32) &&& 31)) &&& 1) &&& 31))) ||| ((16 : Int32) <<< ((nI k >>> ((2 : Int32) &&& 31)) &&& 31))
theorem xb_V_bt : ∀ k, k < 8 → ∀ i, i < 32 → bt (xb_V k) i = decide (i = k % 2 ∨ i = 2 + k / 2 % 2 ∨ i = 4 + k / 4 % 2) := by decide +kernel
theorem xb_and1 : ∀ k, k < 8 → ((nI k &&& 1) = 0 ↔ k % 2 = 0) := by decide +kernel
theorem xb_and2 : ∀ k, k < 8 → ((nI k &&& 2) = 0 ↔ k / 2 % 2 = 0) := by decide +kernel
theorem xb_and4 : ∀ k, k < 8 → ((nI k &&& 4) = 0 ↔ k / 4 % 2 = 0) := by decide +kernel
theorem xb_V_bits {P : Nat → hb_Q} (h : hb_Cube P) {k : Nat} (hk : k < 8) : hb_Bits (xb_V k) (hb_T P hb_S6 (hb_c8 k)) := by
  intro i hi
  rw [xb_V_bt k hk i hi, decide_eq_true_iff]
  obtain ⟨v0, v1, v2, v3, v4, v5⟩ := hb_c8_vals h k
  unfold hb_T hb_S6
  constructor
  · intro ho
    have hi6 : i < 6 := by omega
    have : i = 0 ∨ i = 1 ∨ i = 2 ∨ i = 3 ∨ i = 4 ∨ i = 5 := by omega
    refine ⟨hi6, ?_⟩
    rcases this with e | e | e | e | e | e <;> subst e
    · exact v0.mpr (by omega)
    · exact v1.mpr (by omega)
    · exact v2.mpr (by omega)
    · exact v3.mpr (by omega)
    · exact v4.mpr (by omega)
    · exact v5.mpr (by omega)
  · intro ⟨hi6, hv⟩
    have : i = 0 ∨ i = 1 ∨ i = 2 ∨ i = 3 ∨ i = 4 ∨ i = 5 := by omega
    rcases this with e | e | e | e | e | e <;> subst e
    · have := v0.mp hv; omega
    · have := v1.mp hv; omega
    · have := v2.mp hv; omega
    · have := v3.mp hv; omega
    · have := v4.mp hv; omega
    · have := v5.mp hv; omega
def xb_8 (b : Nat) : Int32 := if b = 0 then 8 else -8
theorem xb_8t (b : Nat) : (xb_8 b).toInt = if b = 0 then 8 else -8 := by
  unfold xb_8; split <;> rfl
section
variable {fn fb fc fm fk : Int32} {fT fB : Int64} {aA aB aC aL tX tY tZ tW tP mX mY mZ mW mP kX kY kZ kW aH aD : Nat → Int32} {aI : Nat → Int64}
theorem xb_sc70 {post : SX → Prop} {J : Int32 → (Nat → Int32) → (Nat → Int32) → (Nat → Int32) → (Nat → Int32) → (Nat → Int32) → (Nat → Int32) → (Nat → Int32) → (Nat → Int32) → (Nat → Int32) → (Nat → Int32) → (Nat → Int32) → (Nat → Int32) → (Nat → Int32) → (Nat → Int32) → (Nat → Int64) → (Nat → Int32) → (Nat → Int32) → (Nat → Int32) → (Nat → Int32) → (Nat → Int32) → (Nat → Int32) → Prop} {k : Nat} (hk : k < 8) {z : Int32} (h : J (nI (k + 1)) aA aB aC aL tX tY (upd tZ k z) (upd tW k 1) (upd tP k (xb_V k)) mX mY mZ mW mP aI kX kY kZ kW aH aD) : wX_startCube_70 post J (nI k) z (nI k) fn fb fc fm fk fT fB aA aB aC aL tX tY tZ tW tP mX mY mZ mW mP aI kX kY kZ kW aH aD := by
  simp only [wX_startCube_70, xb_in (by omega : k < 64) (by omega : 64 < 2 ^ 31), forall_eq, nI_clamp (by omega : k < 2 ^ 31), true_and, nI_1]
  exact h
theorem xb_sc51 {post : SX → Prop} {J : Int32 → (Nat → Int32) → (Nat → Int32) → (Nat → Int32) → (Nat → Int32) → (Nat → Int32) → (Nat → Int32) → (Nat → Int32) → (Nat → Int32) → (Nat → Int32) → (Nat → Int32) → (Nat → Int32) → (Nat → Int32) → (Nat → Int32) → (Nat → Int32) → (Nat → Int64) → (Nat → Int32) → (Nat → Int32) → (Nat → Int32) → (Nat → Int32) → (Nat → Int32) → (Nat → Int32) → Prop} {k : Nat} (hk : k < 8) {z : Int32} (h : J (nI (k + 1)) aA aB aC aL tX (upd tY k z) (upd tZ k (xb_8 (k / 4 % 2))) (upd tW k 1) (upd tP k (xb_V k)) mX mY mZ mW mP aI kX kY kZ kW aH aD) : wX_startCube_51 post J (nI k) z (nI k) fn fb fc fm fk fT fB aA aB aC aL tX tY tZ tW tP mX mY mZ mW mP aI kX kY kZ kW aH aD := by
  simp only [wX_startCube_51, xb_in (by omega : k < 64) (by omega : 64 < 2 ^ 31), forall_eq, nI_clamp (by omega : k < 2 ^ 31), true_and, xb_and4 k hk]
  refine br_c (fun e => xb_sc70 hk ?_) (fun e => xb_sc70 hk ?_)
  · unfold xb_8 at h; rw [if_pos e] at h; exact h
  · unfold xb_8 at h; rw [if_neg e] at h; exact h
theorem xb_sc32 {post : SX → Prop} {J : Int32 → (Nat → Int32) → (Nat → Int32) → (Nat → Int32) → (Nat → Int32) → (Nat → Int32) → (Nat → Int32) → (Nat → Int32) → (Nat → Int32) → (Nat → Int32) → (Nat → Int32) → (Nat → Int32) → (Nat → Int32) → (Nat → Int32) → (Nat → Int32) → (Nat → Int64) → (Nat → Int32) → (Nat → Int32) → (Nat → Int32) → (Nat → Int32) → (Nat → Int32) → (Nat → Int32) → Prop} {k : Nat} (hk : k < 8) {z : Int32} (h : J (nI (k + 1)) aA aB aC aL (upd tX k z) (upd tY k (xb_8 (k / 2 % 2))) (upd tZ k (xb_8 (k / 4 % 2))) (upd tW k 1) (upd tP k (xb_V k)) mX mY mZ mW mP aI kX kY kZ kW aH aD) : wX_startCube_32 post J (nI k) z (nI k) fn fb fc fm fk fT fB aA aB aC aL tX tY tZ tW tP mX mY mZ mW mP aI kX kY kZ kW aH aD := by
  simp only [wX_startCube_32, xb_in (by omega : k < 64) (by omega : 64 < 2 ^ 31), forall_eq, nI_clamp (by omega : k < 2 ^ 31), true_and, xb_and2 k hk]
  refine br_c (fun e => xb_sc51 hk ?_) (fun e => xb_sc51 hk ?_)
  · rw [show xb_8 (k / 2 % 2) = 8 from if_pos e] at h; exact h
  · rw [show xb_8 (k / 2 % 2) = -8 from if_neg e] at h; exact h
theorem xb_sc8 {post : SX → Prop} (h : ∀ tX tY tZ tW tP : Nat → Int32, (∀ j, j < 8 → hb_qt tX tY tZ tW j = hb_c8 j ∧ tP j = xb_V j) → post (fn, fb, fc, fm, fk, fT, fB, aA, aB, aC, aL, tX, tY, tZ, tW, tP, mX, mY, mZ, mW, mP, aI, kX, kY, kZ, kW, aH, aD)) : ∀ (d k : Nat) (tX tY tZ tW tP : Nat → Int32), k + d = 8 → (∀ j, j < k → hb_qt tX tY tZ tW j = hb_c8 j ∧ tP j = xb_V j) → wX_startCube_8 post fn fb fc fm fk fT fB (d + 1) (nI k) aA aB aC aL tX tY tZ tW tP mX mY mZ mW mP aI kX kY kZ kW aH aD := by
  intro d
  induction d with
  | zero =>
    intro k tX tY tZ tW tP hk hp
    have e : k = 8 := by omega
    subst e
    rw [wX_startCube_8]
    exact br_t (by decide) (h tX tY tZ tW tP hp)
  | succ d ih =>
    intro k tX tY tZ tW tP hk hp
    rw [wX_startCube_8]
    refine br_f (nI_ge (b := 8) (by omega) (by decide)) ?_
    have hk8 : k < 8 := by omega
    have hp' : ∀ j, j < k + 1 → hb_qt (upd tX k (xb_8 (k % 2))) (upd tY k (xb_8 (k / 2 % 2))) (upd tZ k (xb_8 (k / 4 % 2))) (upd tW k 1) j = hb_c8 j ∧ (upd tP k (xb_V k)) j = xb_V j := fun j hj => by
      by_cases e : j = k
      · subst e
        rw [hb_qt_us, pk_us, xb_8t, xb_8t, xb_8t]
        exact ⟨rfl, rfl⟩
      · rw [hb_qt_un e, pk_un e]; exact hp j (by omega)
    rw [xb_and1 k hk8]
    refine br_c (fun e => xb_sc32 hk8 ?_) (fun e => xb_sc32 hk8 ?_)
    · have := ih (k + 1) _ _ _ _ _ (by omega) hp'
      rw [show xb_8 (k % 2) = 8 from if_pos e] at this
      exact this
    · have := ih (k + 1) _ _ _ _ _ (by omega) hp'
      rw [show xb_8 (k % 2) = -8 from if_neg e] at this
      exact this
theorem xb_startCube {post : SX → Prop} {P : Nat → hb_Q} (hP : hb_Cube P) (h : ∀ tX tY tZ tW tP : Nat → Int32, xb_C P hb_S6 8 tX tY tZ tW tP → post (fn, fb, nI 8, fm, fk, fT, fB, aA, aB, aC, aL, tX, tY, tZ, tW, tP, mX, mY, mZ, mW, mP, aI, kX, kY, kZ, kW, aH, aD)) : wpX_startCube post (fn, fb, fc, fm, fk, fT, fB, aA, aB, aC, aL, tX, tY, tZ, tW, tP, mX, mY, mZ, mW, mP, aI, kX, kY, kZ, kW, aH, aD) := by
  refine ⟨9, ?_⟩
  refine xb_sc8 (fun tX tY tZ tW tP he => h tX tY tZ tW tP ⟨hb_md_congr (hb_cube_md hP) (fun _ => Iff.rfl) (fun j hj => (he j hj).1), fun k hk => ?_⟩) 8 0 _ _ _ _ _ (by omega) (fun j hj => absurd hj (Nat.not_lt_zero j))
  rw [(he k hk).1, (he k hk).2]
  exact xb_V_bits hP hk
theorem xb_isBefore {post : Int32 → Prop} {k l : Nat} (hk : k < 64) (hl : l < 64) (bk : hb_Bd (hb_qt tX tY tZ tW k)) (bl : hb_Bd (hb_qt tX tY tZ tW l)) (h1 : hb_Bf (hb_qt tX tY tZ tW k) (hb_qt tX tY tZ tW l) → post 1) (h0 : ¬ hb_Bf (hb_qt tX tY tZ tW k) (hb_qt tX tY tZ tW l) → post 0) : wpX_isBefore post (fn, fb, fc, fm, fk, fT, fB, aA, aB, aC, aL, tX, tY, tZ, tW, tP, mX, mY, mZ, mW, mP, aI, kX, kY, kZ, kW, aH, aD) (nI k) (nI l) := by
  obtain ⟨k1, k2, k3, k4⟩ := bk
  obtain ⟨l1, l2, l3, l4⟩ := bl
  have a4 : -384 ≤ (tW k).toInt ∧ (tW k).toInt ≤ 384 := by have : 1 ≤ (tW k).toInt ∧ (tW k).toInt ≤ 384 := k4; omega
  have b4 : -384 ≤ (tW l).toInt ∧ (tW l).toInt ≤ 384 := by have : 1 ≤ (tW l).toInt ∧ (tW l).toInt ≤ 384 := l4; omega
  have x1 := hb_mulb (a := (tX k).toInt) k1 b4
  have x2 := hb_mulb (a := (tX l).toInt) l1 a4
  have y1 := hb_mulb (a := (tY k).toInt) k2 b4
  have y2 := hb_mulb (a := (tY l).toInt) l2 a4
  have z1 := hb_mulb (a := (tZ k).toInt) k3 b4
  have z2 := hb_mulb (a := (tZ l).toInt) l3 a4
  simp only [hb_Bf, hb_dx, hb_dy, hb_dz, hb_qt] at h1 h0
  simp only [wpX_isBefore, xb_in hk (by omega : 64 < 2 ^ 31), xb_in hl (by omega : 64 < 2 ^ 31), forall_eq, nI_clamp (by omega : k < 2 ^ 31), nI_clamp (by omega : l < 2 ^ 31), true_and, zi_64, zl_mul, zl_sub]
  rw [zl_eq0 ⟨by omega, by omega⟩, zl_ge0 ⟨by omega, by omega⟩, zl_eq0 ⟨by omega, by omega⟩, zl_ge0 ⟨by omega, by omega⟩, zl_le ⟨by omega, by omega⟩ ⟨by omega, by omega⟩]
  refine br_c (fun e1 => br_c (fun e2 => br_c (fun e3 => h0 (by omega)) (fun e3 => h1 (by omega))) (fun e2 => br_c (fun e3 => h0 (by omega)) (fun e3 => h1 (by omega)))) (fun e1 => br_c (fun e3 => h0 (by omega)) (fun e3 => h1 (by omega)))
theorem xb_exchange {post : SX → Prop} {k l : Nat} (hk : k < 64) (hl : l < 64) (h : post (fn, fb, fc, fm, fk, fT, fB, aA, aB, aC, aL, hb_sw tX k l, hb_sw tY k l, hb_sw tZ k l, hb_sw tW k l, hb_sw tP k l, mX, mY, mZ, mW, mP, aI, kX, kY, kZ, kW, aH, aD)) : wpX_exchange post (fn, fb, fc, fm, fk, fT, fB, aA, aB, aC, aL, tX, tY, tZ, tW, tP, mX, mY, mZ, mW, mP, aI, kX, kY, kZ, kW, aH, aD) (nI k) (nI l) := by
  simp only [wpX_exchange, wpX_swapIn__topX, wpX_swapIn__topY, wpX_swapIn__topZ, wpX_swapIn__bottoms, wpX_swapIn__planesOf, xb_in hk (by omega : 64 < 2 ^ 31), xb_in hl (by omega : 64 < 2 ^ 31), forall_eq, nI_clamp (by omega : k < 2 ^ 31), nI_clamp (by omega : l < 2 ^ 31), true_and]
  exact h
variable {P : Nat → hb_Q} {S : Nat → Prop} {c : Nat}
theorem xb_sort12 {post : SX → Prop} {J : Int32 → Int32 → Int32 → Int32 → Int32 → Int32 → Int64 → Int64 → (Nat → Int32) → (Nat → Int32) → (Nat → Int32) → (Nat → Int32) → (Nat → Int32) → (Nat → Int32) → (Nat → Int32) → (Nat → Int32) → (Nat → Int32) → (Nat → Int32) → (Nat → Int32) → (Nat → Int32) → (Nat → Int32) → (Nat → Int32) → (Nat → Int64) → (Nat → Int32) → (Nat → Int32) → (Nat → Int32) → (Nat → Int32) → (Nat → Int32) → (Nat → Int32) → Prop} (hS : hb_Sys P S) (hc : c ≤ 32) {k : Nat} (hk : k < c) (hJ : ∀ tX tY tZ tW tP : Nat → Int32, xb_C P S c tX tY tZ tW tP → hb_Srt (k + 1) (hb_qt tX tY tZ tW) → J (nI (k + 1)) fn fb (nI c) fm fk fT fB aA aB aC aL tX tY tZ tW tP mX mY mZ mW mP aI kX kY kZ kW aH aD) : ∀ (a : Nat) (tX tY tZ tW tP : Nat → Int32), a ≤ k → xb_C P S c tX tY tZ tW tP → hb_Ins (hb_qt tX tY tZ tW) k a → wX_sortCorners_12 post J (nI k) (a + 1) (nI a) fn fb (nI c) fm fk fT fB aA aB aC aL tX tY tZ tW tP mX mY mZ mW mP aI kX kY kZ kW aH aD := by
  intro a
  induction a with
  | zero =>
    intro tX tY tZ tW tP ha hC hI
    rw [wX_sortCorners_12]
    exact br_t (by decide) (nm_r (nI_1 k) (hJ _ _ _ _ _ hC (hb_ins_end (fun i hi => (hC.1.1 i (by omega)).1.1.1) ha hI (Or.inl rfl))))
  | succ a ih =>
    intro tX tY tZ tW tP ha hC hI
    rw [wX_sortCorners_12]
    refine br_f (nI_nle (by omega) (by omega)) ?_
    rw [nI_pred]
    have b1 := hb_K_bd hS (hC.1.1 (a + 1) (by omega))
    have b2 := hb_K_bd hS (hC.1.1 a (by omega))
    refine xb_isBefore (by omega) (by omega) b1 b2 (fun hb => ?_) (fun hb => ?_)
    · refine br_f (by decide) ?_
      refine xb_exchange (by omega) (by omega) ?_
      refine nm_r (pk_m1 a) (ih _ _ _ _ _ (by omega) (xb_C_sw hC (by omega) (by omega)) ?_)
      exact hb_ins_step ha hI hb (fun j => hb_sw_qt _ _ _ _ _ _ _)
    · refine br_t rfl (nm_r (nI_1 k) (hJ _ _ _ _ _ hC (hb_ins_end (fun i hi => (hC.1.1 i (by omega)).1.1.1) ha hI (Or.inr ?_))))
      have := hb_bf_tot (hb_list_ne hC.1 (by omega : a + 1 < c) (by omega : a < c) (by omega))
      exact this.elim (fun h => absurd h hb) id
theorem xb_sort2 {post : SX → Prop} (hS : hb_Sys P S) (hc : c ≤ 32) (h : ∀ tX tY tZ tW tP : Nat → Int32, xb_C P S c tX tY tZ tW tP → hb_Srt c (hb_qt tX tY tZ tW) → post (fn, fb, nI c, fm, fk, fT, fB, aA, aB, aC, aL, tX, tY, tZ, tW, tP, mX, mY, mZ, mW, mP, aI, kX, kY, kZ, kW, aH, aD)) : ∀ (d k : Nat) (tX tY tZ tW tP : Nat → Int32), c ≤ k + d → xb_C P S c tX tY tZ tW tP → (∀ i j, i < j → j < k → j < c → hb_Bf (hb_qt tX tY tZ tW i) (hb_qt tX tY tZ tW j)) → k < 64 → wX_sortCorners_2 post (d + 1) (nI k) fn fb (nI c) fm fk fT fB aA aB aC aL tX tY tZ tW tP mX mY mZ mW mP aI kX kY kZ kW aH aD := by
  intro d
  induction d with
  | zero =>
    intro k tX tY tZ tW tP hk hC hs h64
    rw [wX_sortCorners_2]
    exact br_t (nI_le (by omega) (by omega)) (h _ _ _ _ _ hC (fun i j hij hj => hs i j hij (by omega) hj))
  | succ d ih =>
    intro k tX tY tZ tW tP hk hC hs h64
    rw [wX_sortCorners_2]
    by_cases hkc : c ≤ k
    · exact br_t (nI_le (by omega) (by omega)) (h _ _ _ _ _ hC (fun i j hij hj => hs i j hij (by omega) hj))
    · refine br_f (nI_ge (by omega) (by omega)) ⟨k + 1, ?_⟩
      exact xb_sort12 hS hc (by omega) (fun tX tY tZ tW tP hC' hs' => ih (k + 1) _ _ _ _ _ (by omega) hC' (fun i j hij hj _ => hs' i j hij hj) (by omega)) k _ _ _ _ _ (Nat.le_refl k) hC (hb_ins_0 (fun i j hij hj => hs i j hij hj (by omega)))
theorem xb_sort {post : SX → Prop} (hS : hb_Sys P S) (hC : xb_C P S c tX tY tZ tW tP) (h : ∀ tX tY tZ tW tP : Nat → Int32, xb_C P S c tX tY tZ tW tP → hb_Srt c (hb_qt tX tY tZ tW) → post (fn, fb, nI c, fm, fk, fT, fB, aA, aB, aC, aL, tX, tY, tZ, tW, tP, mX, mY, mZ, mW, mP, aI, kX, kY, kZ, kW, aH, aD)) : wpX_sortCorners post (fn, fb, nI c, fm, fk, fT, fB, aA, aB, aC, aL, tX, tY, tZ, tW, tP, mX, mY, mZ, mW, mP, aI, kX, kY, kZ, kW, aH, aD) := by
  have c32 := hb_md_le hS hC.1 (fun _ h => h)
  exact ⟨c + 1, xb_sort2 hS c32 h c 1 _ _ _ _ _ (by omega) hC (fun i j hij hj _ => by omega) (by omega)⟩
end
end
section
/-! X: all corners; X's side of the relation -/
/-- the planes of a body with n cuts -/
def hb_Pl (n : Nat) (P : Nat → hb_Q) : Prop := n ≤ 8 ∧ hb_Cube P ∧ ∀ i, i < 6 + n → hb_Good (P i)
def hb_Sn (m : Nat) (L : Nat → Prop) : Nat → Prop := fun i => i < m ∧ ¬ L i
theorem hb_Sn_sys {n m : Nat} {P : Nat → hb_Q} (h : hb_Pl n P) {L : Nat → Prop} (hL : ∀ i, L i → 6 ≤ i) (h6 : 6 ≤ m) (hm : m ≤ 6 + n) : hb_Sys P (hb_Sn m L) :=
  ⟨h.2.1, fun i hi => ⟨by omega, fun hl => by have := hL i hl; omega⟩, fun i hi => ⟨by have := hi.1; have := h.1; omega, h.2.2 i (by have := hi.1; omega)⟩⟩
theorem hb_Sn_add {m : Nat} {L : Nat → Prop} (h : ¬ L m) : hb_add (hb_Sn m L) m = hb_Sn (m + 1) L := by
  funext i
  refine propext ⟨fun hh => ?_, fun hh => ?_⟩
  · rcases hh with hh | hh
    · exact ⟨by have := hh.1; omega, hh.2⟩
    · subst hh; exact ⟨by omega, h⟩
  · by_cases e : i = m
    · exact Or.inr e
    · exact Or.inl ⟨by have := hh.1; omega, hh.2⟩
theorem hb_Sn_skip {m : Nat} {L : Nat → Prop} (h : L m) : hb_Sn m L = hb_Sn (m + 1) L := by
  funext i
  refine propext ⟨fun hh => ⟨by have := hh.1; omega, hh.2⟩, fun hh => ⟨?_, hh.2⟩⟩
  have : i ≠ m := fun e => hh.2 (e ▸ h)
  have := hh.1
  omega
theorem hb_Sn_6 {L : Nat → Prop} (hL : ∀ i, L i → 6 ≤ i) : hb_S6 = hb_Sn 6 L := by
  funext i
  exact propext ⟨fun hh => ⟨hh, fun hl => by have := hL i hl; have : i < 6 := hh; omega⟩, fun hh => hh.1⟩
section
variable {fn fb fc fm fk : Int32} {fT fB : Int64} {aA aB aC aL tX tY tZ tW tP mX mY mZ mW mP kX kY kZ kW aH aD : Nat → Int32} {aI : Nat → Int64}
variable {P : Nat → hb_Q} {n : Nat} {L : Nat → Prop}
theorem xb_bw7 {post : SX → Prop} {x1 : Int32} (hPl : hb_Pl n P) (hA : ∀ i, i < 6 + n → hb_qt aA aB aC aL i = P i) (hx : ∀ p, p < 16 → (nI p = x1 ↔ L p)) (hL : ∀ i, L i → 6 ≤ i) (h : ∀ (c : Nat) (fm : Int32) (tX tY tZ tW tP mX mY mZ mW mP : Nat → Int32) (aI : Nat → Int64), xb_C P (hb_Sn (6 + n) L) c tX tY tZ tW tP → hb_Srt c (hb_qt tX tY tZ tW) → post (nI n, fb, nI c, fm, fk, fT, fB, aA, aB, aC, aL, tX, tY, tZ, tW, tP, mX, mY, mZ, mW, mP, aI, kX, kY, kZ, kW, aH, aD)) : ∀ (d p c : Nat) (fm : Int32) (tX tY tZ tW tP mX mY mZ mW mP : Nat → Int32) (aI : Nat → Int64), p + d = 6 + n → 6 ≤ p → xb_C P (hb_Sn p L) c tX tY tZ tW tP → wX_buildWithout_7 post x1 (d + 1) (nI p) (nI n) fb (nI c) fm fk fT fB aA aB aC aL tX tY tZ tW tP mX mY mZ mW mP aI kX kY kZ kW aH aD := by
  have e6 : (6 : Int32) + nI n = nI (6 + n) := nI_add 6 n
  have n8 := hPl.1
  intro d
  induction d with
  | zero =>
    intro p c fm tX tY tZ tW tP mX mY mZ mW mP aI hp h6 hC
    have e : p = 6 + n := by omega
    subst e
    rw [wX_buildWithout_7]
    refine br_t (show (6 : Int32) + nI n ≤ nI (6 + n) by rw [e6]; exact nI_le (Nat.le_refl _) (by omega)) ?_
    exact xb_sort (hb_Sn_sys hPl hL (by omega) (Nat.le_refl _)) hC (fun tX tY tZ tW tP hC' hs => h c fm tX tY tZ tW tP mX mY mZ mW mP aI hC' hs)
  | succ d ih =>
    intro p c fm tX tY tZ tW tP mX mY mZ mW mP aI hp h6 hC
    rw [wX_buildWithout_7]
    refine br_f (show ¬ (6 : Int32) + nI n ≤ nI p by rw [e6]; exact nI_ge (by omega) (by omega)) ?_
    refine ek_if (hx p (by omega)) (fun hl => ?_) (fun hl => ?_)
    · refine nm_r (nI_1 p) (ih (p + 1) c fm tX tY tZ tW tP mX mY mZ mW mP aI (by omega) (by omega) ?_)
      rw [← hb_Sn_skip hl]; exact hC
    · have s1 := hb_Sn_sys hPl hL h6 (by omega : p ≤ 6 + n)
      have s2 := hb_Sn_sys hPl hL (by omega : 6 ≤ p + 1) (by omega : p + 1 ≤ 6 + n)
      rw [← hb_Sn_add hl] at s2
      refine xb_apply (by omega) s1 s2 (hA p (by omega)) hC (fun m tX tY tZ tW tP mX mY mZ mW mP aI hC' => ?_)
      rw [hb_Sn_add hl] at hC'
      exact nm_r (nI_1 p) (ih (p + 1) m (nI m) tX tY tZ tW tP mX mY mZ mW mP aI (by omega) (by omega) hC')
theorem xb_bw {post : SX → Prop} {x1 : Int32} (hPl : hb_Pl n P) (hA : ∀ i, i < 6 + n → hb_qt aA aB aC aL i = P i) (hx : ∀ p, p < 16 → (nI p = x1 ↔ L p)) (hL : ∀ i, L i → 6 ≤ i) (h : ∀ (c : Nat) (fm : Int32) (tX tY tZ tW tP mX mY mZ mW mP : Nat → Int32) (aI : Nat → Int64), xb_C P (hb_Sn (6 + n) L) c tX tY tZ tW tP → hb_Srt c (hb_qt tX tY tZ tW) → post (nI n, fb, nI c, fm, fk, fT, fB, aA, aB, aC, aL, tX, tY, tZ, tW, tP, mX, mY, mZ, mW, mP, aI, kX, kY, kZ, kW, aH, aD)) : wpX_buildWithout post (nI n, fb, fc, fm, fk, fT, fB, aA, aB, aC, aL, tX, tY, tZ, tW, tP, mX, mY, mZ, mW, mP, aI, kX, kY, kZ, kW, aH, aD) x1 := by
  simp only [wpX_buildWithout]
  refine xb_startCube hPl.2.1 (fun tX tY tZ tW tP hC => ?_)
  rw [hb_Sn_6 hL] at hC
  exact ⟨n + 1, xb_bw7 hPl hA hx hL h n 6 8 fm tX tY tZ tW tP mX mY mZ mW mP aI (by omega) (by omega) hC⟩
end
def hb_S (n : Nat) : Nat → Prop := fun i => i < 6 + n
theorem hb_S_sys {n : Nat} {P : Nat → hb_Q} (h : hb_Pl n P) : hb_Sys P (hb_S n) :=
  ⟨h.2.1, fun i hi => (by omega : i < 6 + n), fun i hi => ⟨by have : i < 6 + n := hi; have := h.1; omega, h.2.2 i hi⟩⟩
theorem hb_Sn_S (n : Nat) : hb_Sn (6 + n) (fun _ => False) = hb_S n := by
  funext i
  exact propext ⟨fun hh => hh.1, fun hh => ⟨hh, id⟩⟩
/-- X's corners stand, in order -/
def xb_B (n : Nat) (P : Nat → hb_Q) (c : Nat) (tX tY tZ tW tP : Nat → Int32) : Prop := xb_C P (hb_S n) c tX tY tZ tW tP ∧ hb_Srt c (hb_qt tX tY tZ tW)
/-- X's side of the relation -/
def xb_R (n : Nat) (P : Nat → hb_Q) (fn fb fc : Int32) (aA aB aC aL tX tY tZ tW tP : Nat → Int32) : Prop := hb_Pl n P ∧ fn = nI n ∧ (∀ i, i < 6 + n → hb_qt aA aB aC aL i = P i) ∧ (¬ fb = 0 → ∃ c, fc = nI c ∧ xb_B n P c tX tY tZ tW tP)
section
variable {fn fb fc fm fk : Int32} {fT fB : Int64} {aA aB aC aL tX tY tZ tW tP mX mY mZ mW mP kX kY kZ kW aH aD : Nat → Int32} {aI : Nat → Int64}
variable {P : Nat → hb_Q} {n : Nat}
theorem xb_m1 {p : Nat} (hp : p < 16) : nI p = -1 ↔ False := by
  refine iff_false_intro fun h => ?_
  have := nI_pos (n := p) (by omega)
  rw [h] at this
  exact this (by decide)
theorem xb_build {post : SX → Prop} (hR : xb_R n P fn fb fc aA aB aC aL tX tY tZ tW tP) (h : ∀ (c : Nat) (fb fm : Int32) (tX tY tZ tW tP mX mY mZ mW mP : Nat → Int32) (aI : Nat → Int64), ¬ fb = 0 → xb_B n P c tX tY tZ tW tP → xb_R n P (nI n) fb (nI c) aA aB aC aL tX tY tZ tW tP → post (nI n, fb, nI c, fm, fk, fT, fB, aA, aB, aC, aL, tX, tY, tZ, tW, tP, mX, mY, mZ, mW, mP, aI, kX, kY, kZ, kW, aH, aD)) : wpX_build post (fn, fb, fc, fm, fk, fT, fB, aA, aB, aC, aL, tX, tY, tZ, tW, tP, mX, mY, mZ, mW, mP, aI, kX, kY, kZ, kW, aH, aD) := by
  obtain ⟨hPl, e, hA, hB⟩ := hR
  subst e
  simp only [wpX_build]
  refine br_c (fun h0 => ?_) (fun h0 => ?_)
  · refine xb_bw (L := fun _ => False) hPl hA (fun p hp => xb_m1 hp) (fun _ h => h.elim) (fun c fm tX tY tZ tW tP mX mY mZ mW mP aI hC hs => ?_)
    rw [hb_Sn_S] at hC
    exact h c 1 fm tX tY tZ tW tP mX mY mZ mW mP aI (by decide) ⟨hC, hs⟩ ⟨hPl, rfl, hA, fun _ => ⟨c, rfl, hC, hs⟩⟩
  · obtain ⟨c, e, b⟩ := hB h0
    subst e
    exact h c fb fm tX tY tZ tW tP mX mY mZ mW mP aI h0 b ⟨hPl, rfl, hA, fun _ => ⟨c, rfl, b⟩⟩
end
end
section
/-! Y: lowest terms -/
section
variable {gn gp gc : Int32} {qN qD pA pB pC pD yX yY yZ yW yP yF : Nat → Int32}
theorem yb_gcd' {post : Int32 → Prop} {x y : Int32} (ha : -1073741824 < x.toInt ∧ x.toInt < 1073741824) (hb : -1073741824 < y.toInt ∧ y.toInt < 1073741824) (h : post (nI (if Nat.gcd x.toInt.natAbs y.toInt.natAbs < 1 then 1 else Nat.gcd x.toInt.natAbs y.toInt.natAbs))) : wpY_common post (gn, gp, gc, qN, qD, pA, pB, pC, pD, yX, yY, yZ, yW, yP, yF) x y := by
  have : wpY_common post (gn, gp, gc, qN, qD, pA, pB, pC, pD, yX, yY, yZ, yW, yP, yF) (zi_I x.toInt) (zi_I y.toInt) := yb_gcd ha hb h
  rw [← zi_of, ← zi_of] at this
  exact this
end
section
variable {gn gp gc : Int32} {qN qD pA pB pC pD yX yY yZ yW yP yF : Nat → Int32}
theorem yb_red135 {post : SY → Prop} {k g : Nat} (hk : k < 40) (hg : 0 < g) (hg2 : g < 2 ^ 31) {a b : Int} (ez : (yZ k).toInt = a * g) (ew : (yW k).toInt = b * g) (h : post (gn, gp, gc, qN, qD, pA, pB, pC, pD, yX, yY, upd yZ k (zi_I a), upd yW k (zi_I b), yP, yF)) : wY_reduce_135 post (nI k) (nI g) (nI g) (yZ k) (nI k) gn gp gc qN qD pA pB pC pD yX yY yZ yW yP yF := by
  have g1 : (1 : Int32) ≤ nI g := nI_le (a := 1) (by omega) (by omega)
  have g0 : ¬ nI g = 0 := nI_ne0 hg hg2
  have rz := zi_r (yZ k)
  have rw' := zi_r (yW k)
  have dz : yZ k / nI g = zi_I a := by
    rw [zi_of (yZ k), zi_nI, ez]
    exact zi_dv (by omega) (by rw [← ez]; exact rz) ⟨by omega, by omega⟩
  have dw : yW k / nI g = zi_I b := by
    rw [zi_of (yW k), zi_nI, ew]
    exact zi_dv (by omega) (by rw [← ew]; exact rw') ⟨by omega, by omega⟩
  simp only [wY_reduce_135, xb_in hk (by omega : 40 < 2 ^ 31), forall_eq, nI_clamp (by omega : k < 2 ^ 31), true_and, g0, g1, not_true, not_false_iff, false_implies, true_implies, and_true, dz, dw]
  exact h
theorem yb_red112 {post : SY → Prop} {k g : Nat} (hk : k < 40) (hg : 0 < g) (hg2 : g < 2 ^ 31) {c a b : Int} (ey : (yY k).toInt = c * g) (ez : (yZ k).toInt = a * g) (ew : (yW k).toInt = b * g) (h : post (gn, gp, gc, qN, qD, pA, pB, pC, pD, yX, upd yY k (zi_I c), upd yZ k (zi_I a), upd yW k (zi_I b), yP, yF)) : wY_reduce_112 post (nI k) (nI g) (nI g) (yY k) (nI k) gn gp gc qN qD pA pB pC pD yX yY yZ yW yP yF := by
  have g1 : (1 : Int32) ≤ nI g := nI_le (a := 1) (by omega) (by omega)
  have g0 : ¬ nI g = 0 := nI_ne0 hg hg2
  have rz := zi_r (yY k)
  have dz : yY k / nI g = zi_I c := by
    rw [zi_of (yY k), zi_nI, ey]
    exact zi_dv (by omega) (by rw [← ey]; exact rz) ⟨by omega, by omega⟩
  simp only [wY_reduce_112, xb_in hk (by omega : 40 < 2 ^ 31), forall_eq, nI_clamp (by omega : k < 2 ^ 31), true_and, g0, g1, not_true, not_false_iff, false_implies, true_implies, and_true, dz]
  exact yb_red135 hk hg hg2 ez ew h
theorem yb_red89 {post : SY → Prop} {k g : Nat} (hk : k < 40) (hg : 0 < g) (hg2 : g < 2 ^ 31) {f c a b : Int} (ex : (yX k).toInt = f * g) (ey : (yY k).toInt = c * g) (ez : (yZ k).toInt = a * g) (ew : (yW k).toInt = b * g) (h : post (gn, gp, gc, qN, qD, pA, pB, pC, pD, upd yX k (zi_I f), upd yY k (zi_I c), upd yZ k (zi_I a), upd yW k (zi_I b), yP, yF)) : wY_reduce_89 post (nI k) (nI g) (nI g) (yX k) (nI k) gn gp gc qN qD pA pB pC pD yX yY yZ yW yP yF := by
  have g1 : (1 : Int32) ≤ nI g := nI_le (a := 1) (by omega) (by omega)
  have g0 : ¬ nI g = 0 := nI_ne0 hg hg2
  have rz := zi_r (yX k)
  have dz : yX k / nI g = zi_I f := by
    rw [zi_of (yX k), zi_nI, ex]
    exact zi_dv (by omega) (by rw [← ex]; exact rz) ⟨by omega, by omega⟩
  simp only [wY_reduce_89, xb_in hk (by omega : 40 < 2 ^ 31), forall_eq, nI_clamp (by omega : k < 2 ^ 31), true_and, g0, g1, not_true, not_false_iff, false_implies, true_implies, and_true, dz]
  exact yb_red112 hk hg hg2 ey ez ew h
theorem yb_red55 {post : SY → Prop} {k : Nat} (hk : k < 40) (hb : hb_Bd (hb_qt yX yY yZ yW k)) {z0 : Int32} {g2 : Nat} (ez0 : z0 = nI g2) (h2 : g2 < 1000000) (hg : Nat.gcd g2 (yZ k).toInt.natAbs = hb_gq (hb_qt yX yY yZ yW k)) (h : post (gn, gp, gc, qN, qD, pA, pB, pC, pD, upd yX k (zi_I (hb_red (hb_qt yX yY yZ yW k)).1), upd yY k (zi_I (hb_red (hb_qt yX yY yZ yW k)).2.1), upd yZ k (zi_I (hb_red (hb_qt yX yY yZ yW k)).2.2.1), upd yW k (zi_I (hb_red (hb_qt yX yY yZ yW k)).2.2.2), yP, yF)) : wY_reduce_55 post (nI k) z0 gn gp gc qN qD pA pB pC pD yX yY yZ yW yP yF := by
  obtain ⟨b1, b2, b3, b4⟩ := hb
  obtain ⟨m1, m2, m3, m4⟩ := hb_red_mul (v := hb_qt yX yY yZ yW k)
  have w0 : 0 < (hb_qt yX yY yZ yW k).2.2.2 := by omega
  have g0 := hb_gq_pos w0
  have gw : hb_gq (hb_qt yX yY yZ yW k) ≤ (hb_qt yX yY yZ yW k).2.2.2.natAbs := Nat.le_of_dvd (by omega) (Nat.gcd_dvd_right _ _)
  have b3' : -5760 ≤ (yZ k).toInt ∧ (yZ k).toInt ≤ 5760 := b3
  have t2 : z0.toInt = (g2 : Int) := by rw [ez0]; exact nI_toInt (by omega)
  simp only [wY_reduce_55, xb_in hk (by omega : 40 < 2 ^ 31), nI_clamp (by omega : k < 2 ^ 31), true_and]
  refine yb_gcd' (by rw [t2]; omega) (by omega) ?_
  rw [t2, Int.natAbs_natCast, hg, if_neg (by omega)]
  refine br_t (nI_le (a := 1) (by omega) (by omega)) ?_
  exact yb_red89 hk g0 (by omega) m1.symm m2.symm m3.symm m4.symm h
theorem yb_reduce {post : SY → Prop} {k : Nat} (hk : k < 40) (hb : hb_Bd (hb_qt yX yY yZ yW k)) (h : post (gn, gp, gc, qN, qD, pA, pB, pC, pD, upd yX k (zi_I (hb_red (hb_qt yX yY yZ yW k)).1), upd yY k (zi_I (hb_red (hb_qt yX yY yZ yW k)).2.1), upd yZ k (zi_I (hb_red (hb_qt yX yY yZ yW k)).2.2.1), upd yW k (zi_I (hb_red (hb_qt yX yY yZ yW k)).2.2.2), yP, yF)) : wpY_reduce post (gn, gp, gc, qN, qD, pA, pB, pC, pD, yX, yY, yZ, yW, yP, yF) (nI k) := by
  have hb' := hb
  obtain ⟨b1, b2, b3, b4⟩ := hb
  have b1' : -5760 ≤ (yX k).toInt ∧ (yX k).toInt ≤ 5760 := b1
  have b2' : -5760 ≤ (yY k).toInt ∧ (yY k).toInt ≤ 5760 := b2
  have b4' : 1 ≤ (yW k).toInt ∧ (yW k).toInt ≤ 384 := b4
  have eg : hb_gq (hb_qt yX yY yZ yW k) = Nat.gcd (Nat.gcd (Nat.gcd (yX k).toInt.natAbs (yY k).toInt.natAbs) (yZ k).toInt.natAbs) (yW k).toInt.natAbs := rfl
  have small : Nat.gcd (yX k).toInt.natAbs (yY k).toInt.natAbs ≤ 5760 := by
    rcases Nat.eq_zero_or_pos (yX k).toInt.natAbs with z | z
    · rw [z, Nat.gcd_zero_left]; omega
    · have := Nat.le_of_dvd z (Nat.gcd_dvd_left (yX k).toInt.natAbs (yY k).toInt.natAbs); omega
  have other : 0 < Nat.gcd (yX k).toInt.natAbs (yY k).toInt.natAbs → wY_reduce_44 post (nI k) (nI (if Nat.gcd (yX k).toInt.natAbs (yY k).toInt.natAbs < 1 then 1 else Nat.gcd (yX k).toInt.natAbs (yY k).toInt.natAbs)) gn gp gc qN qD pA pB pC pD yX yY yZ yW yP yF := by
    intro hp
    rw [if_neg (by omega)]
    simp only [wY_reduce_44, xb_in hk (by omega : 40 < 2 ^ 31), nI_clamp (by omega : k < 2 ^ 31), true_and]
    have t : (nI (Nat.gcd (yX k).toInt.natAbs (yY k).toInt.natAbs)).toInt = (Nat.gcd (yX k).toInt.natAbs (yY k).toInt.natAbs : Int) := nI_toInt (by omega)
    refine yb_gcd' (by rw [t]; omega) (by omega) ?_
    rw [t, Int.natAbs_natCast]
    have gp : 0 < Nat.gcd (Nat.gcd (yX k).toInt.natAbs (yY k).toInt.natAbs) (yW k).toInt.natAbs := Nat.gcd_pos_of_pos_left _ hp
    have gl := Nat.le_of_dvd hp (Nat.gcd_dvd_left (Nat.gcd (yX k).toInt.natAbs (yY k).toInt.natAbs) (yW k).toInt.natAbs)
    rw [if_neg (by omega)]
    refine yb_red55 hk hb' rfl (by omega) ?_ h
    rw [eg, Nat.gcd_assoc, Nat.gcd_comm (yW k).toInt.natAbs, ← Nat.gcd_assoc]
  simp only [wpY_reduce, xb_in hk (by omega : 40 < 2 ^ 31), nI_clamp (by omega : k < 2 ^ 31), true_and]
  refine yb_gcd' (by omega) (by omega) ?_
  refine ek_if (zi_x0 (yX k)) (fun x0 => ek_if (zi_x0 (yY k)) (fun y0 => ?_) (fun y0 => other ?_)) (fun x0 => other ?_)
  · refine yb_red55 hk hb' (g2 := (yW k).toInt.natAbs) ?_ (by omega) ?_ h
    · rw [zi_nI]
      have : ((yW k).toInt.natAbs : Int) = (yW k).toInt := by omega
      rw [this]; exact zi_of _
    · rw [eg, x0, y0]
      have : Nat.gcd (0 : Int).natAbs (0 : Int).natAbs = 0 := rfl
      rw [this, Nat.gcd_zero_left, Nat.gcd_comm]
  · exact Nat.gcd_pos_of_pos_right _ (by omega)
  · exact Nat.gcd_pos_of_pos_left _ (by omega)
end
end
section
/-! Y: where three planes meet, taken as a corner -/
def hb_SN (N : Nat) : Nat → Prop := fun i => i < N
/-- corners on three independent planes -/
def hb_KT (P : Nat → hb_Q) (S : Nat → Prop) (p q r : Nat) (v : hb_Q) : Prop := hb_K P S v ∧ hb_det (P p) (P q) (P r) ≠ 0 ∧ hb_val (P p) v = 0 ∧ hb_val (P q) v = 0 ∧ hb_val (P r) v = 0
theorem xb_M_keep {P : Nat → hb_Q} {S : Nat → Prop} {K K' : hb_Q → Prop} {c : Nat} {mX mY mZ mW mP nX nY nZ nW nP : Nat → Int32} (h : xb_M P S K c mX mY mZ mW mP) (hK : ∀ r, K r ↔ K' r) (he : ∀ j, j < c → hb_qt nX nY nZ nW j = hb_qt mX mY mZ mW j ∧ nP j = mP j) : xb_M P S K' c nX nY nZ nW nP := by
  refine ⟨hb_md_congr h.1 hK (fun j hj => (he j hj).1), fun k hk => ?_⟩
  rw [(he k hk).1, (he k hk).2]
  exact h.2 k hk
theorem hb_qt_eq {x y z w : Nat → Int32} {i j : Nat} : hb_qt x y z w i = hb_qt x y z w j ↔ x i = x j ∧ y i = y j ∧ z i = z j ∧ w i = w j := by
  constructor
  · intro h
    exact ⟨Int32.toInt_inj.mp (congrArg (fun v : hb_Q => v.1) h), Int32.toInt_inj.mp (congrArg (fun v : hb_Q => v.2.1) h), Int32.toInt_inj.mp (congrArg (fun v : hb_Q => v.2.2.1) h), Int32.toInt_inj.mp (congrArg (fun v : hb_Q => v.2.2.2) h)⟩
  · intro ⟨h1, h2, h3, h4⟩
    simp only [hb_qt, h1, h2, h3, h4]
section
variable {gn gp gc : Int32} {qN qD pA pB pC pD yX yY yZ yW yP yF : Nat → Int32}
variable {P : Nat → hb_Q} {N c : Nat}
theorem yb_try178 {post : SY → Prop} (hc : c < 40) (h1 : (∀ i, i < c → hb_qt yX yY yZ yW i ≠ hb_qt yX yY yZ yW c) → post (gn, gp, nI (c + 1), qN, qD, pA, pB, pC, pD, yX, yY, yZ, yW, yP, yF)) (h0 : (∃ i, i < c ∧ hb_qt yX yY yZ yW i = hb_qt yX yY yZ yW c) → post (gn, gp, nI c, qN, qD, pA, pB, pC, pD, yX, yY, yZ, yW, yP, yF)) : ∀ d j, j + d = c → (∀ i, i < j → hb_qt yX yY yZ yW i ≠ hb_qt yX yY yZ yW c) → wY_tryPoint_178 post (nI c) gn gp (nI c) qN qD pA pB pC pD yX yY yZ yW yP yF (d + 1) (nI j) := by
  intro d
  induction d with
  | zero =>
    intro j hj hp
    have e : j = c := by omega
    subst e
    rw [wY_tryPoint_178]
    exact br_t (nI_le (Nat.le_refl _) (by omega)) (nm_r (nI_1 j) (h1 hp))
  | succ d ih =>
    intro j hj hp
    have next : ¬ (yX j = yX c ∧ yY j = yY c ∧ yZ j = yZ c ∧ yW j = yW c) → wY_tryPoint_178 post (nI c) gn gp (nI c) qN qD pA pB pC pD yX yY yZ yW yP yF (d + 1) (nI (j + 1)) := fun hn => ih (j + 1) (by omega) (fun i hi => by
      rcases Nat.lt_succ_iff_lt_or_eq.mp hi with h | h
      · exact hp i h
      · subst h; exact fun e => hn (hb_qt_eq.mp e))
    rw [wY_tryPoint_178]
    refine br_f (nI_ge (by omega) (by omega)) ?_
    simp only [xb_in (by omega : j < 40) (by omega : 40 < 2 ^ 31), xb_in hc (by omega : 40 < 2 ^ 31), forall_eq, nI_clamp (by omega : j < 2 ^ 31), nI_clamp (by omega : c < 2 ^ 31), true_and, nI_1]
    exact br_c (fun e1 => br_c (fun e2 => br_c (fun e3 => br_c (fun e4 => h0 ⟨j, by omega, hb_qt_eq.mpr ⟨e1, e2, e3, e4⟩⟩) (fun e => next (fun h => e h.2.2.2))) (fun e => next (fun h => e h.2.2.1))) (fun e => next (fun h => e h.2.1))) (fun e => next (fun h => e h.1))
theorem yb_try110 {post : SY → Prop} (hN : N ≤ 16) (hA : ∀ i, i < N → hb_qt pA pB pC pD i = P i) (hG : ∀ i, i < N → hb_Good (P i)) (hc : c < 40) (hb : hb_Bd (hb_qt yX yY yZ yW c)) (hout : (∃ i, i < N ∧ hb_val (P i) (hb_qt yX yY yZ yW c) < 0) → ∀ yP' : Nat → Int32, (∀ j, j ≠ c → yP' j = yP j) → post (gn, nI N, nI c, qN, qD, pA, pB, pC, pD, yX, yY, yZ, yW, yP', yF)) (hin : (∀ i, i < N → 0 ≤ hb_val (P i) (hb_qt yX yY yZ yW c)) → ∀ yP' : Nat → Int32, (∀ j, j ≠ c → yP' j = yP j) → hb_Bits (yP' c) (hb_T P (hb_SN N) (hb_qt yX yY yZ yW c)) → wY_tryPoint_178 post (nI c) gn (nI N) (nI c) qN qD pA pB pC pD (upd yX c (zi_I (hb_red (hb_qt yX yY yZ yW c)).1)) (upd yY c (zi_I (hb_red (hb_qt yX yY yZ yW c)).2.1)) (upd yZ c (zi_I (hb_red (hb_qt yX yY yZ yW c)).2.2.1)) (upd yW c (zi_I (hb_red (hb_qt yX yY yZ yW c)).2.2.2)) yP' yF (c + 1) (nI 0)) : ∀ (d s : Nat) (yP' : Nat → Int32), s + d = N → (∀ j, j ≠ c → yP' j = yP j) → (∀ i, i < s → 0 ≤ hb_val (P i) (hb_qt yX yY yZ yW c)) → hb_Bits (yP' c) (fun i => i < s ∧ hb_val (P i) (hb_qt yX yY yZ yW c) = 0) → wY_tryPoint_110 post (nI c) gn (nI N) (nI c) (d + 1) (nI s) qN qD pA pB pC pD yX yY yZ yW yP' yF := by
  intro d
  induction d with
  | zero =>
    intro s yP' hs hj hv hbits
    have e : s = N := by omega
    subst e
    rw [wY_tryPoint_110]
    refine br_t (nI_le (Nat.le_refl _) (by omega)) ?_
    refine yb_reduce hc hb ?_
    exact ⟨c + 1, hin hv yP' hj hbits⟩
  | succ d ih =>
    intro s yP' hs hj hv hbits
    rw [wY_tryPoint_110]
    refine br_f (nI_ge (by omega) (by omega)) ?_
    refine yb_side (by omega) hc ?_
    rw [hA s (by omega)]
    have bv := hb_val_bd (hG s (by omega)) hb
    simp only [xb_in hc (by omega : 40 < 2 ^ 31), forall_eq, nI_clamp (by omega : c < 2 ^ 31), true_and, nI_1, zl_le0 (a := - hb_val (P s) (hb_qt yX yY yZ yW c)) ⟨by omega, by omega⟩, zl_eq0 (a := - hb_val (P s) (hb_qt yX yY yZ yW c)) ⟨by omega, by omega⟩]
    refine br_c (fun h1 => br_c (fun h2 => ?_) (fun h2 => ?_)) (fun h1 => hout ⟨s, by omega, by omega⟩ yP' hj)
    · refine ih (s + 1) _ (by omega) (fun j hjc => by rw [pk_un hjc]; exact hj j hjc) (fun i hi => ?_) ?_
      · rcases Nat.lt_succ_iff_lt_or_eq.mp hi with h | h
        · exact hv i h
        · rw [h]; omega
      · rw [pk_us]
        refine hb_bits_congr (hb_bits_or hbits (hb_bits_1 (by omega : s < 32))) (fun i _ => ?_)
        constructor
        · intro h
          rcases h with h | h
          · exact ⟨by omega, h.2⟩
          · subst h; exact ⟨by omega, by omega⟩
        · intro h
          by_cases e : i = s
          · exact Or.inr e
          · exact Or.inl ⟨by omega, h.2⟩
    · refine ih (s + 1) _ (by omega) hj (fun i hi => ?_) ?_
      · rcases Nat.lt_succ_iff_lt_or_eq.mp hi with h | h
        · exact hv i h
        · rw [h]; omega
      · refine hb_bits_congr hbits (fun i _ => ?_)
        constructor
        · intro h; exact ⟨by omega, h.2⟩
        · intro h
          refine ⟨?_, h.2⟩
          have : i ≠ s := fun e => by
            rw [e] at h
            exact h2 (by rw [h.2]; rfl)
          omega
theorem yb_try {post : SY → Prop} {K : hb_Q → Prop} {p q r : Nat} (hS : hb_Sys P (hb_SN N)) (hN : N ≤ 16) (hA : ∀ i, i < N → hb_qt pA pB pC pD i = P i) (hp : p < N) (hq : q < N) (hr : r < N) (hK : ∀ v, K v → hb_K P (hb_SN N) v) (hM : xb_M P (hb_SN N) K c yX yY yZ yW yP) (h : ∀ (c : Nat) (yX yY yZ yW yP : Nat → Int32), xb_M P (hb_SN N) (fun v => K v ∨ hb_KT P (hb_SN N) p q r v) c yX yY yZ yW yP → post (gn, nI N, nI c, qN, qD, pA, pB, pC, pD, yX, yY, yZ, yW, yP, yF)) : wpY_tryPoint post (gn, nI N, nI c, qN, qD, pA, pB, pC, pD, yX, yY, yZ, yW, yP, yF) (nI p) (nI q) (nI r) := by
  have c32 := hb_md_le hS hM.1 hK
  have gd : ∀ i, i < N → hb_Good (P i) := fun i hi => (hS.2.2 i hi).2
  obtain ⟨b1, b2, b3, b4⟩ := hb_met_bd (gd p hp) (gd q hq) (gd r hr)
  have md : (hb_met (P p) (P q) (P r)).2.2.2 = hb_det (P p) (P q) (P r) := rfl
  simp only [wpY_tryPoint]
  refine yb_det (by omega) (by omega) (by omega) ?_
  rw [hA p hp, hA q hq, hA r hr]
  refine ek_if (zi_eq0 ⟨by omega, by omega⟩) (fun d0 => ?_) (fun d0 => ?_)
  · exact h c yX yY yZ yW yP (xb_M_congr hM (fun v => ⟨Or.inl, fun hh => hh.elim id (fun hh => absurd d0 hh.2.1)⟩))
  · -- the sign s
    have fin : ∀ (z : Int32) (s : Int), (∀ e : Int, z * zi_I e = zi_I (s * e)) → (s = 1 ∨ s = -1) → 0 < s * hb_det (P p) (P q) (P r) → wY_tryPoint_25 post (nI p) (nI q) (nI r) (zi_I (hb_det (P p) (P q) (P r))) z gn (nI N) (nI c) qN qD pA pB pC pD yX yY yZ yW yP yF := by
      intro z s hz hs hd
      have qv : ∀ (X Y Z W : Nat → Int32), hb_qt (upd X c (zi_I (s * (hb_met (P p) (P q) (P r)).1))) (upd Y c (zi_I (s * (hb_met (P p) (P q) (P r)).2.1))) (upd Z c (zi_I (s * (hb_met (P p) (P q) (P r)).2.2.1))) (upd W c (zi_I (s * hb_det (P p) (P q) (P r)))) c = (s * (hb_met (P p) (P q) (P r)).1, s * (hb_met (P p) (P q) (P r)).2.1, s * (hb_met (P p) (P q) (P r)).2.2.1, s * hb_det (P p) (P q) (P r)) := by
        intro X Y Z W
        rw [hb_qt_us, zi_t ?_, zi_t ?_, zi_t ?_, zi_t ?_] <;> rcases hs with hs | hs <;> rw [hs] <;> exact ⟨by omega, by omega⟩
      -- the candidate and what is known of it
      have cb : hb_Bd (s * (hb_met (P p) (P q) (P r)).1, s * (hb_met (P p) (P q) (P r)).2.1, s * (hb_met (P p) (P q) (P r)).2.2.1, s * hb_det (P p) (P q) (P r)) := by
        unfold hb_Bd
        rcases hs with hs | hs <;> rw [hs] at hd ⊢ <;> simp only <;> omega
      have cv : ∀ t : hb_Q, hb_val t (s * (hb_met (P p) (P q) (P r)).1, s * (hb_met (P p) (P q) (P r)).2.1, s * (hb_met (P p) (P q) (P r)).2.2.1, s * hb_det (P p) (P q) (P r)) = s * hb_val t (hb_met (P p) (P q) (P r)) := by
        intro t
        simp only [hb_val, hb_dot, hb_met]; grind
      obtain ⟨v1, v2, v3⟩ := hb_met_val (P p) (P q) (P r)
      have cp := cv (P p)
      have cq := cv (P q)
      have cr := cv (P r)
      rw [v1] at cp
      rw [v2] at cq
      rw [v3] at cr
      have uq : ∀ v, hb_KT P (hb_SN N) p q r v → hb_Same (s * (hb_met (P p) (P q) (P r)).1, s * (hb_met (P p) (P q) (P r)).2.1, s * (hb_met (P p) (P q) (P r)).2.2.1, s * hb_det (P p) (P q) (P r)) v := fun v hv => hb_uniq hv.2.1 (by rw [cp]; omega) (by rw [cq]; omega) (by rw [cr]; omega) hv.2.2.1 hv.2.2.2.1 hv.2.2.2.2
      generalize ec : (s * (hb_met (P p) (P q) (P r)).1, s * (hb_met (P p) (P q) (P r)).2.1, s * (hb_met (P p) (P q) (P r)).2.2.1, s * hb_det (P p) (P q) (P r)) = cand at qv cb uq cp cq cr
      have cw : 0 < cand.2.2.2 := by have := cb.2.2.2; omega
      have rd := hb_red_Red cw
      have inK : (∀ i, i < N → 0 ≤ hb_val (P i) cand) → hb_KT P (hb_SN N) p q r (hb_red cand) := by
        intro hin
        have hI : hb_In P (hb_SN N) cand := ⟨cw, fun i hi => hin i hi⟩
        have r3 : hb_R3 P (hb_T P (hb_SN N) cand) := ⟨p, q, r, ⟨hp, by rw [cp]; omega⟩, ⟨hq, by rw [cq]; omega⟩, ⟨hr, by rw [cr]; omega⟩, d0⟩
        refine ⟨⟨hb_same_Vx ⟨hI, r3⟩ rd.1.1 rd.2, rd.1⟩, d0, hb_same_tight cw rd.1.1 rd.2 (by rw [cp]; omega), hb_same_tight cw rd.1.1 rd.2 (by rw [cq]; omega), hb_same_tight cw rd.1.1 rd.2 (by rw [cr]; omega)⟩
      have onK : ∀ v, hb_KT P (hb_SN N) p q r v → v = hb_red cand := fun v hv => hb_red_uniq cw ⟨hv.1.2, uq v hv⟩ rd
      simp only [wY_tryPoint_25]
      refine yb_met0 (by omega) (by omega) (by omega) ?_
      rw [hA p hp, hA q hq, hA r hr]
      refine ⟨vp_in_nI (by omega) (by omega), nm_r (e' := upd yX c (zi_I (s * (hb_met (P p) (P q) (P r)).1))) (by rw [nI_clamp (by omega), hz]) ?_⟩
      refine yb_met1 (by omega) (by omega) (by omega) ?_
      rw [hA p hp, hA q hq, hA r hr]
      refine ⟨vp_in_nI (by omega) (by omega), nm_r (e' := upd yY c (zi_I (s * (hb_met (P p) (P q) (P r)).2.1))) (by rw [nI_clamp (by omega), hz]) ?_⟩
      refine yb_met2 (by omega) (by omega) (by omega) ?_
      rw [hA p hp, hA q hq, hA r hr]
      refine ⟨vp_in_nI (by omega) (by omega), nm_r (e' := upd yZ c (zi_I (s * (hb_met (P p) (P q) (P r)).2.2.1))) (by rw [nI_clamp (by omega), hz]) ?_⟩
      refine ⟨vp_in_nI (by omega) (by omega), nm_r (e' := upd yW c (zi_I (s * hb_det (P p) (P q) (P r)))) (by rw [nI_clamp (by omega), hz]) ?_⟩
      refine ⟨vp_in_nI (by omega) (by omega), nm_r (e' := upd yP c 0) (by rw [nI_clamp (by omega)]) ⟨N + 1, ?_⟩⟩
      have qc := qv yX yY yZ yW
      refine yb_try110 (c := c) (yP := upd yP c 0) hN hA gd (by omega) (by rw [qc]; exact cb) (fun ho yP' hj => ?_) (fun hi yP' hj hbits => ?_) N 0 (upd yP c 0) (by omega) (fun j hj => rfl) (fun i hi => absurd hi (Nat.not_lt_zero i)) ?_
      · rw [qc] at ho
        obtain ⟨i, hi, hneg⟩ := ho
        refine h c _ _ _ _ _ (xb_M_keep hM (fun v => ⟨Or.inl, fun hh => hh.elim id (fun hh => ?_)⟩) (fun j hj' => ⟨hb_qt_un (by omega), by rw [hj j (by omega), pk_un (by omega)]⟩))
        have h1 := hb_same_val (uq v hh) (P i)
        have h2 := Int.mul_neg_of_neg_of_pos hneg hh.1.2.1
        have h3 := Int.mul_nonneg (hh.1.1.1.2 i hi) (Int.le_of_lt cw)
        omega
      · rw [qc] at hi hbits ⊢
        have kt := inK hi
        have kq := hb_K_R hS kt.1
        have nb : hb_Bits (yP' c) (hb_T P (hb_SN N) (hb_red cand)) := hb_bits_congr hbits (fun i _ => hb_same_T cw rd.1.1 rd.2 i)
        have old : ∀ j, j < c → hb_qt (upd (upd yX c (zi_I (s * (hb_met (P p) (P q) (P r)).1))) c (zi_I (hb_red cand).1)) (upd (upd yY c (zi_I (s * (hb_met (P p) (P q) (P r)).2.1))) c (zi_I (hb_red cand).2.1)) (upd (upd yZ c (zi_I (s * (hb_met (P p) (P q) (P r)).2.2.1))) c (zi_I (hb_red cand).2.2.1)) (upd (upd yW c (zi_I (s * hb_det (P p) (P q) (P r)))) c (zi_I (hb_red cand).2.2.2)) j = hb_qt yX yY yZ yW j := fun j hj' => by rw [hb_qt_un (by omega), hb_qt_un (by omega)]
        have new : hb_qt (upd (upd yX c (zi_I (s * (hb_met (P p) (P q) (P r)).1))) c (zi_I (hb_red cand).1)) (upd (upd yY c (zi_I (s * (hb_met (P p) (P q) (P r)).2.1))) c (zi_I (hb_red cand).2.1)) (upd (upd yZ c (zi_I (s * (hb_met (P p) (P q) (P r)).2.2.1))) c (zi_I (hb_red cand).2.2.1)) (upd (upd yW c (zi_I (s * hb_det (P p) (P q) (P r)))) c (zi_I (hb_red cand).2.2.2)) c = hb_red cand := by rw [hb_qt_us]; exact kq
        refine yb_try178 (by omega) (fun hn => ?_) (fun hn => ?_) c 0 (by omega) (fun i hi => absurd hi (Nat.not_lt_zero i))
        · refine h (c + 1) _ _ _ _ _ ⟨?_, fun k hk => ?_⟩
          · have nk : ¬ K (hb_red cand) := fun hk => by
              obtain ⟨j, hj', e⟩ := hM.1.2.1 _ hk
              refine hn j hj' ?_
              rw [old j hj', new]; exact e
            refine hb_md_congr (hb_md_push hM.1 nk old new) (fun v => ?_) (fun _ _ => rfl)
            exact ⟨fun hh => hh.elim Or.inl (fun hh => Or.inr (hh ▸ kt)), fun hh => hh.elim Or.inl (fun hh => Or.inr (onK v hh))⟩
          · by_cases e : k = c
            · subst e; rw [new]; exact nb
            · rw [old k (by omega), hj k e, pk_un e]; exact hM.2 k (by omega)
        · obtain ⟨i, hi', e⟩ := hn
          rw [old i hi', new] at e
          refine h c _ _ _ _ _ (xb_M_keep hM (fun v => ⟨Or.inl, fun hh => hh.elim id (fun hh => ?_)⟩) (fun j hj' => ⟨old j hj', by rw [hj j (by omega), pk_un (by omega)]⟩))
          rw [onK v hh, ← e]
          exact hM.1.1 i hi'
      · rw [pk_us]
        exact hb_bits_congr hb_bits_0 (fun i _ => ⟨fun hh => hh.elim, fun hh => absurd hh.1 (Nat.not_lt_zero i)⟩)
    refine ek_if (zi_ge0 ⟨by omega, by omega⟩) (fun d1 => ?_) (fun d1 => ?_)
    · exact fin 1 1 (fun e => by rw [show (1 : Int32) = zi_I 1 from rfl, zi_mul]) (Or.inl rfl) (by omega)
    · exact fin (-1) (-1) (fun e => by rw [show (-1 : Int32) = zi_I (-1) from rfl, zi_mul]) (Or.inr rfl) (by omega)
end
end
section
/-! Y: all corners, in order -/
/-- corners of the triples so far -/
def hb_KF (P : Nat → hb_Q) (N pq r0 : Nat) (v : hb_Q) : Prop := ∃ p q r, p < q ∧ q < r ∧ r < N ∧ (16 * p + q < pq ∨ (16 * p + q = pq ∧ r < r0)) ∧ hb_KT P (hb_SN N) p q r v
theorem hb_KF_K {P : Nat → hb_Q} {N pq r0 : Nat} {v : hb_Q} (h : hb_KF P N pq r0 v) : hb_K P (hb_SN N) v := by
  obtain ⟨p, q, r, -, -, -, -, h⟩ := h
  exact h.1
theorem hb_KF_step {P : Nat → hb_Q} {N p q r : Nat} (h1 : p < q) (h2 : q < r) (h3 : r < N) (hN : N ≤ 16) (v : hb_Q) : (hb_KF P N (16 * p + q) r v ∨ hb_KT P (hb_SN N) p q r v) ↔ hb_KF P N (16 * p + q) (r + 1) v := by
  constructor
  · intro h
    rcases h with ⟨p', q', r', a, b, d, e, f⟩ | h
    · exact ⟨p', q', r', a, b, d, by omega, f⟩
    · exact ⟨p, q, r, h1, h2, h3, by omega, h⟩
  · intro ⟨p', q', r', a, b, d, e, f⟩
    by_cases he : p' = p ∧ q' = q ∧ r' = r
    · obtain ⟨e1, e2, e3⟩ := he
      subst e1; subst e2; subst e3
      exact Or.inr f
    · exact Or.inl ⟨p', q', r', a, b, d, by omega, f⟩
theorem hb_KF_row {P : Nat → hb_Q} {N pq : Nat} (v : hb_Q) : hb_KF P N pq N v ↔ hb_KF P N (pq + 1) 0 v := by
  constructor
  · intro ⟨p', q', r', a, b, d, e, f⟩
    exact ⟨p', q', r', a, b, d, by omega, f⟩
  · intro ⟨p', q', r', a, b, d, e, f⟩
    exact ⟨p', q', r', a, b, d, by omega, f⟩
theorem hb_KF_skip {P : Nat → hb_Q} {N pq : Nat} (hN : N ≤ 16) (h : pq % 16 ≤ pq / 16 ∨ N ≤ pq % 16) (v : hb_Q) : hb_KF P N pq 0 v ↔ hb_KF P N (pq + 1) 0 v := by
  constructor
  · intro ⟨p', q', r', a, b, d, e, f⟩
    exact ⟨p', q', r', a, b, d, by omega, f⟩
  · intro ⟨p', q', r', a, b, d, e, f⟩
    exact ⟨p', q', r', a, b, d, by omega, f⟩
theorem hb_KF_start {P : Nat → hb_Q} {N p q : Nat} (hN : N ≤ 16) (hq : q < N) (v : hb_Q) : hb_KF P N (16 * p + q) 0 v ↔ hb_KF P N (16 * p + q) (q + 1) v := by
  constructor
  · intro ⟨p', q', r', a, b, d, e, f⟩
    exact ⟨p', q', r', a, b, d, by omega, f⟩
  · intro ⟨p', q', r', a, b, d, e, f⟩
    exact ⟨p', q', r', a, b, d, by omega, f⟩
theorem hb_KF_all {P : Nat → hb_Q} {N : Nat} (hN : N ≤ 16) (v : hb_Q) : hb_KF P N 256 0 v ↔ hb_K P (hb_SN N) v := by
  constructor
  · exact hb_KF_K
  · intro h
    obtain ⟨⟨hin, i, j, k, hi, hj, hk, hd⟩, hn⟩ := h
    have hK : hb_K P (hb_SN N) v := ⟨⟨hin, i, j, k, hi, hj, hk, hd⟩, hn⟩
    have ti : i < N := hi.1
    have tj : j < N := hj.1
    have tk : k < N := hk.1
    have nij : i ≠ j := fun e => hd (by rw [e]; exact hb_det_same _ _)
    have njk : j ≠ k := fun e => hd (by rw [e]; exact hb_det_same2 _ _)
    have nik : i ≠ k := fun e => hd (by rw [e]; exact hb_det_same3 _ _)
    have sw : ∀ a b c : Nat, hb_det (P a) (P b) (P c) ≠ 0 → hb_det (P b) (P a) (P c) ≠ 0 := fun a b c h e => h (by rw [hb_det_swap] at e; omega)
    have ro : ∀ a b c : Nat, hb_det (P a) (P b) (P c) ≠ 0 → hb_det (P b) (P c) (P a) ≠ 0 := fun a b c h => by rw [hb_det_rot]; exact h
    have fin : ∀ a b c : Nat, a < b → b < c → c < N → hb_det (P a) (P b) (P c) ≠ 0 → hb_val (P a) v = 0 → hb_val (P b) v = 0 → hb_val (P c) v = 0 → hb_KF P N 256 0 v := fun a b c h1 h2 h3 h4 h5 h6 h7 => ⟨a, b, c, h1, h2, h3, by omega, hK, h4, h5, h6, h7⟩
    rcases Nat.lt_or_gt_of_ne nij with a | a
    · rcases Nat.lt_or_gt_of_ne njk with b | b
      · exact fin i j k a b tk hd hi.2 hj.2 hk.2
      · rcases Nat.lt_or_gt_of_ne nik with c | c
        · exact fin i k j c b tj (sw k i j (ro j k i (ro i j k hd))) hi.2 hk.2 hj.2
        · exact fin k i j c a tj (ro j k i (ro i j k hd)) hk.2 hi.2 hj.2
    · rcases Nat.lt_or_gt_of_ne nik with b | b
      · exact fin j i k a b tk (sw i j k hd) hj.2 hi.2 hk.2
      · rcases Nat.lt_or_gt_of_ne njk with c | c
        · exact fin j k i c b ti (ro i j k hd) hj.2 hk.2 hi.2
        · exact fin k j i c a ti (sw j k i (ro i j k hd)) hk.2 hj.2 hi.2
/-- the first j in order and before all others; place j before those up to k -/
def hb_Sel (v : Nat → hb_Q) (c j k : Nat) : Prop := (∀ i i2, i < j → i < i2 → i2 < c → hb_Bf (v i) (v i2)) ∧ (∀ m, j < m → m < k → hb_Bf (v j) (v m))
theorem hb_sel_sw {v v' : Nat → hb_Q} {c j k : Nat} (hw : ∀ i, i < c → 0 < (v i).2.2.2) (hjk : j < k) (hk : k < c) (h : hb_Sel v c j k) (hb : hb_Bf (v k) (v j)) (hv : ∀ i, v' i = v (hb_sg j k i)) : hb_Sel v' c j (k + 1) := by
  obtain ⟨h1, h2⟩ := h
  have ej : v' j = v k := by rw [hv]; unfold hb_sg; rw [if_neg (by omega), if_pos rfl]
  have ek : v' k = v j := by rw [hv]; unfold hb_sg; rw [if_pos rfl]
  have eo : ∀ i, i ≠ j → i ≠ k → v' i = v i := fun i a b => by rw [hv]; unfold hb_sg; rw [if_neg b, if_neg a]
  refine ⟨fun i i2 hi hi2 hc => ?_, fun m hm hmk => ?_⟩
  · rw [eo i (by omega) (by omega)]
    by_cases e1 : i2 = j
    · subst e1; rw [ej]; exact h1 i k hi (by omega) hk
    · by_cases e2 : i2 = k
      · subst e2; rw [ek]; exact h1 i j hi hi (by omega)
      · rw [eo i2 e1 e2]; exact h1 i i2 hi hi2 hc
  · rw [ej]
    by_cases e2 : m = k
    · subst e2; rw [ek]; exact hb
    · rw [eo m (by omega) e2]
      exact hb_bf_tr (hw k hk) (hw j (by omega)) (hw m (by omega)) hb (h2 m hm (by omega))
theorem hb_sel_keep {v : Nat → hb_Q} {c j k : Nat} (h : hb_Sel v c j k) (hb : hb_Bf (v j) (v k)) : hb_Sel v c j (k + 1) :=
  ⟨h.1, fun m hm hmk => by
    by_cases e : m = k
    · subst e; exact hb
    · exact h.2 m hm (by omega)⟩
theorem hb_sel_next {v : Nat → hb_Q} {c j : Nat} (h : hb_Sel v c j c) : hb_Sel v c (j + 1) (j + 2) :=
  ⟨fun i i2 hi hi2 hc => by
    by_cases e : i = j
    · subst e; exact h.2 i2 hi2 hc
    · exact h.1 i i2 (by omega) hi2 hc, fun m h1 h2 => by omega⟩
section
variable {gn gp gc : Int32} {qN qD pA pB pC pD yX yY yZ yW yP yF : Nat → Int32}
theorem yb_before {post : Int32 → Prop} {k l : Nat} (hk : k < 40) (hl : l < 40) (bk : hb_Bd (hb_qt yX yY yZ yW k)) (bl : hb_Bd (hb_qt yX yY yZ yW l)) (h1 : hb_Bf (hb_qt yX yY yZ yW k) (hb_qt yX yY yZ yW l) → post 1) (h0 : ¬ hb_Bf (hb_qt yX yY yZ yW k) (hb_qt yX yY yZ yW l) → post 0) : wpY_before post (gn, gp, gc, qN, qD, pA, pB, pC, pD, yX, yY, yZ, yW, yP, yF) (nI k) (nI l) := by
  obtain ⟨k1, k2, k3, k4⟩ := bk
  obtain ⟨l1, l2, l3, l4⟩ := bl
  have a4 : -384 ≤ (yW k).toInt ∧ (yW k).toInt ≤ 384 := by have : 1 ≤ (yW k).toInt ∧ (yW k).toInt ≤ 384 := k4; omega
  have b4 : -384 ≤ (yW l).toInt ∧ (yW l).toInt ≤ 384 := by have : 1 ≤ (yW l).toInt ∧ (yW l).toInt ≤ 384 := l4; omega
  have x1 := hb_mulb (a := (yX k).toInt) k1 b4
  have x2 := hb_mulb (a := (yX l).toInt) l1 a4
  have y1 := hb_mulb (a := (yY k).toInt) k2 b4
  have y2 := hb_mulb (a := (yY l).toInt) l2 a4
  have z1 := hb_mulb (a := (yZ k).toInt) k3 b4
  have z2 := hb_mulb (a := (yZ l).toInt) l3 a4
  simp only [hb_Bf, hb_dx, hb_dy, hb_dz, hb_qt] at h1 h0
  simp only [wpY_before, xb_in hk (by omega : 40 < 2 ^ 31), xb_in hl (by omega : 40 < 2 ^ 31), forall_eq, nI_clamp (by omega : k < 2 ^ 31), nI_clamp (by omega : l < 2 ^ 31), true_and, zi_64, zl_mul, zl_sub]
  rw [zl_eq0 ⟨by omega, by omega⟩, zl_ge0 ⟨by omega, by omega⟩, zl_eq0 ⟨by omega, by omega⟩, zl_ge0 ⟨by omega, by omega⟩, zl_le ⟨by omega, by omega⟩ ⟨by omega, by omega⟩]
  refine br_c (fun e1 => br_c (fun e2 => br_c (fun e3 => h0 (by omega)) (fun e3 => h1 (by omega))) (fun e2 => br_c (fun e3 => h0 (by omega)) (fun e3 => h1 (by omega)))) (fun e1 => br_c (fun e3 => h0 (by omega)) (fun e3 => h1 (by omega)))
theorem yb_exchange {post : SY → Prop} {k l : Nat} (hk : k < 40) (hl : l < 40) (h : post (gn, gp, gc, qN, qD, pA, pB, pC, pD, hb_sw yX k l, hb_sw yY k l, hb_sw yZ k l, hb_sw yW k l, hb_sw yP k l, yF)) : wpY_exchange post (gn, gp, gc, qN, qD, pA, pB, pC, pD, yX, yY, yZ, yW, yP, yF) (nI k) (nI l) := by
  simp only [wpY_exchange, xb_in hk (by omega : 40 < 2 ^ 31), xb_in hl (by omega : 40 < 2 ^ 31), forall_eq, nI_clamp (by omega : k < 2 ^ 31), nI_clamp (by omega : l < 2 ^ 31), true_and]
  exact h
variable {P : Nat → hb_Q} {S : Nat → Prop} {c N : Nat}
theorem yb_sort85 {post : SY → Prop} {J : Int32 → Int32 → Int32 → Int32 → (Nat → Int32) → (Nat → Int32) → (Nat → Int32) → (Nat → Int32) → (Nat → Int32) → (Nat → Int32) → (Nat → Int32) → (Nat → Int32) → (Nat → Int32) → (Nat → Int32) → (Nat → Int32) → (Nat → Int32) → Prop} (hS : hb_Sys P S) (hc : c ≤ 32) {j : Nat} (hj : j < c) (hJ : ∀ yX yY yZ yW yP : Nat → Int32, xb_C P S c yX yY yZ yW yP → hb_Sel (hb_qt yX yY yZ yW) c (j + 1) (j + 2) → J (nI (j + 1)) gn gp (nI c) qN qD pA pB pC pD yX yY yZ yW yP yF) : ∀ (d k : Nat) (yX yY yZ yW yP : Nat → Int32), k + d = c → j < k → xb_C P S c yX yY yZ yW yP → hb_Sel (hb_qt yX yY yZ yW) c j k → wY_findCorners_85 post J (nI j) (d + 1) (nI k) gn gp (nI c) qN qD pA pB pC pD yX yY yZ yW yP yF := by
  intro d
  induction d with
  | zero =>
    intro k yX yY yZ yW yP hk hjk hC hs
    have e : k = c := by omega
    subst e
    rw [wY_findCorners_85]
    exact br_t (nI_le (Nat.le_refl _) (by omega)) (nm_r (nI_1 j) (hJ _ _ _ _ _ hC (hb_sel_next hs)))
  | succ d ih =>
    intro k yX yY yZ yW yP hk hjk hC hs
    rw [wY_findCorners_85]
    refine br_f (nI_ge (by omega) (by omega)) ?_
    refine yb_before (by omega) (by omega) (hb_K_bd hS (hC.1.1 k (by omega))) (hb_K_bd hS (hC.1.1 j (by omega))) (fun hb => ?_) (fun hb => ?_)
    · refine br_f (by decide) ?_
      refine yb_exchange (by omega) (by omega) ?_
      refine nm_r (nI_1 k) (ih (k + 1) _ _ _ _ _ (by omega) (by omega) (xb_C_sw hC (by omega) (by omega)) ?_)
      exact hb_sel_sw (fun i hi => (hC.1.1 i hi).1.1.1) hjk (by omega) hs hb (fun i => hb_sw_qt _ _ _ _ _ _ _)
    · refine br_t rfl (nm_r (nI_1 k) (ih (k + 1) _ _ _ _ _ (by omega) (by omega) hC (hb_sel_keep hs ?_)))
      have := hb_bf_tot (hb_list_ne hC.1 (by omega : k < c) (by omega : j < c) (by omega))
      exact this.elim (fun h => absurd h hb) id
theorem yb_sort73 {post : SY → Prop} (hS : hb_Sys P S) (hc : c ≤ 32) (h : ∀ yX yY yZ yW yP : Nat → Int32, xb_C P S c yX yY yZ yW yP → hb_Srt c (hb_qt yX yY yZ yW) → post (gn, gp, nI c, qN, qD, pA, pB, pC, pD, yX, yY, yZ, yW, yP, yF)) : ∀ (d j : Nat) (yX yY yZ yW yP : Nat → Int32), j + d = c → xb_C P S c yX yY yZ yW yP → hb_Sel (hb_qt yX yY yZ yW) c j (j + 1) → wY_findCorners_73 post (d + 1) (nI j) gn gp (nI c) qN qD pA pB pC pD yX yY yZ yW yP yF := by
  intro d
  induction d with
  | zero =>
    intro j yX yY yZ yW yP hj hC hs
    rw [wY_findCorners_73]
    exact br_t (nI_le (by omega) (by omega)) (h _ _ _ _ _ hC (fun i i2 hi hi2 => hs.1 i i2 (by omega) hi hi2))
  | succ d ih =>
    intro j yX yY yZ yW yP hj hC hs
    rw [wY_findCorners_73]
    refine br_f (nI_ge (by omega) (by omega)) (nm_r (nI_1 j) ⟨d + 1, ?_⟩)
    exact yb_sort85 hS hc (by omega) (fun yX yY yZ yW yP hC' hs' => ih (j + 1) _ _ _ _ _ (by omega) hC' hs') d (j + 1) _ _ _ _ _ (by omega) (by omega) hC hs
theorem yb_find42 {post : SY → Prop} {J : Int32 → Int32 → Int32 → Int32 → (Nat → Int32) → (Nat → Int32) → (Nat → Int32) → (Nat → Int32) → (Nat → Int32) → (Nat → Int32) → (Nat → Int32) → (Nat → Int32) → (Nat → Int32) → (Nat → Int32) → (Nat → Int32) → (Nat → Int32) → Prop} (hS : hb_Sys P (hb_SN N)) (hN : N ≤ 16) (hA : ∀ i, i < N → hb_qt pA pB pC pD i = P i) {p q : Nat} (hpq : p < q) (hq : q < N) (hJ : ∀ (c : Nat) (yX yY yZ yW yP : Nat → Int32), xb_M P (hb_SN N) (hb_KF P N (16 * p + q + 1) 0) c yX yY yZ yW yP → J (nI (16 * p + q + 1)) gn (nI N) (nI c) qN qD pA pB pC pD yX yY yZ yW yP yF) : ∀ (d r c : Nat) (yX yY yZ yW yP : Nat → Int32), r + d = N → q < r → xb_M P (hb_SN N) (hb_KF P N (16 * p + q) r) c yX yY yZ yW yP → wY_findCorners_42 post J (nI (16 * p + q)) (nI p) (nI q) (d + 1) (nI r) gn (nI N) (nI c) qN qD pA pB pC pD yX yY yZ yW yP yF := by
  intro d
  induction d with
  | zero =>
    intro r c yX yY yZ yW yP hr hqr hM
    have e : r = N := by omega
    subst e
    rw [wY_findCorners_42]
    exact br_t (nI_le (Nat.le_refl _) (by omega)) (nm_r (nI_1 _) (hJ c _ _ _ _ _ (xb_M_congr hM (fun v => hb_KF_row v))))
  | succ d ih =>
    intro r c yX yY yZ yW yP hr hqr hM
    rw [wY_findCorners_42]
    refine br_f (nI_ge (by omega) (by omega)) ?_
    refine yb_try hS hN hA (by omega) hq (by omega) (fun v h => hb_KF_K h) hM (fun c yX yY yZ yW yP hM' => ?_)
    exact nm_r (nI_1 r) (ih (r + 1) c _ _ _ _ _ (by omega) (by omega) (xb_M_congr hM' (fun v => hb_KF_step hpq hqr (by omega) hN v)))
theorem yb_find7 {post : SY → Prop} (hS : hb_Sys P (hb_SN N)) (hN : N ≤ 16) (hA : ∀ i, i < N → hb_qt pA pB pC pD i = P i) (h : ∀ (c : Nat) (yX yY yZ yW yP : Nat → Int32), xb_C P (hb_SN N) c yX yY yZ yW yP → hb_Srt c (hb_qt yX yY yZ yW) → post (gn, nI N, nI c, qN, qD, pA, pB, pC, pD, yX, yY, yZ, yW, yP, yF)) : ∀ (d pq c : Nat) (yX yY yZ yW yP : Nat → Int32), pq + d = 256 → xb_M P (hb_SN N) (hb_KF P N pq 0) c yX yY yZ yW yP → wY_findCorners_7 post (d + 1) (nI pq) gn (nI N) (nI c) qN qD pA pB pC pD yX yY yZ yW yP yF := by
  intro d
  induction d with
  | zero =>
    intro pq c yX yY yZ yW yP hp hM
    have e : pq = 256 := by omega
    subst e
    rw [wY_findCorners_7]
    have hC : xb_C P (hb_SN N) c yX yY yZ yW yP := xb_M_congr hM (fun v => hb_KF_all hN v)
    have c32 := hb_md_le hS hC.1 (fun _ h => h)
    refine br_t (by decide) ⟨c + 1, ?_⟩
    exact yb_sort73 hS c32 (fun yX yY yZ yW yP hC' hs => h c _ _ _ _ _ hC' hs) c 0 _ _ _ _ _ (by omega) hC ⟨fun i i2 hi => absurd hi (Nat.not_lt_zero i), fun m h1 h2 => by omega⟩
  | succ d ih =>
    intro pq c yX yY yZ yW yP hp hM
    rw [wY_findCorners_7]
    refine br_f (nI_ge (b := 256) (by omega) (by decide)) ⟨by decide, nm_r (pk_div (d := 16) (by omega) (by omega) (by omega)) ⟨by decide, nm_r (pk_rem (d := 16) (by omega) (by omega) (by omega)) ?_⟩⟩
    have skip : (pq % 16 ≤ pq / 16 ∨ N ≤ pq % 16) → wY_findCorners_7 post (d + 1) (nI (pq + 1)) gn (nI N) (nI c) qN qD pA pB pC pD yX yY yZ yW yP yF := fun hk => ih (pq + 1) c _ _ _ _ _ (by omega) (xb_M_congr hM (fun v => hb_KF_skip hN hk v))
    refine pk_le (pq % 16) (pq / 16) (fun h1 => nm_r (nI_1 pq) (skip (Or.inl h1))) (fun h1 => ?_)
    refine pk_le N (pq % 16) (fun h2 => nm_r (nI_1 pq) (skip (Or.inr h2))) (fun h2 => ?_)
    have e : 16 * (pq / 16) + pq % 16 = pq := by omega
    refine nm_r (nI_1 _) ⟨N - (pq % 16 + 1) + 1, ?_⟩
    have hM2 : xb_M P (hb_SN N) (hb_KF P N (16 * (pq / 16) + pq % 16) (pq % 16 + 1)) c yX yY yZ yW yP := xb_M_congr hM (fun v => by
      have := hb_KF_start (P := P) (p := pq / 16) hN h2 v
      rw [e] at this
      rw [e]; exact this)
    have := yb_find42 (post := post) (J := wY_findCorners_7 post (d + 1)) (p := pq / 16) (q := pq % 16) hS hN hA h1 h2 (fun c yX yY yZ yW yP hM' => ih _ c _ _ _ _ _ (by omega) hM') (N - (pq % 16 + 1)) (pq % 16 + 1) c yX yY yZ yW yP (by omega) (by omega) hM2
    rw [e] at this
    exact this
theorem yb_findCorners {post : SY → Prop} (hS : hb_Sys P (hb_SN N)) (hN : N ≤ 16) (hA : ∀ i, i < N → hb_qt pA pB pC pD i = P i) (h : ∀ (c : Nat) (yX yY yZ yW yP : Nat → Int32), xb_C P (hb_SN N) c yX yY yZ yW yP → hb_Srt c (hb_qt yX yY yZ yW) → post (gn, nI N, nI c, qN, qD, pA, pB, pC, pD, yX, yY, yZ, yW, yP, yF)) : wpY_findCorners post (gn, nI N, gc, qN, qD, pA, pB, pC, pD, yX, yY, yZ, yW, yP, yF) := by
  refine ⟨257, ?_⟩
  exact yb_find7 hS hN hA h 256 0 0 yX yY yZ yW yP (by omega) ⟨hb_md_0 (fun v ⟨p, q, r, _, _, _, ho, _⟩ => by omega), fun k hk => absurd hk (Nat.not_lt_zero k)⟩
end
end
section
/-! Y: its planes; Y's side of the relation -/
/-- the plane of a code and a number -/
def hb_code (m : Nat) (d : Int) : hb_Q := ((m % 9 : Nat) - 4, (m / 9 % 9 : Nat) - 4, (m / 81 : Nat) - 4, d)
/-- Y's side of the relation -/
def yb_R (n : Nat) (P : Nat → hb_Q) (gn : Int32) (qN qD : Nat → Int32) : Prop := gn = nI n ∧ ∀ i, i < n → ∃ m, m ≤ 728 ∧ qN i = nI m ∧ P (6 + i) = hb_code m (qD i).toInt
/-- the number of a plane in a list without cut b -/
def hb_sk (b j : Nat) : Nat := if j < 6 + b then j else j + 1
def hb_nk (n b : Nat) : Nat := if b < n then 5 + n else 6 + n
theorem yb_dec {m : Nat} (h : m ≤ 728) : (nI m - nI m / 9 * 9) - 4 = zi_I ((m % 9 : Nat) - 4) ∧ ((nI m / 9) - (nI m / 9) / 9 * 9) - 4 = zi_I ((m / 9 % 9 : Nat) - 4) ∧ (nI m / 81) - 4 = zi_I ((m / 81 : Nat) - 4) := by
  have e1 : nI m - nI m / 9 * 9 = nI (m % 9) := pk_rem (d := 9) (by omega) (by omega) (by omega)
  have e2 : nI m / 9 = nI (m / 9) := pk_div (d := 9) (by omega) (by omega) (by omega)
  have e3 : nI (m / 9) - nI (m / 9) / 9 * 9 = nI (m / 9 % 9) := pk_rem (d := 9) (by omega) (by omega) (by omega)
  have e4 : nI m / 81 = nI (m / 81) := pk_div (d := 81) (by omega) (by omega) (by omega)
  have f4 : (4 : Int32) = zi_I 4 := rfl
  rw [e1, e2, e3, e4, zi_nI, zi_nI, zi_nI, f4, zi_sub, zi_sub, zi_sub]
  exact ⟨rfl, rfl, rfl⟩
theorem hb_cube_ax {P : Nat → hb_Q} (h : hb_Cube P) {a : Nat} (ha : a < 3) : P (2 * a) = (if a = 0 then 1 else 0, if a = 1 then 1 else 0, if a = 2 then 1 else 0, 8) ∧ P (2 * a + 1) = (if a = 0 then -1 else 0, if a = 1 then -1 else 0, if a = 2 then -1 else 0, 8) := by
  obtain ⟨c0, c1, c2, c3, c4, c5⟩ := h
  have : a = 0 ∨ a = 1 ∨ a = 2 := by omega
  rcases this with e | e | e <;> subst e
  · exact ⟨c0, c1⟩
  · exact ⟨c2, c3⟩
  · exact ⟨c4, c5⟩
theorem zi_ite {p : Prop} [Decidable p] {x y : Int32} : (if p then x else y).toInt = if p then x.toInt else y.toInt := by
  split <;> rfl
section
variable {gn gp gc : Int32} {qN qD pA pB pC pD yX yY yZ yW yP yF : Nat → Int32}
theorem yb_in {post : Int32 → Prop} {x lo hi : Int32} (h1 : lo.toInt ≤ x.toInt → x.toInt ≤ hi.toInt → post 1) (h0 : ¬ (lo.toInt ≤ x.toInt ∧ x.toInt ≤ hi.toInt) → post 0) : wpY_in post (gn, gp, gc, qN, qD, pA, pB, pC, pD, yX, yY, yZ, yW, yP, yF) x lo hi := by
  simp only [wpY_in, Int32.lt_iff_toInt_lt]
  exact br_c (fun e => h0 (by omega)) (fun e => br_c (fun e2 => h0 (by omega)) (fun e2 => h1 (by omega) (by omega)))
theorem yb_addNormal {post : SY → Prop} {p m : Nat} (hp : p < 16) (hm : m ≤ 728) {d : Int32} (h : ∀ pA' pB' pC' pD' : Nat → Int32, (∀ j, j ≠ p → hb_qt pA' pB' pC' pD' j = hb_qt pA pB pC pD j) → hb_qt pA' pB' pC' pD' p = hb_code m d.toInt → post (gn, nI (p + 1), gc, qN, qD, pA', pB', pC', pD', yX, yY, yZ, yW, yP, yF)) : wpY_addNormal post (gn, nI p, gc, qN, qD, pA, pB, pC, pD, yX, yY, yZ, yW, yP, yF) (nI m) d := by
  obtain ⟨e1, e2, e3⟩ := yb_dec hm
  refine ⟨by decide, nm_r e1 ⟨by decide, by decide, nm_r e2 ⟨by decide, nm_r e3 ?_⟩⟩⟩
  refine yb_addPlane hp ?_
  refine h _ _ _ _ (fun j hj => hb_qt_un hj) ?_
  rw [hb_qt_us, zi_t ⟨by omega, by omega⟩, zi_t ⟨by omega, by omega⟩, zi_t ⟨by omega, by omega⟩]
  rfl
theorem yb_addAxis {post : SY → Prop} {p a : Nat} (hp : p < 16) (ha : a < 3) {s m : Int32} (h : ∀ pA' pB' pC' pD' : Nat → Int32, (∀ j, j ≠ p → hb_qt pA' pB' pC' pD' j = hb_qt pA pB pC pD j) → hb_qt pA' pB' pC' pD' p = (if a = 0 then s.toInt else 0, if a = 1 then s.toInt else 0, if a = 2 then s.toInt else 0, m.toInt) → post (gn, nI (p + 1), gc, qN, qD, pA', pB', pC', pD', yX, yY, yZ, yW, yP, yF)) : wpY_addAxis post (gn, nI p, gc, qN, qD, pA, pB, pC, pD, yX, yY, yZ, yW, yP, yF) (nI a) s m := by
  have fin : ∀ x y z : Int32, (x.toInt, y.toInt, z.toInt, m.toInt) = (if a = 0 then s.toInt else 0, if a = 1 then s.toInt else 0, if a = 2 then s.toInt else 0, m.toInt) → wY_addAxis_30 post m z y x gn (nI p) gc qN qD pA pB pC pD yX yY yZ yW yP yF := by
    intro x y z e
    unfold wY_addAxis_30
    refine yb_addPlane hp ?_
    exact h _ _ _ _ (fun j hj => hb_qt_un hj) (by rw [hb_qt_us]; exact e)
  have c0 : nI a = 0 ↔ a = 0 := nI_eq (b := 0) (by omega) (by omega)
  have c1 : nI a = 1 ↔ a = 1 := nI_eq (b := 1) (by omega) (by omega)
  have c2 : nI a = 2 ↔ a = 2 := nI_eq (b := 2) (by omega) (by omega)
  have z0 : (0 : Int32).toInt = 0 := rfl
  simp only [wpY_addAxis, wY_addAxis_10, wY_addAxis_20, c0, c1, c2]
  have : a = 0 ∨ a = 1 ∨ a = 2 := by omega
  rcases this with e | e | e <;> subst e
  · exact br_t rfl (br_f (by omega) (br_f (by omega) (fin s 0 0 (by simp only [z0]; rfl))))
  · exact br_f (by omega) (br_t rfl (br_f (by omega) (fin 0 s 0 (by simp only [z0]; rfl))))
  · exact br_f (by omega) (br_f (by omega) (br_t rfl (fin 0 0 s (by simp only [z0]; rfl))))
variable {P : Nat → hb_Q} {n b : Nat}
theorem yb_set36 {post : SY → Prop} {x1 : Int32} (hPl : hb_Pl n P) (hR : ∀ i, i < n → ∃ m, m ≤ 728 ∧ qN i = nI m ∧ P (6 + i) = hb_code m (qD i).toInt) (hx : ∀ i, i < 8 → (nI i = x1 ↔ i = b)) (h : ∀ pA pB pC pD : Nat → Int32, (∀ j, j < hb_nk n b → hb_qt pA pB pC pD j = P (hb_sk b j)) → post (nI n, nI (hb_nk n b), gc, qN, qD, pA, pB, pC, pD, yX, yY, yZ, yW, yP, yF)) : ∀ (d i : Nat) (pA pB pC pD : Nat → Int32), i + d = n → (∀ j, j < hb_nk i b → hb_qt pA pB pC pD j = P (hb_sk b j)) → wY_setPlanes_36 post x1 (d + 1) (nI i) (nI n) (nI (hb_nk i b)) gc qN qD pA pB pC pD yX yY yZ yW yP yF := by
  have n8 := hPl.1
  intro d
  induction d with
  | zero =>
    intro i pA pB pC pD hi hj
    have e : i = n := by omega
    subst e
    rw [wY_setPlanes_36]
    exact br_t (nI_le (Nat.le_refl _) (by omega)) (h _ _ _ _ hj)
  | succ d ih =>
    intro i pA pB pC pD hi hj
    rw [wY_setPlanes_36]
    refine br_f (nI_ge (by omega) (by omega)) (ek_if (hx i (by omega)) (fun e => ?_) (fun e => ?_))
    · have ek : hb_nk i b = hb_nk (i + 1) b := by unfold hb_nk; rw [if_neg (by omega), if_pos (by omega)]; omega
      rw [ek] at hj ⊢
      exact nm_r (nI_1 i) (ih (i + 1) _ _ _ _ (by omega) hj)
    · obtain ⟨m, hm, e1, e2⟩ := hR i (by omega)
      have ek : hb_nk i b + 1 = hb_nk (i + 1) b := by
        unfold hb_nk
        by_cases hb : b < i
        · rw [if_pos hb, if_pos (by omega)]; omega
        · rw [if_neg hb, if_neg (by omega)]; omega
      have es : hb_sk b (hb_nk i b) = 6 + i := by
        unfold hb_nk hb_sk
        by_cases hb : b < i
        · rw [if_pos hb, if_neg (by omega)]; omega
        · rw [if_neg hb, if_pos (by omega)]
      have lt : hb_nk i b < 16 := by unfold hb_nk; split <;> omega
      refine ⟨vp_in_nI (by omega) (by omega), vp_in_nI (by omega) (by omega), ?_⟩
      rw [nI_clamp (by omega), e1]
      refine yb_addNormal lt hm (fun pA' pB' pC' pD' he1 he2 => ?_)
      rw [ek]
      refine nm_r (nI_1 i) (ih (i + 1) _ _ _ _ (by omega) (fun j hj' => ?_))
      by_cases ej : j = hb_nk i b
      · rw [ej, he2, es, e2]
      · rw [he1 j ej]; exact hj j (by omega)
theorem yb_set7 {post : SY → Prop} {x1 : Int32} (hC : hb_Cube P) (h : ∀ pA pB pC pD : Nat → Int32, (∀ j, j < 6 → hb_qt pA pB pC pD j = P j) → ∃ n36, wY_setPlanes_36 post x1 n36 0 gn (nI 6) gc qN qD pA pB pC pD yX yY yZ yW yP yF) : ∀ (d a : Nat) (pA pB pC pD : Nat → Int32), a + d = 3 → (∀ j, j < 2 * a → hb_qt pA pB pC pD j = P j) → wY_setPlanes_7 post x1 (d + 1) (nI a) gn (nI (2 * a)) gc qN qD pA pB pC pD yX yY yZ yW yP yF := by
  intro d
  induction d with
  | zero =>
    intro a pA pB pC pD ha hj
    have e : a = 3 := by omega
    subst e
    rw [wY_setPlanes_7]
    exact br_t (by decide) (h _ _ _ _ hj)
  | succ d ih =>
    intro a pA pB pC pD ha hj
    obtain ⟨c1, c2⟩ := hb_cube_ax hC (by omega : a < 3)
    rw [wY_setPlanes_7]
    refine br_f (nI_ge (b := 3) (by omega) (by decide)) ?_
    refine yb_addAxis (by omega) (by omega) (fun pA1 pB1 pC1 pD1 he1 he2 => ?_)
    refine yb_addAxis (by omega) (by omega) (fun pA2 pB2 pC2 pD2 hf1 hf2 => ?_)
    have e2 : 2 * a + 1 + 1 = 2 * (a + 1) := by omega
    rw [e2]
    refine nm_r (nI_1 a) (ih (a + 1) _ _ _ _ (by omega) (fun j hj' => ?_))
    have t1 : (1 : Int32).toInt = 1 := rfl
    have tm : (-1 : Int32).toInt = -1 := rfl
    have t8 : (8 : Int32).toInt = 8 := rfl
    by_cases ej : j = 2 * a + 1
    · rw [ej, hf2, c2, tm, t8]
    · rw [hf1 j ej]
      by_cases ej2 : j = 2 * a
      · rw [ej2, he2, c1, t1, t8]
      · rw [he1 j ej2]; exact hj j (by omega)
theorem yb_setPlanes {post : SY → Prop} {x1 : Int32} (hPl : hb_Pl n P) (hR : yb_R n P gn qN qD) (hx : ∀ i, i < 8 → (nI i = x1 ↔ i = b)) (h : ∀ pA pB pC pD : Nat → Int32, (∀ j, j < hb_nk n b → hb_qt pA pB pC pD j = P (hb_sk b j)) → post (nI n, nI (hb_nk n b), gc, qN, qD, pA, pB, pC, pD, yX, yY, yZ, yW, yP, yF)) : wpY_setPlanes post (gn, gp, gc, qN, qD, pA, pB, pC, pD, yX, yY, yZ, yW, yP, yF) x1 := by
  obtain ⟨e, hR⟩ := hR
  subst e
  refine ⟨4, ?_⟩
  refine yb_set7 hPl.2.1 (fun pA pB pC pD hj => ⟨n + 1, ?_⟩) 3 0 pA pB pC pD (by omega) (fun j hj => absurd hj (by omega))
  have e0 : hb_nk 0 b = 6 := rfl
  have := yb_set36 (post := post) (x1 := x1) (gc := gc) (yX := yX) (yY := yY) (yZ := yZ) (yW := yW) (yP := yP) (yF := yF) hPl hR hx h n 0 pA pB pC pD (by omega) (fun j hj' => ?_)
  · rw [e0] at this; exact this
  · rw [e0] at hj'
    rw [hj j hj']
    unfold hb_sk; rw [if_pos (by omega)]
end
theorem hb_sk_99 {n j : Nat} (h : j < 6 + n) (hn : n ≤ 8) : hb_sk 99 j = j := by unfold hb_sk; rw [if_pos (by omega)]
theorem hb_nk_99 {n : Nat} (hn : n ≤ 8) : hb_nk n 99 = 6 + n := by unfold hb_nk; rw [if_neg (by omega)]
theorem yb_m1 {i : Nat} (h : i < 8) : nI i = -1 ↔ i = 99 := ⟨fun e => ((xb_m1 (by omega)).mp e).elim, fun e => by omega⟩
section
variable {gn gp gc : Int32} {qN qD pA pB pC pD yX yY yZ yW yP yF : Nat → Int32}
variable {P : Nat → hb_Q} {n : Nat}
theorem yb_setAll {post : SY → Prop} (hPl : hb_Pl n P) (hR : yb_R n P gn qN qD) (h : ∀ pA pB pC pD : Nat → Int32, (∀ j, j < 6 + n → hb_qt pA pB pC pD j = P j) → post (nI n, nI (6 + n), gc, qN, qD, pA, pB, pC, pD, yX, yY, yZ, yW, yP, yF)) : wpY_setPlanes post (gn, gp, gc, qN, qD, pA, pB, pC, pD, yX, yY, yZ, yW, yP, yF) (-1) := by
  refine yb_setPlanes (b := 99) hPl hR (fun i hi => yb_m1 hi) (fun pA pB pC pD hj => ?_)
  rw [hb_nk_99 hPl.1] at hj ⊢
  exact h _ _ _ _ (fun j hj' => by rw [hj j hj', hb_sk_99 hj' hPl.1])
/-- after 'find': the planes, the corners in order -/
theorem yb_find {post : SY → Prop} (hPl : hb_Pl n P) (hR : yb_R n P gn qN qD) (h : ∀ (c : Nat) (pA pB pC pD yX yY yZ yW yP : Nat → Int32), (∀ j, j < 6 + n → hb_qt pA pB pC pD j = P j) → xb_B n P c yX yY yZ yW yP → post (nI n, nI (6 + n), nI c, qN, qD, pA, pB, pC, pD, yX, yY, yZ, yW, yP, yF)) : wpY_find post (gn, gp, gc, qN, qD, pA, pB, pC, pD, yX, yY, yZ, yW, yP, yF) := by
  simp only [wpY_find]
  refine yb_setAll hPl hR (fun pA pB pC pD hj => ?_)
  refine yb_findCorners (hb_S_sys hPl) (by have := hPl.1; omega) hj (fun c yX yY yZ yW yP hC hs => ?_)
  exact h c _ _ _ _ _ _ _ _ _ hj ⟨hC, hs⟩
end
/-- X's corners and Y's are the same -/
theorem hb_join {n : Nat} {P : Nat → hb_Q} {c c' : Nat} {tX tY tZ tW tP yX yY yZ yW yP : Nat → Int32} (hX : xb_B n P c tX tY tZ tW tP) (hY : xb_B n P c' yX yY yZ yW yP) : c' = c ∧ ∀ k, k < c → (yX k = tX k ∧ yY k = tY k ∧ yZ k = tZ k ∧ yW k = tW k) ∧ hb_qt yX yY yZ yW k = hb_qt tX tY tZ tW k := by
  obtain ⟨e, h⟩ := hb_srt_eq hX.1.1 hY.1.1 hX.2 hY.2
  refine ⟨e, fun k hk => ⟨?_, h k hk⟩⟩
  have := h k hk
  exact ⟨Int32.toInt_inj.mp (congrArg (fun v : hb_Q => v.1) this), Int32.toInt_inj.mp (congrArg (fun v : hb_Q => v.2.1) this), Int32.toInt_inj.mp (congrArg (fun v : hb_Q => v.2.2.1) this), Int32.toInt_inj.mp (congrArg (fun v : hb_Q => v.2.2.2) this)⟩
end
section
/-! the relation; new objects; cut and drop -/
def xb_RX (n : Nat) (P : Nat → hb_Q) (u : SX) : Prop := match u with
  | (fn, fb, fc, fm, fk, fT, fB, aA, aB, aC, aL, tX, tY, tZ, tW, tP, mX, mY, mZ, mW, mP, aI, kX, kY, kZ, kW, aH, aD) => xb_R n P fn fb fc aA aB aC aL tX tY tZ tW tP
def yb_RY (n : Nat) (P : Nat → hb_Q) (v : SY) : Prop := match v with
  | (gn, gp, gc, qN, qD, pA, pB, pC, pD, yX, yY, yZ, yW, yP, yF) => yb_R n P gn qN qD
/-- both objects hold the same planes; what X has built is right -/
def i_Rel (_ : Nat) (u : SX) (v : SY) : Prop := ∃ n P, xb_RX n P u ∧ yb_RY n P v
theorem i_up {k : Nat} {u : SX} {v : SY} (h : i_Rel k u v) : i_Rel (k + 3) u v := h
/-- opening the relation -/
theorem rl_el {k : Nat} {Q : SX → SY → Prop} (h : ∀ (n : Nat) (P : Nat → hb_Q) (fn fb fc fm fk : Int32) (fT fB : Int64) (aA aB aC aL tX tY tZ tW tP mX mY mZ mW mP : Nat → Int32) (aI : Nat → Int64) (kX kY kZ kW aH aD : Nat → Int32) (gn gp gc : Int32) (qN qD pA pB pC pD yX yY yZ yW yP yF : Nat → Int32), xb_R n P fn fb fc aA aB aC aL tX tY tZ tW tP → yb_R n P gn qN qD → Q (fn, fb, fc, fm, fk, fT, fB, aA, aB, aC, aL, tX, tY, tZ, tW, tP, mX, mY, mZ, mW, mP, aI, kX, kY, kZ, kW, aH, aD) (gn, gp, gc, qN, qD, pA, pB, pC, pD, yX, yY, yZ, yW, yP, yF)) {u : SX} {v : SY} (I : i_Rel k u v) : Q u v := by
  obtain ⟨n, P, hX, hY⟩ := I
  obtain ⟨fn, fb, fc, fm, fk, fT, fB, aA, aB, aC, aL, tX, tY, tZ, tW, tP, mX, mY, mZ, mW, mP, aI, kX, kY, kZ, kW, aH, aD⟩ := u
  obtain ⟨gn, gp, gc, qN, qD, pA, pB, pC, pD, yX, yY, yZ, yW, yP, yF⟩ := v
  exact h n P fn fb fc fm fk fT fB aA aB aC aL tX tY tZ tW tP mX mY mZ mW mP aI kX kY kZ kW aH aD gn gp gc qN qD pA pB pC pD yX yY yZ yW yP yF hX hY
section
variable {fn fb fc fm fk : Int32} {fT fB : Int64} {aA aB aC aL tX tY tZ tW tP mX mY mZ mW mP kX kY kZ kW aH aD : Nat → Int32} {aI : Nat → Int64}
variable {gn gp gc : Int32} {qN qD pA pB pC pD yX yY yZ yW yP yF : Nat → Int32}
theorem rl_mk {k n : Nat} {P : Nat → hb_Q} (hX : xb_R n P fn fb fc aA aB aC aL tX tY tZ tW tP) (hY : yb_R n P gn qN qD) : i_Rel k (fn, fb, fc, fm, fk, fT, fB, aA, aB, aC, aL, tX, tY, tZ, tW, tP, mX, mY, mZ, mW, mP, aI, kX, kY, kZ, kW, aH, aD) (gn, gp, gc, qN, qD, pA, pB, pC, pD, yX, yY, yZ, yW, yP, yF) := ⟨n, P, hX, hY⟩
end
/-! new objects -/
def hb_P0 (i : Nat) : hb_Q := if i = 0 then (1, 0, 0, 8) else if i = 1 then (-1, 0, 0, 8) else if i = 2 then (0, 1, 0, 8) else if i = 3 then (0, -1, 0, 8) else if i = 4 then (0, 0, 1, 8) else (0, 0, -1, 8)
theorem hb_P0_cube : hb_Cube hb_P0 := ⟨rfl, rfl, rfl, rfl, rfl, rfl⟩
theorem hb_P0_ok : hb_Pl 0 hb_P0 := ⟨by omega, hb_P0_cube, fun i hi => ((hb_sys6 hb_P0_cube).2.2 i hi).2⟩
theorem xb_par : ∀ p, p < 6 → ((nI p &&& 1) = 0 ↔ p % 2 = 0) ∧ nI p / 2 = nI (p / 2) ∧ (nI (p / 2) = 0 ↔ p / 2 = 0) ∧ (nI (p / 2) = 1 ↔ p / 2 = 1) ∧ (nI (p / 2) = 2 ↔ p / 2 = 2) := by decide +kernel
section
variable {fn fb fc fm fk : Int32} {fT fB : Int64} {aA aB aC aL tX tY tZ tW tP mX mY mZ mW mP kX kY kZ kW aH aD : Nat → Int32} {aI : Nat → Int64}
theorem xb_init191 {post : SX → Prop} {J : Int32 → Int32 → Int32 → Int32 → Int32 → Int32 → Int64 → Int64 → (Nat → Int32) → (Nat → Int32) → (Nat → Int32) → (Nat → Int32) → (Nat → Int32) → (Nat → Int32) → (Nat → Int32) → (Nat → Int32) → (Nat → Int32) → (Nat → Int32) → (Nat → Int32) → (Nat → Int32) → (Nat → Int32) → (Nat → Int32) → (Nat → Int64) → (Nat → Int32) → (Nat → Int32) → (Nat → Int32) → (Nat → Int32) → (Nat → Int32) → (Nat → Int32) → Prop} {p : Nat} (hp : p < 6) {s : Int32} (hs : -1 ≤ s.toInt ∧ s.toInt ≤ 1) (h : ∀ aA' aB' aC' aL' : Nat → Int32, (∀ j, j ≠ p → hb_qt aA' aB' aC' aL' j = hb_qt aA aB aC aL j) → hb_qt aA' aB' aC' aL' p = (if p / 2 = 0 then s.toInt else 0, if p / 2 = 1 then s.toInt else 0, if p / 2 = 2 then s.toInt else 0, 8) → J (nI (p + 1)) fn fb fc fm fk fT fB aA' aB' aC' aL' tX tY tZ tW tP mX mY mZ mW mP aI kX kY kZ kW aH aD) : wX_init_191 post J (nI p) s fn fb fc fm fk fT fB aA aB aC aL tX tY tZ tW tP mX mY mZ mW mP aI kX kY kZ kW aH aD := by
  obtain ⟨-, e1, e2, e3, e4⟩ := xb_par p hp
  have z0 : (0 : Int32).toInt = 0 := rfl
  have fin : ∀ a b c : Int32, (-128 ≤ a.toInt ∧ a.toInt < 128) → (-128 ≤ b.toInt ∧ b.toInt < 128) → (-128 ≤ c.toInt ∧ c.toInt < 128) → (a.toInt, b.toInt, c.toInt, (8 : Int)) = (if p / 2 = 0 then s.toInt else 0, if p / 2 = 1 then s.toInt else 0, if p / 2 = 2 then s.toInt else 0, 8) → wX_init_229 post J (nI p) c b a (nI p) fn fb fc fm fk fT fB aA aB aC aL tX tY tZ tW tP mX mY mZ mW mP aI kX kY kZ kW aH aD := by
    intro a b c ha hb hc e
    unfold wX_init_229
    refine xb_setPlane (by omega) ha hb hc ?_
    refine ⟨vp_in_nI (by omega) (by omega), nm_r (e' := upd aL p 8) ?_ (nm_r (nI_1 p) ?_)⟩
    · rw [nI_clamp (by omega), zi_byte1 (by decide) (by decide)]
    · refine h _ _ _ _ (fun j hj => hb_qt_un hj) ?_
      rw [hb_qt_us]; exact e
  simp only [wX_init_191, wX_init_205, wX_init_217, yb_20, not_false_iff, true_and, e1, e2, e3, e4]
  have : p / 2 = 0 ∨ p / 2 = 1 ∨ p / 2 = 2 := by omega
  have bs : -128 ≤ s.toInt ∧ s.toInt < 128 := by omega
  have bz : -128 ≤ (0 : Int32).toInt ∧ (0 : Int32).toInt < 128 := by decide
  rcases this with e | e | e
  · exact br_t e (br_f (by omega) (br_f (by omega) (fin s 0 0 bs bz bz (by simp only [e, z0]; rfl))))
  · exact br_f (by omega) (br_t e (br_f (by omega) (fin 0 s 0 bz bs bz (by simp only [e, z0]; rfl))))
  · exact br_f (by omega) (br_f (by omega) (br_t e (fin 0 0 s bz bz bs (by simp only [e, z0]; rfl))))
theorem xb_init174 {post : SX → Prop} (h : ∀ aA aB aC aL : Nat → Int32, (∀ j, j < 6 → hb_qt aA aB aC aL j = hb_P0 j) → post (fn, fb, fc, fm, fk, fT, fB, aA, aB, aC, aL, tX, tY, tZ, tW, tP, mX, mY, mZ, mW, mP, aI, kX, kY, kZ, kW, aH, aD)) : ∀ (d p : Nat) (aA aB aC aL : Nat → Int32), p + d = 6 → (∀ j, j < p → hb_qt aA aB aC aL j = hb_P0 j) → wX_init_174 post (d + 1) (nI p) fn fb fc fm fk fT fB aA aB aC aL tX tY tZ tW tP mX mY mZ mW mP aI kX kY kZ kW aH aD := by
  intro d
  induction d with
  | zero =>
    intro p aA aB aC aL hp hj
    have e : p = 6 := by omega
    subst e
    rw [wX_init_174]
    exact br_t (by decide) (h _ _ _ _ hj)
  | succ d ih =>
    intro p aA aB aC aL hp hj
    rw [wX_init_174]
    refine br_f (nI_ge (b := 6) (by omega) (by decide)) ?_
    have p6 : p = 0 ∨ p = 1 ∨ p = 2 ∨ p = 3 ∨ p = 4 ∨ p = 5 := by omega
    refine ek_if (xb_par p (by omega)).1 (fun e => ?_) (fun e => ?_)
    · refine xb_init191 (by omega) (by decide) (fun aA' aB' aC' aL' h1 h2 => ih (p + 1) _ _ _ _ (by omega) (fun j hj' => ?_))
      by_cases ej : j = p
      · rw [ej, h2]
        rcases p6 with e' | e' | e' | e' | e' | e' <;> subst e' <;> first | rfl | omega
      · rw [h1 j ej]; exact hj j (by omega)
    · refine xb_init191 (by omega) (by decide) (fun aA' aB' aC' aL' h1 h2 => ih (p + 1) _ _ _ _ (by omega) (fun j hj' => ?_))
      by_cases ej : j = p
      · rw [ej, h2]
        rcases p6 with e' | e' | e' | e' | e' | e' <;> subst e' <;> first | rfl | omega
      · rw [h1 j ej]; exact hj j (by omega)
end
theorem i_vc0 : wpX_init (fun u => wpY_init (fun v => i_Rel 0 u v)) := by
  refine ⟨7, ?_⟩
  refine xb_init174 (fun aA aB aC aL hj => ?_) 6 0 _ _ _ _ (by omega) (fun j hj => absurd hj (Nat.not_lt_zero j))
  unfold wpY_init
  exact rl_mk (n := 0) (P := hb_P0) ⟨hb_P0_ok, rfl, hj, fun h => absurd rfl h⟩ ⟨rfl, fun i hi => absurd hi (Nat.not_lt_zero i)⟩
end
section
/-! cut and drop -/
theorem hb_code_good {m : Nat} (hm : m ≤ 728) (h364 : m ≠ 364) {d : Int} (hd : -60 ≤ d ∧ d ≤ 60) : hb_Good (hb_code m d) := by
  simp only [hb_Good, hb_code, hb_Nz]
  omega
theorem hb_Pl_cut {n : Nat} {P : Nat → hb_Q} (h : hb_Pl n P) (hn : n < 8) {q : hb_Q} (hq : hb_Good q) : hb_Pl (n + 1) (fun i => if i = 6 + n then q else P i) := by
  obtain ⟨-, ⟨c0, c1, c2, c3, c4, c5⟩, hg⟩ := h
  refine ⟨by omega, ⟨?_, ?_, ?_, ?_, ?_, ?_⟩, fun i hi => ?_⟩
  · exact (if_neg (by omega : ¬ 0 = 6 + n)).trans c0
  · exact (if_neg (by omega : ¬ 1 = 6 + n)).trans c1
  · exact (if_neg (by omega : ¬ 2 = 6 + n)).trans c2
  · exact (if_neg (by omega : ¬ 3 = 6 + n)).trans c3
  · exact (if_neg (by omega : ¬ 4 = 6 + n)).trans c4
  · exact (if_neg (by omega : ¬ 5 = 6 + n)).trans c5
  · by_cases e : i = 6 + n
    · simp only [if_pos e]; exact hq
    · simp only [if_neg e]; exact hg i (by omega)
theorem hb_Pl_drop {n i : Nat} {P : Nat → hb_Q} (h : hb_Pl n P) (hi : i < n) : hb_Pl (n - 1) (fun j => P (hb_sk i j)) := by
  obtain ⟨h8, ⟨c0, c1, c2, c3, c4, c5⟩, hg⟩ := h
  have e : ∀ j, j < 6 → hb_sk i j = j := fun j hj => by unfold hb_sk; rw [if_pos (by omega)]
  refine ⟨by omega, ⟨?_, ?_, ?_, ?_, ?_, ?_⟩, fun j hj => ?_⟩
  · show P (hb_sk i 0) = _; rw [e 0 (by omega)]; exact c0
  · show P (hb_sk i 1) = _; rw [e 1 (by omega)]; exact c1
  · show P (hb_sk i 2) = _; rw [e 2 (by omega)]; exact c2
  · show P (hb_sk i 3) = _; rw [e 3 (by omega)]; exact c3
  · show P (hb_sk i 4) = _; rw [e 4 (by omega)]; exact c4
  · show P (hb_sk i 5) = _; rw [e 5 (by omega)]; exact c5
  · refine hg _ ?_
    unfold hb_sk; split <;> omega
theorem i_vc_cut {k : Nat} {u : SX} {v : SY} (I : i_Rel k u v) (hk : k + 3 ≤ 1536) (v1 : Int32) (v2 : Int32) : wpX_cut (fun r u' => wpY_cut (fun r' v' => r' = r ∧ i_Rel (k + 3) u' v') v v1 v2) u v1 v2 := by
  refine rl_el (Q := fun u v => wpX_cut (fun r u' => wpY_cut (fun r' v' => r' = r ∧ i_Rel (k + 3) u' v') v v1 v2) u v1 v2) ?_ I
  intro n P fn fb fc fm fk fT fB aA aB aC aL tX tY tZ tW tP mX mY mZ mW mP aI kX kY kZ kW aH aD gn gp gc qN qD pA pB pC pD yX yY yZ yW yP yF hX hY
  have hR := rl_mk (k := k + 3) (fm := fm) (fk := fk) (fT := fT) (fB := fB) (mX := mX) (mY := mY) (mZ := mZ) (mW := mW) (mP := mP) (aI := aI) (kX := kX) (kY := kY) (kZ := kZ) (kW := kW) (aH := aH) (aD := aD) (gp := gp) (gc := gc) (pA := pA) (pB := pB) (pC := pC) (pD := pD) (yX := yX) (yY := yY) (yZ := yZ) (yW := yW) (yP := yP) (yF := yF) hX hY
  obtain ⟨hPl, e, hA, -⟩ := hX
  obtain ⟨e', hq⟩ := hY
  subst e; subst e'
  have n8 := hPl.1
  -- Y's answers
  have t728 : (728 : Int32).toInt = 728 := rfl
  have t0 : (0 : Int32).toInt = 0 := rfl
  have t60 : (60 : Int32).toInt = 60 := rfl
  have tm60 : (-60 : Int32).toInt = -60 := rfl
  have t364 : (364 : Int32).toInt = 364 := rfl
  have full : n = 8 → wpY_cut (fun r' v' => r' = (-1000001) ∧ i_Rel (k + 3) (nI n, fb, fc, fm, fk, fT, fB, aA, aB, aC, aL, tX, tY, tZ, tW, tP, mX, mY, mZ, mW, mP, aI, kX, kY, kZ, kW, aH, aD) v') (nI n, gp, gc, qN, qD, pA, pB, pC, pD, yX, yY, yZ, yW, yP, yF) v1 v2 := fun e => by
    subst e
    simp only [wpY_cut]
    exact br_t rfl ⟨by trivial, hR⟩
  have ybad : n < 8 → ¬ ((0 ≤ v1.toInt ∧ v1.toInt ≤ 728) ∧ ¬ v1.toInt = 364 ∧ (-60 ≤ v2.toInt ∧ v2.toInt ≤ 60)) → wpY_cut (fun r' v' => r' = (-1000000) ∧ i_Rel (k + 3) (nI n, fb, fc, fm, fk, fT, fB, aA, aB, aC, aL, tX, tY, tZ, tW, tP, mX, mY, mZ, mW, mP, aI, kX, kY, kZ, kW, aH, aD) v') (nI n, gp, gc, qN, qD, pA, pB, pC, pD, yX, yY, yZ, yW, yP, yF) v1 v2 := fun hn hb => by
    simp only [wpY_cut]
    refine br_f (fun z => by have := (nI_eq (b := 8) (by omega) (by omega)).mp z; omega) ?_
    refine yb_in (fun a b => br_f (by decide) ?_) (fun _ => br_t rfl ⟨by trivial, hR⟩)
    refine ek_if (zi_xe v1 364) (fun _ => ⟨by trivial, hR⟩) (fun c => ?_)
    refine yb_in (fun d f => ?_) (fun _ => br_t rfl ⟨by trivial, hR⟩)
    rw [t0, t728] at *
    rw [tm60] at d
    rw [t60] at f
    rw [t364] at c
    exact absurd ⟨⟨a, b⟩, c, d, f⟩ hb
  simp only [wpX_cut]
  refine pk_lt n 8 (fun hn => ?_) (fun hn => full (by omega))
  refine ek_if Int32.lt_iff_toInt_lt (fun h => ybad hn (by omega)) (fun h1 => ?_)
  refine ek_if Int32.lt_iff_toInt_lt (fun h => ybad hn (by omega)) (fun h2 => ?_)
  refine ek_if (zi_xe v1 364) (fun h => ybad hn (by omega)) (fun h3 => ?_)
  refine ek_if Int32.lt_iff_toInt_lt (fun h => ybad hn (by omega)) (fun h4 => ?_)
  refine ek_if Int32.le_iff_toInt_le (fun h5 => ?_) (fun h => ybad hn (by omega))
  rw [t0] at h1
  rw [t728] at h2
  rw [t364] at h3
  rw [tm60] at h4
  rw [t60] at h5
  obtain ⟨m, em⟩ : ∃ m : Nat, v1.toInt = m := ⟨v1.toInt.toNat, by omega⟩
  have ev : v1 = nI m := by rw [zi_nI, ← em]; exact zi_of v1
  subst ev
  obtain ⟨d1, d2, d3⟩ := yb_dec (by omega : m ≤ 728)
  have e6 : (6 : Int32) + nI n = nI (6 + n) := nI_add 6 n
  have gd := hb_code_good (by omega : m ≤ 728) (by omega : m ≠ 364) (d := v2.toInt) ⟨by omega, by omega⟩
  refine nm_r e6 ⟨by decide, by decide, by decide, by decide, ?_⟩
  rw [d1, d2, d3]
  have ta : (zi_I ((m % 9 : Nat) - 4)).toInt = (m % 9 : Nat) - 4 := zi_t ⟨by omega, by omega⟩
  have tb : (zi_I ((m / 9 % 9 : Nat) - 4)).toInt = (m / 9 % 9 : Nat) - 4 := zi_t ⟨by omega, by omega⟩
  have tc : (zi_I ((m / 81 : Nat) - 4)).toInt = (m / 81 : Nat) - 4 := zi_t ⟨by omega, by omega⟩
  refine xb_setPlane (by omega) (by rw [ta]; omega) (by rw [tb]; omega) (by rw [tc]; omega) ?_
  refine ⟨vp_in_nI (by omega) (by omega), nm_r (e' := upd aL (6 + n) v2) (by rw [nI_clamp (by omega), zi_byte (by omega) (by omega)]) (nm_r (nI_1 n) ?_)⟩
  simp only [wpY_cut]
  refine br_f (fun z => by have := (nI_eq (b := 8) (by omega) (by omega)).mp z; omega) ?_
  refine yb_in (fun a b => br_f (by decide) ?_) (fun hc => absurd hc (by rw [t0, t728]; omega))
  refine ek_if (zi_xe (nI m) 364) (fun hc => absurd hc (by rw [t364]; omega)) (fun c => ?_)
  refine yb_in (fun d f => br_f (by decide) ?_) (fun hc => absurd hc (by rw [tm60, t60]; omega))
  refine ⟨vp_in_nI hn (by omega), nm_r (e' := upd qN n (nI m)) (by rw [nI_clamp (by omega)]) ⟨vp_in_nI hn (by omega), nm_r (e' := upd qD n v2) (by rw [nI_clamp (by omega)]) (nm_r (nI_1 n) ⟨rfl, ?_⟩)⟩⟩
  refine rl_mk (n := n + 1) (P := fun i => if i = 6 + n then hb_code m v2.toInt else P i) ⟨hb_Pl_cut hPl hn gd, rfl, fun i hi => ?_, fun h => absurd rfl h⟩ ⟨rfl, fun i hi => ?_⟩
  · by_cases ei : i = 6 + n
    · subst ei
      rw [hb_qt_us, ta, tb, tc]
      simp only [if_true]
      rfl
    · rw [hb_qt_un ei]
      simp only [if_neg ei]
      exact hA i (by omega)
  · by_cases ei : i = n
    · subst ei
      refine ⟨m, by omega, pk_us, ?_⟩
      rw [pk_us]
      simp only [if_true]
    · obtain ⟨m', a1, a2, a3⟩ := hq i (by omega)
      refine ⟨m', a1, by rw [pk_un ei]; exact a2, ?_⟩
      rw [pk_un ei]
      simp only [if_neg (by omega : ¬ 6 + i = 6 + n)]
      exact a3
section
variable {fn fb fc fm fk : Int32} {fT fB : Int64} {aA aB aC aL tX tY tZ tW tP mX mY mZ mW mP kX kY kZ kW aH aD : Nat → Int32} {aI : Nat → Int64}
variable {P : Nat → hb_Q} {n i : Nat}
theorem xb_drop30 {post : Int32 → SX → Prop} (hPl : hb_Pl n P) (hi : i < n) (h : ∀ aA aB aC aL : Nat → Int32, (∀ j, j < 6 + (n - 1) → hb_qt aA aB aC aL j = P (hb_sk i j)) → post (nI (n - 1)) (nI (n - 1), 0, fc, fm, fk, fT, fB, aA, aB, aC, aL, tX, tY, tZ, tW, tP, mX, mY, mZ, mW, mP, aI, kX, kY, kZ, kW, aH, aD)) : ∀ (d p : Nat) (aA aB aC aL : Nat → Int32), p + d = 6 + (n - 1) → 6 + i ≤ p → (∀ j, j < p → hb_qt aA aB aC aL j = P (hb_sk i j)) → (∀ j, p < j → j < 6 + n → hb_qt aA aB aC aL j = P j) → wX_drop_30 post (d + 1) (nI p) (nI (n - 1)) fb fc fm fk fT fB aA aB aC aL tX tY tZ tW tP mX mY mZ mW mP aI kX kY kZ kW aH aD := by
  have n8 := hPl.1
  have e6 : (6 : Int32) + nI (n - 1) = nI (6 + (n - 1)) := nI_add 6 (n - 1)
  intro d
  induction d with
  | zero =>
    intro p aA aB aC aL hp h6 h1 h2
    have e : p = 6 + (n - 1) := by omega
    subst e
    rw [wX_drop_30]
    exact br_t (show (6 : Int32) + nI (n - 1) ≤ nI (6 + (n - 1)) by rw [e6]; exact nI_le (Nat.le_refl _) (by omega)) (h _ _ _ _ h1)
  | succ d ih =>
    intro p aA aB aC aL hp h6 h1 h2
    rw [wX_drop_30]
    refine br_f (show ¬ (6 : Int32) + nI (n - 1) ≤ nI p by rw [e6]; exact nI_ge (by omega) (by omega)) ?_
    have vi : vp_in (nI p + 1) 16 := by rw [nI_1]; exact vp_in_nI (by omega) (by omega)
    have cl : (nI p + 1).toNatClampNeg = p + 1 := by rw [nI_1]; exact nI_clamp (by omega)
    refine ⟨vi, vi, vi, ?_⟩
    rw [cl]
    have q := h2 (p + 1) (by omega) (by omega)
    have g := hPl.2.2 (p + 1) (by omega)
    rw [← q] at g
    obtain ⟨g1, g2, g3, g4, -⟩ := g
    have g1' : -4 ≤ (aA (p + 1)).toInt ∧ (aA (p + 1)).toInt ≤ 4 := g1
    have g2' : -4 ≤ (aB (p + 1)).toInt ∧ (aB (p + 1)).toInt ≤ 4 := g2
    have g3' : -4 ≤ (aC (p + 1)).toInt ∧ (aC (p + 1)).toInt ≤ 4 := g3
    have g4' : -60 ≤ (aL (p + 1)).toInt ∧ (aL (p + 1)).toInt ≤ 60 := g4
    refine xb_setPlane (by omega) (by omega) (by omega) (by omega) ?_
    refine ⟨vi, vp_in_nI (by omega) (by omega), nm_r (e' := upd aL p (aL (p + 1))) (by rw [nI_clamp (by omega), zi_byte1 (by omega) (by omega)]) (nm_r (nI_1 p) ?_)⟩
    refine ih (p + 1) _ _ _ _ (by omega) (by omega) (fun j hj => ?_) (fun j hj hj2 => ?_)
    · by_cases ej : j = p
      · subst ej
        have es : hb_sk i j = j + 1 := by unfold hb_sk; rw [if_neg (by omega)]
        rw [hb_qt_us, es, ← q]
        rfl
      · rw [hb_qt_un ej]; exact h1 j (by omega)
    · rw [hb_qt_un (by omega)]; exact h2 j (by omega) hj2
end
section
variable {gn gp gc : Int32} {qN qD pA pB pC pD yX yY yZ yW yP yF : Nat → Int32}
variable {P : Nat → hb_Q} {n i : Nat}
theorem yb_drop20 {post : Int32 → SY → Prop} (hn : n ≤ 8) (hi : i < n) (h : ∀ qN qD : Nat → Int32, (∀ j, j < n - 1 → ∃ m, m ≤ 728 ∧ qN j = nI m ∧ P (hb_sk i (6 + j)) = hb_code m (qD j).toInt) → post (nI (n - 1)) (nI (n - 1), gp, gc, qN, qD, pA, pB, pC, pD, yX, yY, yZ, yW, yP, yF)) : ∀ (d p : Nat) (qN qD : Nat → Int32), p + d = n - 1 → i ≤ p → (∀ j, j < p → ∃ m, m ≤ 728 ∧ qN j = nI m ∧ P (hb_sk i (6 + j)) = hb_code m (qD j).toInt) → (∀ j, p < j → j < n → ∃ m, m ≤ 728 ∧ qN j = nI m ∧ P (6 + j) = hb_code m (qD j).toInt) → wY_drop_20 post (nI n) gp gc (d + 1) (nI p) qN qD pA pB pC pD yX yY yZ yW yP yF := by
  have em : nI n - 1 = nI (n - 1) := pk_sub (b := 1) (by omega)
  intro d
  induction d with
  | zero =>
    intro p qN qD hp h6 h1 h2
    have e : p = n - 1 := by omega
    rw [e] at h1
    rw [wY_drop_20]
    exact br_t (show nI n - 1 ≤ nI p by rw [em]; exact nI_le (by omega) (by omega)) (nm_r em (h _ _ h1))
  | succ d ih =>
    intro p qN qD hp h6 h1 h2
    rw [wY_drop_20]
    refine br_f (show ¬ nI n - 1 ≤ nI p by rw [em]; exact nI_ge (by omega) (by omega)) ?_
    have vi : vp_in (nI p + 1) 8 := by rw [nI_1]; exact vp_in_nI (by omega) (by omega)
    have cl : (nI p + 1).toNatClampNeg = p + 1 := by rw [nI_1]; exact nI_clamp (by omega)
    refine ⟨vi, vp_in_nI (by omega) (by omega), nm_r (e' := upd qN p (qN (p + 1))) (by rw [nI_clamp (by omega), cl]) ⟨vi, vp_in_nI (by omega) (by omega), nm_r (e' := upd qD p (qD (p + 1))) (by rw [nI_clamp (by omega), cl]) (nm_r (nI_1 p) ?_)⟩⟩
    refine ih (p + 1) _ _ (by omega) (by omega) (fun j hj => ?_) (fun j hj hj2 => ?_)
    · by_cases ej : j = p
      · subst ej
        have es : hb_sk i (6 + j) = 6 + (j + 1) := by unfold hb_sk; rw [if_neg (by omega)]; omega
        rw [pk_us, pk_us, es]
        exact h2 (j + 1) (by omega) (by omega)
      · rw [pk_un ej, pk_un ej]; exact h1 j (by omega)
    · rw [pk_un (by omega), pk_un (by omega)]; exact h2 j (by omega) hj2
end
theorem i_vc_drop {k : Nat} {u : SX} {v : SY} (I : i_Rel k u v) (hk : k + 3 ≤ 1536) (v1 : Int32) : wpX_drop (fun r u' => wpY_drop (fun r' v' => r' = r ∧ i_Rel (k + 3) u' v') v v1) u v1 := by
  refine rl_el (Q := fun u v => wpX_drop (fun r u' => wpY_drop (fun r' v' => r' = r ∧ i_Rel (k + 3) u' v') v v1) u v1) ?_ I
  intro n P fn fb fc fm fk fT fB aA aB aC aL tX tY tZ tW tP mX mY mZ mW mP aI kX kY kZ kW aH aD gn gp gc qN qD pA pB pC pD yX yY yZ yW yP yF hX hY
  have hR := rl_mk (k := k + 3) (fm := fm) (fk := fk) (fT := fT) (fB := fB) (mX := mX) (mY := mY) (mZ := mZ) (mW := mW) (mP := mP) (aI := aI) (kX := kX) (kY := kY) (kZ := kZ) (kW := kW) (aH := aH) (aD := aD) (gp := gp) (gc := gc) (pA := pA) (pB := pB) (pC := pC) (pD := pD) (yX := yX) (yY := yY) (yZ := yZ) (yW := yW) (yP := yP) (yF := yF) hX hY
  obtain ⟨hPl, e, hA, -⟩ := hX
  obtain ⟨e', hq⟩ := hY
  subst e; subst e'
  have n8 := hPl.1
  have t0 : (0 : Int32).toInt = 0 := rfl
  have tn : (nI n).toInt = n := nI_toInt (by omega)
  have tn1 : (nI n - 1).toInt = n - 1 := by
    rw [zi_sub', tn, zi_t ⟨by show _ ≤ (n : Int) - 1; omega, by show (n : Int) - 1 < _; omega⟩]; rfl
  have bad : ¬ (0 ≤ v1.toInt ∧ v1.toInt < n) → wpY_drop (fun r' v' => r' = (-1000000) ∧ i_Rel (k + 3) (nI n, fb, fc, fm, fk, fT, fB, aA, aB, aC, aL, tX, tY, tZ, tW, tP, mX, mY, mZ, mW, mP, aI, kX, kY, kZ, kW, aH, aD) v') (nI n, gp, gc, qN, qD, pA, pB, pC, pD, yX, yY, yZ, yW, yP, yF) v1 := fun hb => by
    simp only [wpY_drop]
    refine yb_in (fun a b => ?_) (fun _ => br_t rfl ⟨by trivial, hR⟩)
    rw [t0] at a
    rw [tn1] at b
    exact absurd ⟨a, by omega⟩ hb
  simp only [wpX_drop]
  refine ek_if Int32.lt_iff_toInt_lt (fun h => bad (by omega)) (fun h1 => ?_)
  refine ek_if Int32.lt_iff_toInt_lt (fun h2 => ?_) (fun h => bad (by rw [tn] at h; omega))
  rw [t0] at h1
  rw [tn] at h2
  obtain ⟨i, ei⟩ : ∃ i : Nat, v1.toInt = i := ⟨v1.toInt.toNat, by omega⟩
  have ev : v1 = nI i := by rw [zi_nI, ← ei]; exact zi_of v1
  subst ev
  have em : nI n - 1 = nI (n - 1) := pk_sub (b := 1) (by omega)
  have e6 : (6 : Int32) + nI i = nI (6 + i) := nI_add 6 i
  refine nm_r em (nm_r e6 ⟨n - 1 - i + 1, ?_⟩)
  refine xb_drop30 hPl (by omega : i < n) (fun aA' aB' aC' aL' hA' => ?_) (n - 1 - i) (6 + i) aA aB aC aL (by omega) (by omega) (fun j hj => ?_) (fun j hj hj2 => hA j hj2)
  · simp only [wpY_drop]
    refine yb_in (fun a b => br_f (by decide) ⟨n - 1 - i + 1, ?_⟩) (fun hc => absurd hc (by rw [t0, tn1]; omega))
    refine yb_drop20 (P := P) n8 (by omega : i < n) (fun qN' qD' hq' => ⟨rfl, ?_⟩) (n - 1 - i) i qN qD (by omega) (Nat.le_refl _) (fun j hj => ?_) (fun j hj hj2 => hq j hj2)
    · have es : hb_sk i (6 + j) = 6 + j := by unfold hb_sk; rw [if_pos (by omega)]
      rw [es]; exact hq j (by omega)
    · exact rl_mk (n := n - 1) (P := fun j => P (hb_sk i j)) ⟨hb_Pl_drop hPl (by omega), rfl, hA', fun h => absurd rfl h⟩ ⟨rfl, hq'⟩
  · have es : hb_sk i j = j := by unfold hb_sk; rw [if_pos (by omega)]
    rw [es]; exact hA j (by omega)
end
section
/-! bits of longs; the rank of a set of planes, both sides -/
def bL (x : Int64) (i : Nat) : Bool := x.toBitVec.getLsbD i
theorem bL_ext {x y : Int64} (h : ∀ i, i < 64 → bL x i = bL y i) : x = y := Int64.toBitVec_inj.mp (BitVec.eq_of_getLsbD_eq (fun i hi => h i hi))
theorem bL_or (x y : Int64) (i : Nat) : bL (x ||| y) i = (bL x i || bL y i) := by unfold bL; rw [Int64.toBitVec_or, BitVec.getLsbD_or]
theorem bL_and (x y : Int64) (i : Nat) : bL (x &&& y) i = (bL x i && bL y i) := by unfold bL; rw [Int64.toBitVec_and, BitVec.getLsbD_and]
theorem bL_0 (i : Nat) : bL 0 i = false := BitVec.getLsbD_zero
theorem bL_big {x : Int64} {i : Nat} (h : 64 ≤ i) : bL x i = false := BitVec.getLsbD_of_ge _ _ h
theorem sL_l : ∀ n, n < 64 → (((nI n).toInt64 &&& 63).toBitVec.smod 64).toNat = n := by decide +kernel
theorem bL_shl (n : Nat) (hn : n < 64) (x : Int64) {i : Nat} (hi : i < 64) : bL (x <<< ((nI n).toInt64 &&& 63)) i = (decide (n ≤ i) && bL x (i - n)) := by
  unfold bL
  rw [Int64.toBitVec_shiftLeft]
  show (x.toBitVec <<< (((nI n).toInt64 &&& 63).toBitVec.smod 64).toNat).getLsbD i = _
  rw [sL_l n hn, BitVec.getLsbD_shiftLeft]
  rcases Nat.lt_or_ge i n with h | h
  · simp [h, Nat.not_le.mpr h]
  · simp [hi, h, Nat.not_lt.mpr h]
theorem bL_sshr (n : Nat) (hn : n < 64) (x : Int64) {i : Nat} (hi : i < 64) : bL (x >>> ((nI n).toInt64 &&& 63)) i = if n + i < 64 then bL x (n + i) else bL x 63 := by
  unfold bL
  rw [Int64.toBitVec_shiftRight]
  show (x.toBitVec.sshiftRight (((nI n).toInt64 &&& 63).toBitVec.smod 64).toNat).getLsbD i = _
  rw [sL_l n hn, BitVec.getLsbD_sshiftRight, BitVec.msb_eq_getLsbD_last]
  simp [hi]
theorem bL_1 (i : Nat) : bL 1 i = decide (i = 0) := by
  rcases Nat.lt_or_ge i 64 with h | h
  · exact (by decide +kernel : ∀ i, i < 64 → bL 1 i = decide (i = 0)) i h
  · rw [bL_big h]
    exact (decide_eq_false (by omega)).symm
def hb_BitL (x : Int64) (T : Nat → Prop) : Prop := ∀ i, i < 64 → (bL x i = true ↔ T i)
theorem hb_bitL1 {x : Int64} {T : Nat → Prop} (hx : hb_BitL x T) {p : Nat} (hp : p < 64) : ((x >>> ((nI p).toInt64 &&& 63)) &&& 1) = 1 ↔ T p := by
  rw [← hx p hp]
  constructor
  · intro h
    have := congrArg (fun y => bL y 0) h
    simp only [bL_and, bL_sshr p hp x (by omega : 0 < 64), bL_1] at this
    rw [if_pos (by omega), Nat.add_zero] at this
    cases hc : bL x p
    · rw [hc] at this; cases this
    · rfl
  · intro h
    refine bL_ext fun i hi => ?_
    rw [bL_and, bL_1, bL_sshr p hp x hi]
    rcases Nat.eq_zero_or_pos i with e | e
    · subst e
      rw [if_pos (by omega), Nat.add_zero, h]
      rfl
    · rw [decide_eq_false (by omega : ¬ i = 0), Bool.and_false]
theorem hb_bitL_0 : hb_BitL 0 (fun _ => False) := by
  intro i _
  rw [bL_0]
  exact ⟨fun h => (by cases h), fun h => h.elim⟩
theorem hb_bitL_set {x : Int64} {T : Nat → Prop} (hx : hb_BitL x T) {p : Nat} (hp : p < 64) : hb_BitL (x ||| ((1 : Int64) <<< ((nI p).toInt64 &&& 63))) (fun i => T i ∨ i = p) := by
  intro i hi
  rw [bL_or, Bool.or_eq_true, hx i hi, bL_shl p hp 1 hi, bL_1, Bool.and_eq_true, decide_eq_true_iff, decide_eq_true_iff]
  constructor
  · intro h
    rcases h with h | h
    · exact Or.inl h
    · exact Or.inr (by omega)
  · intro h
    rcases h with h | h
    · exact Or.inl h
    · exact Or.inr (by omega)
theorem hb_bitL_congr {x : Int64} {T U : Nat → Prop} (hx : hb_BitL x T) (h : ∀ i, i < 64 → (T i ↔ U i)) : hb_BitL x U := fun i hi => (hx i hi).trans (h i hi)
theorem hb_bitL_eq {x y : Int64} {T U : Nat → Prop} (hx : hb_BitL x T) (hy : hb_BitL y U) : x = y ↔ ∀ i, i < 64 → (T i ↔ U i) := by
  constructor
  · intro e i hi
    rw [← hx i hi, ← hy i hi, e]
  · intro h
    refine bL_ext fun i hi => ?_
    have := (hx i hi).trans ((h i hi).trans (hy i hi).symm)
    cases h1 : bL x i <;> cases h2 : bL y i <;> rw [h1, h2] at this
    · exact absurd (this.mpr rfl) (by decide)
    · exact absurd (this.mp rfl) (by decide)
theorem hb_all64 : ∀ c, c < 33 → ∀ i, i < 64 → bL (((1 : Int64) <<< ((nI c).toInt64 &&& 63)) - 1) i = decide (i < c) := by decide +kernel
theorem hb_all32 : ∀ N, N < 17 → ∀ i, i < 32 → bt (((1 : Int32) <<< (nI N &&& 31)) - 1) i = decide (i < N) := by decide +kernel
section
variable {fn fb fc fm fk : Int32} {fT fB : Int64} {aA aB aC aL tX tY tZ tW tP mX mY mZ mW mP kX kY kZ kW aH aD : Nat → Int32} {aI : Nat → Int64}
theorem xb_next_loop {post : Int32 → Prop} {x : Int32} {T : Nat → Prop} (hb : hb_Bits x T) {f : Nat} (h1 : ∀ p, f ≤ p → p < 16 → T p → (∀ q, f ≤ q → q < p → ¬ T q) → post (nI p)) (h0 : (∀ q, f ≤ q → q < 16 → ¬ T q) → post (-1)) : ∀ d p, p + d = 16 → f ≤ p → (∀ q, f ≤ q → q < p → ¬ T q) → wX_nextPlane_2 post x fn fb fc fm fk fT fB aA aB aC aL tX tY tZ tW tP mX mY mZ mW mP aI kX kY kZ kW aH aD (d + 1) (nI p) := by
  intro d
  induction d with
  | zero =>
    intro p hp hf hq
    have e : p = 16 := by omega
    subst e
    rw [wX_nextPlane_2]
    exact br_t (by decide) (h0 hq)
  | succ d ih =>
    intro p hp hf hq
    rw [wX_nextPlane_2]
    refine br_f (nI_ge (b := 16) (by omega) (by decide)) (ek_if (hb_bit0 hb (by omega)) (fun hn => ?_) (fun hn => ?_))
    · refine nm_r (nI_1 p) (ih (p + 1) (by omega) (by omega) (fun q hq1 hq2 => ?_))
      by_cases e : q = p
      · subst e; exact hn
      · exact hq q hq1 (by omega)
    · exact h1 p hf (by omega) (Classical.not_not.mp hn) hq
theorem xb_next {post : Int32 → Prop} {x : Int32} {T : Nat → Prop} (hb : hb_Bits x T) {f : Nat} (hf : f ≤ 16) (h1 : ∀ p, f ≤ p → p < 16 → T p → (∀ q, f ≤ q → q < p → ¬ T q) → post (nI p)) (h0 : (∀ q, f ≤ q → q < 16 → ¬ T q) → post (-1)) : wpX_nextPlane post (fn, fb, fc, fm, fk, fT, fB, aA, aB, aC, aL, tX, tY, tZ, tW, tP, mX, mY, mZ, mW, mP, aI, kX, kY, kZ, kW, aH, aD) x (nI f) :=
  ⟨16 - f + 1, xb_next_loop hb h1 h0 (16 - f) f (by omega) (Nat.le_refl f) (fun q h1 h2 => by omega)⟩
theorem xb_areParallel {post : Int32 → Prop} {P : Nat → hb_Q} {p q : Nat} (hp : p < 16) (hq : q < 16) (ep : hb_qt aA aB aC aL p = P p) (eq : hb_qt aA aB aC aL q = P q) (gp : hb_Sml (P p)) (gq : hb_Sml (P q)) (h1 : hb_Par (P p) (P q) → post 1) (h0 : ¬ hb_Par (P p) (P q) → post 0) : wpX_areParallel post (fn, fb, fc, fm, fk, fT, fB, aA, aB, aC, aL, tX, tY, tZ, tW, tP, mX, mY, mZ, mW, mP, aI, kX, kY, kZ, kW, aH, aD) (nI p) (nI q) := by
  have bd := hb_crs_bd gp gq
  have ex : (aB p).toInt * (aC q).toInt - (aC p).toInt * (aB q).toInt = hb_cx (P p) (P q) := by rw [← ep, ← eq]; rfl
  have ey : (aC p).toInt * (aA q).toInt - (aA p).toInt * (aC q).toInt = hb_cy (P p) (P q) := by rw [← ep, ← eq]; rfl
  have ez : (aA p).toInt * (aB q).toInt - (aB p).toInt * (aA q).toInt = hb_cz (P p) (P q) := by rw [← ep, ← eq]; rfl
  simp only [wpX_areParallel, xb_in hp (by omega : 16 < 2 ^ 31), xb_in hq (by omega : 16 < 2 ^ 31), forall_eq, nI_clamp (by omega : p < 2 ^ 31), nI_clamp (by omega : q < 2 ^ 31), true_and, zi_mul', zi_sub, ex, ey, ez]
  refine ek_if (zi_eq0 ⟨by omega, by omega⟩) (fun a => ek_if (zi_eq0 ⟨by omega, by omega⟩) (fun b => ek_if (zi_eq0 ⟨by omega, by omega⟩) (fun c => h1 ⟨a, b, c⟩) (fun c => h0 (fun h => c h.2.2))) (fun b => h0 (fun h => b h.2.1))) (fun a => h0 (fun h => a h.1))
theorem xb_det {post : Int32 → Prop} {P : Nat → hb_Q} {p q r : Nat} (hp : p < 16) (hq : q < 16) (hr : r < 16) (ep : hb_qt aA aB aC aL p = P p) (eq : hb_qt aA aB aC aL q = P q) (er : hb_qt aA aB aC aL r = P r) (h : post (zi_I (hb_det (P p) (P q) (P r)))) : wpX_determinant post (fn, fb, fc, fm, fk, fT, fB, aA, aB, aC, aL, tX, tY, tZ, tW, tP, mX, mY, mZ, mW, mP, aI, kX, kY, kZ, kW, aH, aD) (nI p) (nI q) (nI r) := by
  rw [← ep, ← eq, ← er] at h
  simp only [wpX_determinant, xb_in hp (by omega : 16 < 2 ^ 31), xb_in hq (by omega : 16 < 2 ^ 31), xb_in hr (by omega : 16 < 2 ^ 31), forall_eq, nI_clamp (by omega : p < 2 ^ 31), nI_clamp (by omega : q < 2 ^ 31), nI_clamp (by omega : r < 2 ^ 31), true_and, zi_mul', zi_sub]
  have e : ∀ (e : Int) (x : Int32), zi_I e * x = zi_I (e * x.toInt) := fun e x => by rw [← zi_mul, ← zi_of]
  simp only [zi_mul'] at e ⊢
  have key : ∀ (e : Int) (x : Int32), zi_I ((zi_I e).toInt * x.toInt) = zi_I (e * x.toInt) := e
  rw [key, key, key, zi_add, zi_add]
  exact h
end
/-- what a set of planes of good normals needs -/
def hb_GT (P : Nat → hb_Q) (N : Nat) (T : Nat → Prop) : Prop := ∀ i, T i → i < N ∧ hb_Good (P i)
theorem hb_good_sml {p : hb_Q} (h : hb_Good p) : hb_Sml p := ⟨h.1, h.2.1, h.2.2.1⟩
theorem hb_det_bd {p q r : hb_Q} (hp : hb_Good p) (hq : hb_Good q) (hr : hb_Good r) : zi_R (hb_det p q r) := by
  have := (hb_met_bd hp hq hr).2.2.2
  exact ⟨by omega, by omega⟩
theorem hb_par_det {p q r : hb_Q} (h : hb_Par p r) : hb_det p q r = 0 := by
  have e : hb_det p q r = hb_det r p q := hb_det_rot r p q
  rw [e]
  refine Classical.byContradiction fun hc => hb_det_par hc (hb_par_symm h)
/-- greedy: first f, then s, then none -/
theorem hb_rk_two {P : Nat → hb_Q} {T : Nat → Prop} {f s : Nat} (hf : T f) (hs : T s) (hff : ∀ q, q < f → ¬ T q) (hn : ¬ hb_Par (P f) (P s)) (hm : ∀ q, f < q → q < s → T q → hb_Par (P f) (P q)) (hd : ∀ q, s < q → T q → hb_det (P f) (P s) (P q) = 0) : hb_rk P T = 2 := by
  refine hb_greedy2 hf hs hn (fun r hr => ?_)
  rcases Nat.lt_trichotomy r s with h | h | h
  · rcases Nat.lt_trichotomy r f with h' | h' | h'
    · exact absurd hr (hff r h')
    · rw [h']; exact hb_det_same3 _ _
    · exact hb_par_det (hm r h' h hr)
  · rw [h]; exact hb_det_same2 _ _
  · exact hd r h hr
theorem hb_rk_one {P : Nat → hb_Q} {T : Nat → Prop} {f : Nat} (hn : hb_Nz (P f)) (hf : T f) (hff : ∀ q, q < f → ¬ T q) (hm : ∀ q, f < q → T q → hb_Par (P f) (P q)) : hb_rk P T = 1 := by
  refine hb_greedy1 hn hf (fun q hq hne => ?_)
  rcases Nat.lt_or_gt_of_ne hne with h | h
  · exact absurd hq (hff q h)
  · exact hm q h hq
section
variable {fn fb fc fm fk : Int32} {fT fB : Int64} {aA aB aC aL tX tY tZ tW tP mX mY mZ mW mP kX kY kZ kW aH aD : Nat → Int32} {aI : Nat → Int64}
variable {P : Nat → hb_Q} {T : Nat → Prop} {x : Int32}
theorem xb_rk63 {post : Int32 → Prop} (hb : hb_Bits x T) (hG : hb_GT P 16 T) (hA : ∀ i, T i → hb_qt aA aB aC aL i = P i) {f s : Nat} (hf : T f) (hs : T s) (hff : ∀ q, q < f → ¬ T q) (hn : ¬ hb_Par (P f) (P s)) (hm : ∀ q, f < q → q < s → T q → hb_Par (P f) (P q)) (h : post (nI (hb_rk P T))) : ∀ n, ((∀ q, s < q → T q → hb_det (P f) (P s) (P q) = 0) → 0 < n → wX_rankOf_63 post x (nI f) (nI s) fn fb fc fm fk fT fB aA aB aC aL tX tY tZ tW tP mX mY mZ mW mP aI kX kY kZ kW aH aD n (-1)) ∧ (∀ t, s < t → T t → 16 < n + t → (∀ q, s < q → q < t → T q → hb_det (P f) (P s) (P q) = 0) → wX_rankOf_63 post x (nI f) (nI s) fn fb fc fm fk fT fB aA aB aC aL tX tY tZ tW tP mX mY mZ mW mP aI kX kY kZ kW aH aD n (nI t)) := by
  intro n
  induction n with
  | zero => exact ⟨fun _ h => by omega, fun t _ ht h _ => by have := (hG t ht).1; omega⟩
  | succ n ih =>
    constructor
    · intro hd _
      rw [hb_rk_two hf hs hff hn hm hd] at h
      rw [wX_rankOf_63]
      refine br_t (by decide) ?_
      unfold wX_rankOf_93
      exact br_f (by decide) h
    · intro t hst ht hn' hd
      have t16 := (hG t ht).1
      rw [wX_rankOf_63]
      refine br_f (nI_pos (by omega)) ?_
      refine xb_det (hG f hf).1 (hG s hs).1 t16 (hA f hf) (hA s hs) (hA t ht) ?_
      refine ek_if (zi_eq0 (hb_det_bd (hG f hf).2 (hG s hs).2 (hG t ht).2)) (fun d0 => ?_) (fun d0 => ?_)
      · rw [nI_1]
        refine xb_next hb (by omega) (fun p h1 h2 h3 h4 => ih.2 p (by omega) h3 (by omega) (fun q hq1 hq2 hq3 => ?_)) (fun h1 => ih.1 (fun q hq1 hq2 => ?_) (by omega))
        · rcases Nat.lt_trichotomy q t with e | e | e
          · exact hd q hq1 e hq3
          · rw [e]; exact d0
          · exact absurd hq3 (h4 q (by omega) hq2)
        · rcases Nat.lt_trichotomy q t with e | e | e
          · exact hd q hq1 e hq2
          · rw [e]; exact d0
          · exact absurd hq2 (h1 q (by omega) (hG q hq2).1)
      · rw [hb_rk3 ⟨f, s, t, hf, hs, ht, d0⟩] at h
        unfold wX_rankOf_93
        exact br_t (nI_pos' (by omega)) h
theorem xb_rk22 {post : Int32 → Prop} (hb : hb_Bits x T) (hG : hb_GT P 16 T) (hA : ∀ i, T i → hb_qt aA aB aC aL i = P i) {f : Nat} (hf : T f) (hff : ∀ q, q < f → ¬ T q) (h : post (nI (hb_rk P T))) : ∀ n, ((∀ q, f < q → T q → hb_Par (P f) (P q)) → 0 < n → wX_rankOf_22 post x (nI f) fn fb fc fm fk fT fB aA aB aC aL tX tY tZ tW tP mX mY mZ mW mP aI kX kY kZ kW aH aD n (-1)) ∧ (∀ t, f < t → T t → 16 < n + t → (∀ q, f < q → q < t → T q → hb_Par (P f) (P q)) → wX_rankOf_22 post x (nI f) fn fb fc fm fk fT fB aA aB aC aL tX tY tZ tW tP mX mY mZ mW mP aI kX kY kZ kW aH aD n (nI t)) := by
  intro n
  induction n with
  | zero => exact ⟨fun _ h => by omega, fun t _ ht h _ => by have := (hG t ht).1; omega⟩
  | succ n ih =>
    constructor
    · intro hd _
      rw [hb_rk_one (hG f hf).2.2.2.2.2 hf hff hd] at h
      rw [wX_rankOf_22]
      refine br_t (by decide) ?_
      unfold wX_rankOf_47
      exact br_f (by decide) h
    · intro t hst ht hn' hd
      have t16 := (hG t ht).1
      rw [wX_rankOf_22]
      refine br_f (nI_pos (by omega)) ?_
      refine xb_areParallel (hG f hf).1 t16 (hA f hf) (hA t ht) (hb_good_sml (hG f hf).2) (hb_good_sml (hG t ht).2) (fun d0 => br_f (by decide) ?_) (fun d0 => br_t rfl ?_)
      · rw [nI_1]
        refine xb_next hb (by omega) (fun p h1 h2 h3 h4 => ih.2 p (by omega) h3 (by omega) (fun q hq1 hq2 hq3 => ?_)) (fun h1 => ih.1 (fun q hq1 hq2 => ?_) (by omega))
        · rcases Nat.lt_trichotomy q t with e | e | e
          · exact hd q hq1 e hq3
          · rw [e]; exact d0
          · exact absurd hq3 (h4 q (by omega) hq2)
        · rcases Nat.lt_trichotomy q t with e | e | e
          · exact hd q hq1 e hq2
          · rw [e]; exact d0
          · exact absurd hq2 (h1 q (by omega) (hG q hq2).1)
      · unfold wX_rankOf_47
        refine br_t (nI_pos' (by omega)) ?_
        rw [nI_1]
        have k63 := xb_rk63 (fn := fn) (fb := fb) (fc := fc) (fm := fm) (fk := fk) (fT := fT) (fB := fB) (tX := tX) (tY := tY) (tZ := tZ) (tW := tW) (tP := tP) (mX := mX) (mY := mY) (mZ := mZ) (mW := mW) (mP := mP) (aI := aI) (kX := kX) (kY := kY) (kZ := kZ) (kW := kW) (aH := aH) (aD := aD) hb hG hA hf ht hff d0 hd h 17
        refine xb_next hb (by omega) (fun p h1 h2 h3 h4 => ⟨17, k63.2 p (by omega) h3 (by omega) (fun q hq1 hq2 hq3 => absurd hq3 (h4 q (by omega) hq2))⟩) (fun h1 => ⟨17, k63.1 (fun q hq1 hq2 => absurd hq2 (h1 q (by omega) (hG q hq2).1)) (by omega)⟩)
theorem xb_rank {post : Int32 → Prop} (hb : hb_Bits x T) (hG : hb_GT P 16 T) (hA : ∀ i, T i → hb_qt aA aB aC aL i = P i) (h : post (nI (hb_rk P T))) : wpX_rankOf post (fn, fb, fc, fm, fk, fT, fB, aA, aB, aC, aL, tX, tY, tZ, tW, tP, mX, mY, mZ, mW, mP, aI, kX, kY, kZ, kW, aH, aD) x := by
  simp only [wpX_rankOf]
  refine xb_next (f := 0) hb (by omega) (fun p h1 h2 h3 h4 => ?_) (fun h1 => ?_)
  · refine br_t (nI_pos' (by omega)) ?_
    rw [nI_1]
    have hff : ∀ q, q < p → ¬ T q := fun q hq => h4 q (by omega) hq
    have k22 := xb_rk22 (fn := fn) (fb := fb) (fc := fc) (fm := fm) (fk := fk) (fT := fT) (fB := fB) (tX := tX) (tY := tY) (tZ := tZ) (tW := tW) (tP := tP) (mX := mX) (mY := mY) (mZ := mZ) (mW := mW) (mP := mP) (aI := aI) (kX := kX) (kY := kY) (kZ := kZ) (kW := kW) (aH := aH) (aD := aD) hb hG hA h3 hff h 17
    exact xb_next hb (by omega) (fun t a1 a2 a3 a4 => ⟨17, k22.2 t (by omega) a3 (by omega) (fun q hq1 hq2 hq3 => absurd hq3 (a4 q (by omega) hq2))⟩) (fun a1 => ⟨17, k22.1 (fun q hq1 hq2 => absurd hq2 (a1 q (by omega) (hG q hq2).1)) (by omega)⟩)
  · rw [hb_rk0 (fun ⟨i, hi⟩ => h1 i (by omega) (hG i hi).1 hi)] at h
    exact br_f (by decide) h
end
section
variable {gn gp gc : Int32} {qN qD pA pB pC pD yX yY yZ yW yP yF : Nat → Int32}
variable {P : Nat → hb_Q} {T : Nat → Prop} {x : Int32} {N : Nat}
theorem yb_rk2 {post : Int32 → Prop} (hN : N ≤ 16) (hb : hb_Bits x T) (hG : hb_GT P N T) (hA : ∀ i, i < N → hb_qt pA pB pC pD i = P i) {f s : Nat} (hf : T f) (hs : T s) (hff : ∀ q, q < f → ¬ T q) (hn : ¬ hb_Par (P f) (P s)) (hm : ∀ q, f < q → q < s → T q → hb_Par (P f) (P q)) (h : post (nI (hb_rk P T))) : ∀ d t, t + d = N → (∀ q, s < q → q < t → T q → hb_det (P f) (P s) (P q) = 0) → wY_rank_7 post x gn (nI N) gc qN qD pA pB pC pD yX yY yZ yW yP yF (d + 1) (nI f) (nI s) (nI t) := by
  have f16 := (hG f hf).1
  have s16 := (hG s hs).1
  intro d
  induction d with
  | zero =>
    intro t ht hd
    have e : t = N := by omega
    subst e
    rw [hb_rk_two hf hs hff hn hm (fun q h1 h2 => hd q h1 (hG q h2).1 h2)] at h
    rw [wY_rank_7]
    exact br_t (nI_le (Nat.le_refl _) (by omega)) (br_t (nI_pos' (by omega)) (br_t (nI_pos' (by omega)) h))
  | succ d ih =>
    intro t ht hd
    rw [wY_rank_7]
    refine br_f (nI_ge (by omega) (by omega)) (ek_if (hb_bit1 hb (by omega)) (fun tt => ?_) (fun tt => ?_))
    · refine br_t (nI_pos' (by omega)) (br_t (nI_pos' (by omega)) ?_)
      unfold wY_rank_79
      refine br_f (nI_pos (by omega)) ?_
      refine yb_det (by omega) (by omega) (by omega) ?_
      rw [hA f f16, hA s s16, hA t (by omega)]
      refine ek_if (zi_eq0 (hb_det_bd (hG f hf).2 (hG s hs).2 (hG t tt).2)) (fun d0 => ?_) (fun d0 => ?_)
      · refine nm_r (nI_1 t) (ih (t + 1) (by omega) (fun q h1 h2 h3 => ?_))
        by_cases e : q = t
        · rw [e]; exact d0
        · exact hd q h1 (by omega) h3
      · rw [hb_rk3 ⟨f, s, t, hf, hs, tt, d0⟩] at h
        exact h
    · refine nm_r (nI_1 t) (ih (t + 1) (by omega) (fun q h1 h2 h3 => ?_))
      by_cases e : q = t
      · rw [e] at h3; exact absurd h3 tt
      · exact hd q h1 (by omega) h3
theorem yb_rk1 {post : Int32 → Prop} (hN : N ≤ 16) (hb : hb_Bits x T) (hG : hb_GT P N T) (hA : ∀ i, i < N → hb_qt pA pB pC pD i = P i) {f : Nat} (hf : T f) (hff : ∀ q, q < f → ¬ T q) (h : post (nI (hb_rk P T))) : ∀ d t, t + d = N → f < t → (∀ q, f < q → q < t → T q → hb_Par (P f) (P q)) → wY_rank_7 post x gn (nI N) gc qN qD pA pB pC pD yX yY yZ yW yP yF (d + 1) (nI f) (-1) (nI t) := by
  have f16 := (hG f hf).1
  intro d
  induction d with
  | zero =>
    intro t ht hft hd
    have e : t = N := by omega
    subst e
    rw [hb_rk_one (hG f hf).2.2.2.2.2 hf hff (fun q h1 h2 => hd q h1 (hG q h2).1 h2)] at h
    rw [wY_rank_7]
    exact br_t (nI_le (Nat.le_refl _) (by omega)) (br_t (nI_pos' (by omega)) (br_f (by decide) h))
  | succ d ih =>
    intro t ht hft hd
    rw [wY_rank_7]
    refine br_f (nI_ge (by omega) (by omega)) (ek_if (hb_bit1 hb (by omega)) (fun tt => ?_) (fun tt => ?_))
    · refine br_t (nI_pos' (by omega)) (br_f (by decide) ?_)
      have bd := hb_crs_bd (hb_good_sml (hG f hf).2) (hb_good_sml (hG t tt).2)
      have far : ¬ hb_Par (P f) (P t) → wY_rank_7 post x gn (nI N) gc qN qD pA pB pC pD yX yY yZ yW yP yF (d + 1) (nI f) (nI t) (nI (t + 1)) := fun np => yb_rk2 hN hb hG hA hf tt hff np hd h d (t + 1) (by omega) (fun q h1 h2 => by omega)
      have near : hb_Par (P f) (P t) → wY_rank_7 post x gn (nI N) gc qN qD pA pB pC pD yX yY yZ yW yP yF (d + 1) (nI f) (-1) (nI (t + 1)) := fun hp => ih (t + 1) (by omega) (by omega) (fun q h1 h2 h3 => by
        by_cases e : q = t
        · rw [e]; exact hp
        · exact hd q h1 (by omega) h3)
      refine yb_cross0 (by omega) (by omega) ?_
      rw [hA f f16, hA t (by omega)]
      refine ek_if (zi_eq0 ⟨by omega, by omega⟩) (fun a => ?_) (fun a => nm_r (nI_1 t) (far (fun hp => a hp.1)))
      refine yb_cross1 (by omega) (by omega) ?_
      rw [hA f f16, hA t (by omega)]
      refine ek_if (zi_eq0 ⟨by omega, by omega⟩) (fun b => ?_) (fun b => nm_r (nI_1 t) (far (fun hp => b hp.2.1)))
      refine yb_cross2 (by omega) (by omega) ?_
      rw [hA f f16, hA t (by omega)]
      refine ek_if (zi_eq0 ⟨by omega, by omega⟩) (fun c => ?_) (fun c => nm_r (nI_1 t) (far (fun hp => c hp.2.2)))
      unfold wY_rank_79
      exact br_t (by decide) (nm_r (nI_1 t) (near ⟨a, b, c⟩))
    · refine nm_r (nI_1 t) (ih (t + 1) (by omega) (by omega) (fun q h1 h2 h3 => ?_))
      by_cases e : q = t
      · rw [e] at h3; exact absurd h3 tt
      · exact hd q h1 (by omega) h3
theorem yb_rk0 {post : Int32 → Prop} (hN : N ≤ 16) (hb : hb_Bits x T) (hG : hb_GT P N T) (hA : ∀ i, i < N → hb_qt pA pB pC pD i = P i) (h : post (nI (hb_rk P T))) : ∀ d t, t + d = N → (∀ q, q < t → ¬ T q) → wY_rank_7 post x gn (nI N) gc qN qD pA pB pC pD yX yY yZ yW yP yF (d + 1) (-1) (-1) (nI t) := by
  intro d
  induction d with
  | zero =>
    intro t ht hd
    have e : t = N := by omega
    subst e
    rw [hb_rk0 (fun ⟨i, hi⟩ => hd i (hG i hi).1 hi)] at h
    rw [wY_rank_7]
    exact br_t (nI_le (Nat.le_refl _) (by omega)) (br_f (by decide) h)
  | succ d ih =>
    intro t ht hd
    rw [wY_rank_7]
    refine br_f (nI_ge (by omega) (by omega)) (ek_if (hb_bit1 hb (by omega)) (fun tt => ?_) (fun tt => ?_))
    · refine br_f (by decide) (nm_r (nI_1 t) ?_)
      exact yb_rk1 hN hb hG hA tt hd h d (t + 1) (by omega) (by omega) (fun q h1 h2 => by omega)
    · refine nm_r (nI_1 t) (ih (t + 1) (by omega) (fun q h1 h2 => ?_))
      by_cases e : q = t
      · rw [e] at h2; exact absurd h2 tt
      · exact hd q (by omega) h2
theorem yb_rank {post : Int32 → Prop} (hN : N ≤ 16) (hb : hb_Bits x T) (hG : hb_GT P N T) (hA : ∀ i, i < N → hb_qt pA pB pC pD i = P i) (h : post (nI (hb_rk P T))) : wpY_rank post (gn, nI N, gc, qN, qD, pA, pB, pC, pD, yX, yY, yZ, yW, yP, yF) x :=
  ⟨N + 1, yb_rk0 hN hb hG hA h N 0 (by omega) (fun q hq => absurd hq (Nat.not_lt_zero q))⟩
end
end
section
/-! answers: corners, top, bottom, dimension -/
/-- arrays that hold the corners v and their planes -/
def yb_L (P : Nat → hb_Q) (S : Nat → Prop) (c : Nat) (v : Nat → hb_Q) (yX yY yZ yW yP : Nat → Int32) : Prop := hb_MD (hb_K P S) c v ∧ ∀ k, k < c → hb_qt yX yY yZ yW k = v k ∧ hb_Bits (yP k) (hb_T P S (v k))
theorem yb_L_x {P : Nat → hb_Q} {S : Nat → Prop} {c : Nat} {tX tY tZ tW tP : Nat → Int32} (h : xb_C P S c tX tY tZ tW tP) : yb_L P S c (hb_qt tX tY tZ tW) tX tY tZ tW tP := ⟨h.1, fun k hk => ⟨rfl, h.2 k hk⟩⟩
theorem yb_L_32 {P : Nat → hb_Q} {S : Nat → Prop} (hS : hb_Sys P S) {c : Nat} {v : Nat → hb_Q} {yX yY yZ yW yP : Nat → Int32} (h : yb_L P S c v yX yY yZ yW yP) : c ≤ 32 := hb_md_le hS h.1 (fun _ h => h)
theorem zi_pred {c : Nat} (h : c < 2 ^ 31) : (nI c - 1).toInt = (c : Int) - 1 := by
  rw [zi_sub', nI_toInt h]
  show (zi_I ((c : Int) - 1)).toInt = _
  exact zi_t ⟨by omega, by omega⟩
section
variable {fn fb fc fm fk : Int32} {fT fB : Int64} {aA aB aC aL tX tY tZ tW tP mX mY mZ mW mP kX kY kZ kW aH aD : Nat → Int32} {aI : Nat → Int64}
variable {gn gp gc : Int32} {qN qD pA pB pC pD yX yY yZ yW yP yF : Nat → Int32} {n c : Nat} {P : Nat → hb_Q}
theorem rl_find {post : SY → Prop} (hPl : hb_Pl n P) (hB : xb_B n P c tX tY tZ tW tP) (hY : yb_R n P gn qN qD) (h : ∀ pA pB pC pD yX yY yZ yW yP : Nat → Int32, (∀ j, j < 6 + n → hb_qt pA pB pC pD j = P j) → (∀ k, k < c → yX k = tX k ∧ yY k = tY k ∧ yZ k = tZ k ∧ yW k = tW k) → yb_L P (hb_S n) c (hb_qt tX tY tZ tW) yX yY yZ yW yP → yb_R n P (nI n) qN qD → post (nI n, nI (6 + n), nI c, qN, qD, pA, pB, pC, pD, yX, yY, yZ, yW, yP, yF)) : wpY_find post (gn, gp, gc, qN, qD, pA, pB, pC, pD, yX, yY, yZ, yW, yP, yF) := by
  refine yb_find hPl hY (fun c' pA pB pC pD yX yY yZ yW yP hj hB' => ?_)
  obtain ⟨e, he⟩ := hb_join hB hB'
  subst e
  refine h _ _ _ _ _ _ _ _ _ hj (fun k hk => (he k hk).1) ⟨hB.1.1, fun k hk => ⟨(he k hk).2, ?_⟩⟩ ⟨rfl, hY.2⟩
  have := hB'.1.2 k hk
  rw [(he k hk).2] at this
  exact this
end
theorem i_vc_corners {k : Nat} {u : SX} {v : SY} (I : i_Rel k u v) (hk : k + 3 ≤ 1536) : wpX_corners (fun r u' => wpY_corners (fun r' v' => r' = r ∧ i_Rel (k + 3) u' v') v) u := by
  refine rl_el (Q := fun u v => wpX_corners (fun r u' => wpY_corners (fun r' v' => r' = r ∧ i_Rel (k + 3) u' v') v) u) ?_ I
  intro n P fn fb fc fm fk fT fB aA aB aC aL tX tY tZ tW tP mX mY mZ mW mP aI kX kY kZ kW aH aD gn gp gc qN qD pA pB pC pD yX yY yZ yW yP yF hX hY
  unfold wpX_corners
  refine xb_build hX (fun c fb fm tX tY tZ tW tP mX mY mZ mW mP aI hb hB hR => ?_)
  unfold wpY_corners
  refine rl_find hX.1 hB hY (fun pA pB pC pD yX yY yZ yW yP hj he hL hR' => ?_)
  exact ⟨rfl, rl_mk hR hR'⟩
theorem i_vc_top {k : Nat} {u : SX} {v : SY} (I : i_Rel k u v) (hk : k + 3 ≤ 1536) (v1 : Int32) (v2 : Int32) : wpX_top (fun r u' => wpY_top (fun r' v' => r' = r ∧ i_Rel (k + 3) u' v') v v1 v2) u v1 v2 := by
  refine rl_el (Q := fun u v => wpX_top (fun r u' => wpY_top (fun r' v' => r' = r ∧ i_Rel (k + 3) u' v') v v1 v2) u v1 v2) ?_ I
  intro n P fn fb fc fm fk fT fB aA aB aC aL tX tY tZ tW tP mX mY mZ mW mP aI kX kY kZ kW aH aD gn gp gc qN qD pA pB pC pD yX yY yZ yW yP yF hX hY
  have t0 : (0 : Int32).toInt = 0 := rfl
  have t2 : (2 : Int32).toInt = 2 := rfl
  have bad : ¬ (0 ≤ v2.toInt ∧ v2.toInt ≤ 2) → wpY_top (fun r' v' => r' = (-1000000) ∧ i_Rel (k + 3) (fn, fb, fc, fm, fk, fT, fB, aA, aB, aC, aL, tX, tY, tZ, tW, tP, mX, mY, mZ, mW, mP, aI, kX, kY, kZ, kW, aH, aD) v') (gn, gp, gc, qN, qD, pA, pB, pC, pD, yX, yY, yZ, yW, yP, yF) v1 v2 := fun hb => by
    unfold wpY_top
    refine yb_in (fun a b => ?_) (fun _ => br_t rfl ⟨rfl, rl_mk hX hY⟩)
    rw [t0] at a
    rw [t2] at b
    exact absurd ⟨a, b⟩ hb
  unfold wpX_top
  refine ek_if Int32.lt_iff_toInt_lt (fun h => bad (by omega)) (fun h1 => ?_)
  refine ek_if Int32.le_iff_toInt_le (fun h2 => ?_) (fun h => bad (by omega))
  rw [t0] at h1
  rw [t2] at h2
  refine xb_build hX (fun c fb fm tX tY tZ tW tP mX mY mZ mW mP aI hb hB hR => ?_)
  have c32 := hb_md_le (hb_S_sys hX.1) hB.1.1 (fun _ h => h)
  have tc : (nI c).toInt = c := nI_toInt (by omega)
  have tc1 := zi_pred (c := c) (by omega)
  have none : ¬ (0 ≤ v1.toInt ∧ v1.toInt < c) → wpY_top (fun r' v' => r' = (-1000002) ∧ i_Rel (k + 3) (nI n, fb, nI c, fm, fk, fT, fB, aA, aB, aC, aL, tX, tY, tZ, tW, tP, mX, mY, mZ, mW, mP, aI, kX, kY, kZ, kW, aH, aD) v') (gn, gp, gc, qN, qD, pA, pB, pC, pD, yX, yY, yZ, yW, yP, yF) v1 v2 := fun hn => by
    unfold wpY_top
    refine yb_in (fun a b => br_f (by decide) ?_) (fun hc => absurd hc (by rw [t0, t2]; omega))
    refine rl_find hX.1 hB hY (fun pA pB pC pD yX yY yZ yW yP hj he hL hR' => ?_)
    refine yb_in (fun a b => ?_) (fun _ => br_t rfl ⟨rfl, rl_mk hR hR'⟩)
    rw [t0] at a
    rw [tc1] at b
    exact absurd ⟨a, by omega⟩ hn
  refine ek_if Int32.lt_iff_toInt_lt (fun h => none (by omega)) (fun h3 => ?_)
  refine ek_if Int32.lt_iff_toInt_lt (fun h4 => ?_) (fun h => none (by rw [tc] at h; omega))
  rw [t0] at h3
  rw [tc] at h4
  obtain ⟨i, ei⟩ : ∃ i : Nat, v1.toInt = i := ⟨v1.toInt.toNat, by omega⟩
  have ev : v1 = nI i := by rw [zi_nI, ← ei]; exact zi_of v1
  subst ev
  have ci : (nI i).toNatClampNeg = i := nI_clamp (by omega)
  have y : ∀ r : Int32, (∀ yX yY yZ yW : Nat → Int32, (yX i = tX i ∧ yY i = tY i ∧ yZ i = tZ i ∧ yW i = tW i) → (v2 = 0 → yX i = r) ∧ (¬ v2 = 0 → (v2 = 1 → yY i = r) ∧ (¬ v2 = 1 → yZ i = r))) → wpY_top (fun r' v' => r' = r ∧ i_Rel (k + 3) (nI n, fb, nI c, fm, fk, fT, fB, aA, aB, aC, aL, tX, tY, tZ, tW, tP, mX, mY, mZ, mW, mP, aI, kX, kY, kZ, kW, aH, aD) v') (gn, gp, gc, qN, qD, pA, pB, pC, pD, yX, yY, yZ, yW, yP, yF) (nI i) v2 := fun r hr => by
    unfold wpY_top
    refine yb_in (fun a b => br_f (by decide) ?_) (fun hc => absurd hc (by rw [t0, t2]; omega))
    refine rl_find hX.1 hB hY (fun pA pB pC pD yX yY yZ yW yP hj he hL hR' => ?_)
    refine yb_in (fun a b => br_f (by decide) ?_) (fun hc => absurd hc (by rw [t0, tc1]; omega))
    have q := hr yX yY yZ yW (he i (by omega))
    have vi : vp_in (nI i) 40 := vp_in_nI (by omega) (by omega)
    refine br_c (fun z0 => ⟨vi, ?_⟩) (fun z0 => br_c (fun z1 => ⟨vi, ?_⟩) (fun z1 => ⟨vi, ?_⟩))
    · rw [ci]; exact ⟨q.1 z0, rl_mk hR hR'⟩
    · rw [ci]; exact ⟨(q.2 z0).1 z1, rl_mk hR hR'⟩
    · rw [ci]; exact ⟨(q.2 z0).2 z1, rl_mk hR hR'⟩
  have vi : vp_in (nI i) 64 := vp_in_nI (by omega) (by omega)
  refine br_c (fun z0 => ⟨vi, y _ (fun yX yY yZ yW he => ?_)⟩) (fun z0 => br_c (fun z1 => ⟨vi, y _ (fun yX yY yZ yW he => ?_)⟩) (fun z1 => ⟨vi, y _ (fun yX yY yZ yW he => ?_)⟩))
  · rw [ci]; exact ⟨fun _ => he.1, fun h => absurd z0 h⟩
  · rw [ci]; exact ⟨fun h => absurd h z0, fun _ => ⟨fun _ => he.2.1, fun h => absurd z1 h⟩⟩
  · rw [ci]; exact ⟨fun h => absurd h z0, fun _ => ⟨fun h => absurd h z1, fun _ => he.2.2.1⟩⟩
theorem i_vc_bottom {k : Nat} {u : SX} {v : SY} (I : i_Rel k u v) (hk : k + 3 ≤ 1536) (v1 : Int32) : wpX_bottom (fun r u' => wpY_bottom (fun r' v' => r' = r ∧ i_Rel (k + 3) u' v') v v1) u v1 := by
  refine rl_el (Q := fun u v => wpX_bottom (fun r u' => wpY_bottom (fun r' v' => r' = r ∧ i_Rel (k + 3) u' v') v v1) u v1) ?_ I
  intro n P fn fb fc fm fk fT fB aA aB aC aL tX tY tZ tW tP mX mY mZ mW mP aI kX kY kZ kW aH aD gn gp gc qN qD pA pB pC pD yX yY yZ yW yP yF hX hY
  have t0 : (0 : Int32).toInt = 0 := rfl
  unfold wpX_bottom
  refine xb_build hX (fun c fb fm tX tY tZ tW tP mX mY mZ mW mP aI hb hB hR => ?_)
  have c32 := hb_md_le (hb_S_sys hX.1) hB.1.1 (fun _ h => h)
  have tc : (nI c).toInt = c := nI_toInt (by omega)
  have tc1 := zi_pred (c := c) (by omega)
  have none : ¬ (0 ≤ v1.toInt ∧ v1.toInt < c) → wpY_bottom (fun r' v' => r' = (-1000002) ∧ i_Rel (k + 3) (nI n, fb, nI c, fm, fk, fT, fB, aA, aB, aC, aL, tX, tY, tZ, tW, tP, mX, mY, mZ, mW, mP, aI, kX, kY, kZ, kW, aH, aD) v') (gn, gp, gc, qN, qD, pA, pB, pC, pD, yX, yY, yZ, yW, yP, yF) v1 := fun hn => by
    unfold wpY_bottom
    refine rl_find hX.1 hB hY (fun pA pB pC pD yX yY yZ yW yP hj he hL hR' => ?_)
    refine yb_in (fun a b => ?_) (fun _ => br_t rfl ⟨rfl, rl_mk hR hR'⟩)
    rw [t0] at a
    rw [tc1] at b
    exact absurd ⟨a, by omega⟩ hn
  refine ek_if Int32.lt_iff_toInt_lt (fun h => none (by omega)) (fun h3 => ?_)
  refine ek_if Int32.lt_iff_toInt_lt (fun h4 => ?_) (fun h => none (by rw [tc] at h; omega))
  rw [t0] at h3
  rw [tc] at h4
  obtain ⟨i, ei⟩ : ∃ i : Nat, v1.toInt = i := ⟨v1.toInt.toNat, by omega⟩
  have ev : v1 = nI i := by rw [zi_nI, ← ei]; exact zi_of v1
  subst ev
  have ci : (nI i).toNatClampNeg = i := nI_clamp (by omega)
  refine ⟨vp_in_nI (by omega) (by omega), ?_⟩
  unfold wpY_bottom
  refine rl_find hX.1 hB hY (fun pA pB pC pD yX yY yZ yW yP hj he hL hR' => ?_)
  refine yb_in (fun a b => br_f (by decide) ⟨vp_in_nI (by omega) (by omega), ?_⟩) (fun hc => absurd hc (by rw [t0, tc1]; omega))
  rw [ci]
  exact ⟨(he i (by omega)).2.2.2, rl_mk hR hR'⟩
end
section
/-! answers: dimension, edges, on -/
/-- planes on which all corners of W lie -/
def hb_Al (P : Nat → hb_Q) (S : Nat → Prop) (c : Nat) (v : Nat → hb_Q) (W : Nat → Prop) : Nat → Prop := fun i => ∀ k, k < c → W k → hb_T P S (v k) i
theorem hb_Al_gt {P : Nat → hb_Q} {S : Nat → Prop} (hS : hb_Sys P S) {c k : Nat} {v : Nat → hb_Q} {W : Nat → Prop} (hk : k < c) (hw : W k) : hb_GT P 16 (hb_Al P S c v W) := fun i hi => hS.2.2 i (hi k hk hw).1
section
variable {fn fb fc fm fk : Int32} {fT fB : Int64} {aA aB aC aL tX tY tZ tW tP mX mY mZ mW mP kX kY kZ kW aH aD : Nat → Int32} {aI : Nat → Int64}
variable {P : Nat → hb_Q} {S : Nat → Prop} {c : Nat} {v : Nat → hb_Q}
theorem xb_dim13 {post : Int32 → Prop} (hS : hb_Sys P S) (hA : ∀ i, S i → hb_qt aA aB aC aL i = P i) (hL : yb_L P S c v tX tY tZ tW tP) (h0 : 0 < c) (h : post (3 - nI (hb_rk P (hb_Al P S c v (fun _ => True))))) : ∀ d k x, k + d = c → hb_Bits x (hb_Al P S k v (fun _ => True)) → wX_dimensionNow_13 post fn fb (nI c) fm fk fT fB aA aB aC aL tX tY tZ tW tP mX mY mZ mW mP aI kX kY kZ kW aH aD (d + 1) x (nI k) := by
  have c32 := yb_L_32 hS hL
  intro d
  induction d with
  | zero =>
    intro k x hk hb
    have e : k = c := by omega
    subst e
    rw [wX_dimensionNow_13]
    refine br_t (nI_le (Nat.le_refl _) (by omega)) ?_
    exact xb_rank hb (hb_Al_gt hS h0 trivial) (fun i hi => hA i (hi 0 h0 trivial).1) h
  | succ d ih =>
    intro k x hk hb
    rw [wX_dimensionNow_13]
    refine br_f (nI_ge (by omega) (by omega)) ⟨vp_in_nI (by omega) (by omega), nm_e (nm_r (nI_1 k) (ih (k + 1) _ (by omega) ?_))⟩
    rw [nI_clamp (by omega)]
    refine hb_bits_congr (hb_bits_and hb (hL.2 k (by omega)).2) (fun i _ => ?_)
    constructor
    · intro hh j hj _
      by_cases e : j = k
      · subst e; exact hh.2
      · exact hh.1 j (by omega) trivial
    · intro hh
      exact ⟨fun j hj _ => hh j (by omega) trivial, hh k (by omega) trivial⟩
theorem xb_dimNow {post : Int32 → Prop} (hS : hb_Sys P S) (hA : ∀ i, S i → hb_qt aA aB aC aL i = P i) (hL : yb_L P S c v tX tY tZ tW tP) (hz : c = 0 → post (-1)) (h : 0 < c → post (3 - nI (hb_rk P (hb_Al P S c v (fun _ => True))))) : wpX_dimensionNow post (fn, fb, nI c, fm, fk, fT, fB, aA, aB, aC, aL, tX, tY, tZ, tW, tP, mX, mY, mZ, mW, mP, aI, kX, kY, kZ, kW, aH, aD) := by
  have c32 := yb_L_32 hS hL
  unfold wpX_dimensionNow
  refine ek_if (nI_eq (b := 0) (by omega) (by omega)) (fun e => hz e) (fun e => ⟨c + 1, ?_⟩)
  exact xb_dim13 hS hA hL (by omega) (h (by omega)) c 0 (-1) (by omega) (hb_bits_congr hb_bits_m1 (fun i _ => ⟨fun _ j hj => absurd hj (Nat.not_lt_zero j), fun _ => trivial⟩))
end
section
variable {gn gp gc : Int32} {qN qD pA pB pC pD yX yY yZ yW yP yF : Nat → Int32}
variable {P : Nat → hb_Q} {N c : Nat} {v : Nat → hb_Q} {W : Nat → Prop}
theorem yb_shared12 {post : Int32 → Prop} {w : Int64} (hc : c ≤ 32) (hL : yb_L P (hb_SN N) c v yX yY yZ yW yP) (hw : hb_BitL w W) (h : ∀ x, hb_Bits x (fun i => i < N ∧ hb_Al P (hb_SN N) c v W i) → post x) : ∀ d k x, k + d = c → hb_Bits x (fun i => i < N ∧ hb_Al P (hb_SN N) k v W i) → wY_shared_12 post w gn gp (nI c) qN qD pA pB pC pD yX yY yZ yW yP yF (d + 1) x (nI k) := by
  intro d
  induction d with
  | zero =>
    intro k x hk hb
    have e : k = c := by omega
    subst e
    rw [wY_shared_12]
    exact br_t (nI_le (Nat.le_refl _) (by omega)) (h x hb)
  | succ d ih =>
    intro k x hk hb
    rw [wY_shared_12]
    refine br_f (nI_ge (by omega) (by omega)) (ek_if (hb_bitL1 hw (by omega)) (fun hk' => ⟨vp_in_nI (by omega) (by omega), nm_e (nm_r (nI_1 k) (ih (k + 1) _ (by omega) ?_))⟩) (fun hk' => nm_r (nI_1 k) (ih (k + 1) _ (by omega) ?_)))
    · rw [nI_clamp (by omega)]
      refine hb_bits_congr (hb_bits_and hb (hL.2 k (by omega)).2) (fun i _ => ?_)
      constructor
      · intro hh
        refine ⟨hh.1.1, fun j hj hjw => ?_⟩
        by_cases e : j = k
        · subst e; exact hh.2
        · exact hh.1.2 j (by omega) hjw
      · intro hh
        exact ⟨⟨hh.1, fun j hj hjw => hh.2 j (by omega) hjw⟩, hh.2 k (by omega) hk'⟩
    · refine hb_bits_congr hb (fun i _ => ?_)
      constructor
      · intro hh
        refine ⟨hh.1, fun j hj hjw => ?_⟩
        by_cases e : j = k
        · subst e; exact absurd hjw hk'
        · exact hh.2 j (by omega) hjw
      · intro hh
        exact ⟨hh.1, fun j hj hjw => hh.2 j (by omega) hjw⟩
theorem yb_dimOf {post : Int32 → Prop} {w : Int64} (hS : hb_Sys P (hb_SN N)) (hN : N ≤ 16) (hA : ∀ i, i < N → hb_qt pA pB pC pD i = P i) (hL : yb_L P (hb_SN N) c v yX yY yZ yW yP) (hw : hb_BitL w W) (hW : ∀ k, W k → k < c) (hz : (¬ ∃ k, W k) → post (-1)) (h : (∃ k, W k) → post (3 - nI (hb_rk P (hb_Al P (hb_SN N) c v W)))) : wpY_dimensionOf post (gn, nI N, nI c, qN, qD, pA, pB, pC, pD, yX, yY, yZ, yW, yP, yF) w := by
  have c32 := yb_L_32 hS hL
  unfold wpY_dimensionOf
  refine ek_if (hb_bitL_eq hw hb_bitL_0) (fun e => hz (fun ⟨k, hk⟩ => (e k (by have := hW k hk; omega)).mp hk)) (fun e => ?_)
  have hex : ∃ k, W k := Classical.byContradiction fun hn => e (fun i _ => ⟨fun hi => hn ⟨i, hi⟩, fun hi => hi.elim⟩)
  obtain ⟨k, hk⟩ := hex
  have kc := hW k hk
  unfold wpY_shared
  refine nm_e ⟨c + 1, ?_⟩
  refine yb_shared12 c32 hL hw (fun x hx => ?_) c 0 _ (by omega) ?_
  · refine yb_rank (P := P) hN hx (fun i hi => ⟨hi.1, (hS.2.2 i hi.1).2⟩) hA ?_
    have e2 : hb_rk P (fun i => i < N ∧ hb_Al P (hb_SN N) c v W i) = hb_rk P (hb_Al P (hb_SN N) c v W) := hb_rk_congr (fun i => ⟨fun hh => hh.2, fun hh => ⟨(hh k kc hk).1, hh⟩⟩) (fun _ _ => rfl)
    rw [e2]
    exact h ⟨k, hk⟩
  · intro i hi
    rw [hb_all32 N (by omega) i hi, decide_eq_true_iff]
    exact ⟨fun hh => ⟨hh, fun j hj => absurd hj (Nat.not_lt_zero j)⟩, fun hh => hh.1⟩
theorem yb_dimension {post : Int32 → SY → Prop} {n : Nat} {tX tY tZ tW tP : Nat → Int32} (hPl : hb_Pl n P) (hB : xb_B n P c tX tY tZ tW tP) (hY : yb_R n P gn qN qD) (h : ∀ pA pB pC pD yX yY yZ yW yP : Nat → Int32, (∀ j, j < 6 + n → hb_qt pA pB pC pD j = P j) → yb_L P (hb_S n) c (hb_qt tX tY tZ tW) yX yY yZ yW yP → yb_R n P (nI n) qN qD → (c = 0 → post (-1) (nI n, nI (6 + n), nI c, qN, qD, pA, pB, pC, pD, yX, yY, yZ, yW, yP, yF)) ∧ (0 < c → post (3 - nI (hb_rk P (hb_Al P (hb_S n) c (hb_qt tX tY tZ tW) (fun _ => True)))) (nI n, nI (6 + n), nI c, qN, qD, pA, pB, pC, pD, yX, yY, yZ, yW, yP, yF))) : wpY_dimension post (gn, gp, gc, qN, qD, pA, pB, pC, pD, yX, yY, yZ, yW, yP, yF) := by
  unfold wpY_dimension
  refine rl_find hPl hB hY (fun pA pB pC pD yX yY yZ yW yP hj he hL hR' => ?_)
  have c32 := yb_L_32 (hb_S_sys hPl) hL
  obtain ⟨h1, h2⟩ := h _ _ _ _ _ _ _ _ _ hj hL hR'
  unfold wpY_all
  refine yb_dimOf (P := P) (N := 6 + n) (W := fun k => k < c) (hb_S_sys hPl) (by have := hPl.1; omega) hj hL (fun i hi => by rw [hb_all64 c (by omega) i hi, decide_eq_true_iff]) (fun k hk => hk) (fun hn => h1 ?_) (fun ⟨k, hk⟩ => ?_)
  · rcases Nat.eq_zero_or_pos c with e | e
    · exact e
    · exact absurd ⟨0, e⟩ hn
  · have e2 : hb_rk P (hb_Al P (hb_SN (6 + n)) c (hb_qt tX tY tZ tW) (fun k => k < c)) = hb_rk P (hb_Al P (hb_S n) c (hb_qt tX tY tZ tW) (fun _ => True)) := hb_rk_congr (fun i => ⟨fun hh j hj _ => hh j hj hj, fun hh j hj _ => hh j hj trivial⟩) (fun _ _ => rfl)
    rw [e2]
    exact h2 (by omega)
end
theorem i_vc_dimension {k : Nat} {u : SX} {v : SY} (I : i_Rel k u v) (hk : k + 3 ≤ 1536) : wpX_dimension (fun r u' => wpY_dimension (fun r' v' => r' = r ∧ i_Rel (k + 3) u' v') v) u := by
  refine rl_el (Q := fun u v => wpX_dimension (fun r u' => wpY_dimension (fun r' v' => r' = r ∧ i_Rel (k + 3) u' v') v) u) ?_ I
  intro n P fn fb fc fm fk fT fB aA aB aC aL tX tY tZ tW tP mX mY mZ mW mP aI kX kY kZ kW aH aD gn gp gc qN qD pA pB pC pD yX yY yZ yW yP yF hX hY
  unfold wpX_dimension
  refine xb_build hX (fun c fb fm tX tY tZ tW tP mX mY mZ mW mP aI hb hB hR => ?_)
  refine xb_dimNow (hb_S_sys hX.1) hR.2.2.1 (yb_L_x hB.1) (fun e => ?_) (fun e => ?_)
  · refine yb_dimension hX.1 hB hY (fun pA pB pC pD yX yY yZ yW yP hj hL hR' => ⟨fun _ => ⟨rfl, rl_mk hR hR'⟩, fun e' => by omega⟩)
  · refine yb_dimension hX.1 hB hY (fun pA pB pC pD yX yY yZ yW yP hj hL hR' => ⟨fun e' => by omega, fun _ => ⟨rfl, rl_mk hR hR'⟩⟩)
/-! edges -/
/-- corners k and l are neighbours -/
def hb_E (P : Nat → hb_Q) (S : Nat → Prop) (v : Nat → hb_Q) (k l : Nat) : Prop := k ≠ l ∧ hb_R2 P (hb_Com P S (v k) (v l))
section
variable {fn fb fc fm fk : Int32} {fT fB : Int64} {aA aB aC aL tX tY tZ tW tP mX mY mZ mW mP kX kY kZ kW aH aD : Nat → Int32} {aI : Nat → Int64}
variable {P : Nat → hb_Q} {S : Nat → Prop} {c : Nat} {v : Nat → hb_Q}
theorem xb_areL {post : Int32 → Prop} (hS : hb_Sys P S) (hL : yb_L P S c v tX tY tZ tW tP) {k l : Nat} (hk : k < c) (hl : l < c) (h1 : hb_E P S v k l → post 1) (h0 : ¬ hb_E P S v k l → post 0) : wpX_areNeighbours post (fn, fb, nI c, fm, fk, fT, fB, aA, aB, aC, aL, tX, tY, tZ, tW, tP, mX, mY, mZ, mW, mP, aI, kX, kY, kZ, kW, aH, aD) (nI k) (nI l) := by
  have c32 := yb_L_32 hS hL
  refine xb_areN (by omega) hk hl (fun m hm => (hL.2 m hm).2) (fun ne h => h1 ⟨ne, (hb_nb_iff hS hL.1 hk hl ne).mp h⟩) (fun h => h0 (fun hE => ?_))
  rcases h with h | ⟨m, hm, n1, n2, ha⟩
  · exact hE.1 h
  · exact (hb_nb_iff hS hL.1 hk hl hE.1).mpr hE.2 m hm n1 n2 ha
theorem xb_edges18 {post : Int32 → SX → Prop} {J : Int32 → Int32 → Prop} (hS : hb_Sys P S) (hL : yb_L P S c v tX tY tZ tW tP) {k e : Nat} (hk : k < c) (hJ : J (nI (e + hu_cnt (hb_E P S v k) k)) (nI (k + 1))) : ∀ d l, l + d = k → wX_edges_18 post J (nI k) fn fb (nI c) fm fk fT fB aA aB aC aL tX tY tZ tW tP mX mY mZ mW mP aI kX kY kZ kW aH aD (d + 1) (nI (e + hu_cnt (hb_E P S v k) l)) (nI l) := by
  have c32 := yb_L_32 hS hL
  intro d
  induction d with
  | zero =>
    intro l hl
    have e : l = k := by omega
    subst e
    rw [wX_edges_18]
    exact br_t (nI_le (Nat.le_refl _) (by omega)) (nm_r (nI_1 _) hJ)
  | succ d ih =>
    intro l hl
    rw [wX_edges_18]
    refine br_f (nI_ge (by omega) (by omega)) ?_
    have i1 := ih (l + 1) (by omega)
    refine xb_areL hS hL hk (by omega) (fun hE => br_f (by decide) (nm_r (nI_1 _) (nm_r (nI_1 l) ?_))) (fun hE => br_t rfl (nm_r (nI_1 l) ?_))
    · rw [hu_cnt_t hE, ← Nat.add_assoc] at i1; exact i1
    · rw [hu_cnt_f hE] at i1; exact i1
theorem xb_edges8 {post : Int32 → SX → Prop} (hS : hb_Sys P S) (hL : yb_L P S c v tX tY tZ tW tP) (h : post (nI (hu_sm (fun k => hu_cnt (hb_E P S v k) k) c)) (fn, fb, nI c, fm, fk, fT, fB, aA, aB, aC, aL, tX, tY, tZ, tW, tP, mX, mY, mZ, mW, mP, aI, kX, kY, kZ, kW, aH, aD)) : ∀ d k, k + d = c → wX_edges_8 post fn fb (nI c) fm fk fT fB aA aB aC aL tX tY tZ tW tP mX mY mZ mW mP aI kX kY kZ kW aH aD (d + 1) (nI (hu_sm (fun k => hu_cnt (hb_E P S v k) k) k)) (nI k) := by
  have c32 := yb_L_32 hS hL
  intro d
  induction d with
  | zero =>
    intro k hk
    have e : k = c := by omega
    subst e
    rw [wX_edges_8]
    exact br_t (nI_le (Nat.le_refl _) (by omega)) h
  | succ d ih =>
    intro k hk
    rw [wX_edges_8]
    refine br_f (nI_ge (by omega) (by omega)) ⟨k + 1, ?_⟩
    exact xb_edges18 hS hL (by omega) (ih (k + 1) (by omega)) k 0 (by omega)
end
section
variable {gn gp gc : Int32} {qN qD pA pB pC pD yX yY yZ yW yP yF : Nat → Int32}
variable {P : Nat → hb_Q} {N c : Nat} {v : Nat → hb_Q}
theorem yb_areL {post : Int32 → Prop} (hS : hb_Sys P (hb_SN N)) (hN : N ≤ 16) (hA : ∀ i, i < N → hb_qt pA pB pC pD i = P i) (hL : yb_L P (hb_SN N) c v yX yY yZ yW yP) {k l : Nat} (hk : k < c) (hl : l < c) (h1 : hb_E P (hb_SN N) v k l → post 1) (h0 : ¬ hb_E P (hb_SN N) v k l → post 0) : wpY_areNeighbours post (gn, nI N, nI c, qN, qD, pA, pB, pC, pD, yX, yY, yZ, yW, yP, yF) (nI k) (nI l) := by
  have c32 := yb_L_32 hS hL
  unfold wpY_areNeighbours
  refine ek_if (nI_eq (by omega) (by omega)) (fun e => h0 (fun hE => hE.1 e)) (fun ne => ⟨vp_in_nI (by omega) (by omega), vp_in_nI (by omega) (by omega), ?_⟩)
  rw [nI_clamp (by omega), nI_clamp (by omega)]
  refine yb_rank (P := P) hN (hb_bits_and (hL.2 k hk).2 (hL.2 l hl).2) (fun i hi => ⟨hi.1.1, (hS.2.2 i hi.1.1).2⟩) hA ?_
  have n3 : ¬ hb_R3 P (hb_Com P (hb_SN N) (v k) (v l)) := fun r => hb_list_ne hL.1 hk hl ne (hb_uniqR r (fun i hi => hi.1.2) (fun i hi => hi.2.2))
  by_cases r2 : hb_R2 P (hb_Com P (hb_SN N) (v k) (v l))
  · have e : hb_rk P (fun i => hb_T P (hb_SN N) (v k) i ∧ hb_T P (hb_SN N) (v l) i) = 2 := hb_rk2 n3 r2
    rw [e]
    exact br_t rfl (h1 ⟨ne, r2⟩)
  · have e : hb_rk P (fun i => hb_T P (hb_SN N) (v k) i ∧ hb_T P (hb_SN N) (v l) i) < 2 := by
      by_cases hx : ∃ i, hb_T P (hb_SN N) (v k) i ∧ hb_T P (hb_SN N) (v l) i
      · rw [hb_rk1 (T := fun i => hb_T P (hb_SN N) (v k) i ∧ hb_T P (hb_SN N) (v l) i) r2 hx]; omega
      · rw [hb_rk0 hx]; omega
    refine br_f (fun z => ?_) (h0 (fun hE => r2 hE.2))
    have := (nI_eq (b := 2) (by omega) (by omega)).mp z
    omega
theorem yb_edges18 {post : Int32 → SY → Prop} {J : Int32 → Int32 → Prop} (hS : hb_Sys P (hb_SN N)) (hN : N ≤ 16) (hA : ∀ i, i < N → hb_qt pA pB pC pD i = P i) (hL : yb_L P (hb_SN N) c v yX yY yZ yW yP) {k e : Nat} (hk : k < c) (hJ : J (nI (e + hu_cnt (hb_E P (hb_SN N) v k) k)) (nI (k + 1))) : ∀ d l, l + d = k → wY_edges_18 post J (nI k) gn (nI N) (nI c) qN qD pA pB pC pD yX yY yZ yW yP yF (d + 1) (nI (e + hu_cnt (hb_E P (hb_SN N) v k) l)) (nI l) := by
  have c32 := yb_L_32 hS hL
  intro d
  induction d with
  | zero =>
    intro l hl
    have e : l = k := by omega
    subst e
    rw [wY_edges_18]
    exact br_t (nI_le (Nat.le_refl _) (by omega)) (nm_r (nI_1 _) hJ)
  | succ d ih =>
    intro l hl
    rw [wY_edges_18]
    refine br_f (nI_ge (by omega) (by omega)) ?_
    have i1 := ih (l + 1) (by omega)
    refine yb_areL hS hN hA hL hk (by omega) (fun hE => br_f (by decide) (nm_r (nI_1 _) (nm_r (nI_1 l) ?_))) (fun hE => br_t rfl (nm_r (nI_1 l) ?_))
    · rw [hu_cnt_t hE, ← Nat.add_assoc] at i1; exact i1
    · rw [hu_cnt_f hE] at i1; exact i1
theorem yb_edges8 {post : Int32 → SY → Prop} (hS : hb_Sys P (hb_SN N)) (hN : N ≤ 16) (hA : ∀ i, i < N → hb_qt pA pB pC pD i = P i) (hL : yb_L P (hb_SN N) c v yX yY yZ yW yP) (h : post (nI (hu_sm (fun k => hu_cnt (hb_E P (hb_SN N) v k) k) c)) (gn, nI N, nI c, qN, qD, pA, pB, pC, pD, yX, yY, yZ, yW, yP, yF)) : ∀ d k, k + d = c → wY_edges_8 post gn (nI N) (nI c) qN qD pA pB pC pD yX yY yZ yW yP yF (d + 1) (nI (hu_sm (fun k => hu_cnt (hb_E P (hb_SN N) v k) k) k)) (nI k) := by
  have c32 := yb_L_32 hS hL
  intro d
  induction d with
  | zero =>
    intro k hk
    have e : k = c := by omega
    subst e
    rw [wY_edges_8]
    exact br_t (nI_le (Nat.le_refl _) (by omega)) h
  | succ d ih =>
    intro k hk
    rw [wY_edges_8]
    refine br_f (nI_ge (by omega) (by omega)) ⟨k + 1, ?_⟩
    exact yb_edges18 hS hN hA hL (by omega) (ih (k + 1) (by omega)) k 0 (by omega)
end
theorem i_vc_edges {k : Nat} {u : SX} {v : SY} (I : i_Rel k u v) (hk : k + 3 ≤ 1536) : wpX_edges (fun r u' => wpY_edges (fun r' v' => r' = r ∧ i_Rel (k + 3) u' v') v) u := by
  refine rl_el (Q := fun u v => wpX_edges (fun r u' => wpY_edges (fun r' v' => r' = r ∧ i_Rel (k + 3) u' v') v) u) ?_ I
  intro n P fn fb fc fm fk fT fB aA aB aC aL tX tY tZ tW tP mX mY mZ mW mP aI kX kY kZ kW aH aD gn gp gc qN qD pA pB pC pD yX yY yZ yW yP yF hX hY
  unfold wpX_edges
  refine xb_build hX (fun c fb fm tX tY tZ tW tP mX mY mZ mW mP aI hb hB hR => ⟨c + 1, ?_⟩)
  refine xb_edges8 (hb_S_sys hX.1) (yb_L_x hB.1) ?_ c 0 (by omega)
  unfold wpY_edges
  refine rl_find hX.1 hB hY (fun pA pB pC pD yX yY yZ yW yP hj he hL hR' => ⟨c + 1, ?_⟩)
  exact yb_edges8 (N := 6 + n) (hb_S_sys hX.1) (by have := hX.1.1; omega) hj hL ⟨rfl, rl_mk hR hR'⟩ c 0 (by omega)
/-! on -/
section
variable {fn fb fc fm fk : Int32} {fT fB : Int64} {aA aB aC aL tX tY tZ tW tP mX mY mZ mW mP kX kY kZ kW aH aD : Nat → Int32} {aI : Nat → Int64}
variable {P : Nat → hb_Q} {S : Nat → Prop} {c : Nat} {v : Nat → hb_Q}
theorem xb_on23 {post : Int32 → SX → Prop} (hc : c ≤ 32) (hL : yb_L P S c v tX tY tZ tW tP) {i : Nat} (hi : i < 8) (h : post (nI (hu_cnt (fun k => hb_T P S (v k) (6 + i)) c)) (fn, fb, nI c, fm, fk, fT, fB, aA, aB, aC, aL, tX, tY, tZ, tW, tP, mX, mY, mZ, mW, mP, aI, kX, kY, kZ, kW, aH, aD)) : ∀ d k, k + d = c → wX_on_23 post (nI i) fn fb (nI c) fm fk fT fB aA aB aC aL tX tY tZ tW tP mX mY mZ mW mP aI kX kY kZ kW aH aD (d + 1) (nI (hu_cnt (fun k => hb_T P S (v k) (6 + i)) k)) (nI k) := by
  have e6 : (6 : Int32) + nI i = nI (6 + i) := nI_add 6 i
  intro d
  induction d with
  | zero =>
    intro k hk
    have e : k = c := by omega
    subst e
    rw [wX_on_23]
    exact br_t (nI_le (Nat.le_refl _) (by omega)) h
  | succ d ih =>
    intro k hk
    rw [wX_on_23]
    refine br_f (nI_ge (by omega) (by omega)) ?_
    rw [e6]
    have i1 := ih (k + 1) (by omega)
    refine xb_liesOn (by omega) (by omega) (hL.2 k (by omega)).2 (fun ht => br_f (by decide) (nm_r (nI_1 _) (nm_r (nI_1 k) ?_))) (fun ht => br_t rfl (nm_r (nI_1 k) ?_))
    · rw [hu_cnt_t (p := fun k => hb_T P S (v k) (6 + i)) ht] at i1; exact i1
    · rw [hu_cnt_f (p := fun k => hb_T P S (v k) (6 + i)) ht] at i1; exact i1
end
section
variable {gn gp gc : Int32} {qN qD pA pB pC pD yX yY yZ yW yP yF : Nat → Int32}
variable {P : Nat → hb_Q} {S : Nat → Prop} {c : Nat} {v : Nat → hb_Q}
theorem yb_on26 {post : Int32 → SY → Prop} (hc : c ≤ 32) (hL : yb_L P S c v yX yY yZ yW yP) {i : Nat} (hi : i < 8) (h : post (nI (hu_cnt (fun k => hb_T P S (v k) (6 + i)) c)) (gn, gp, nI c, qN, qD, pA, pB, pC, pD, yX, yY, yZ, yW, yP, yF)) : ∀ d k, k + d = c → wY_on_26 post (nI i) gn gp (nI c) qN qD pA pB pC pD yX yY yZ yW yP yF (d + 1) (nI (hu_cnt (fun k => hb_T P S (v k) (6 + i)) k)) (nI k) := by
  have e6 : (6 : Int32) + nI i = nI (6 + i) := nI_add 6 i
  intro d
  induction d with
  | zero =>
    intro k hk
    have e : k = c := by omega
    subst e
    rw [wY_on_26]
    exact br_t (nI_le (Nat.le_refl _) (by omega)) h
  | succ d ih =>
    intro k hk
    rw [wY_on_26]
    refine br_f (nI_ge (by omega) (by omega)) ⟨vp_in_nI (by omega) (by omega), ?_⟩
    rw [nI_clamp (by omega), e6]
    have i1 := ih (k + 1) (by omega)
    refine ek_if (hb_bit1 (hL.2 k (by omega)).2 (by omega)) (fun ht => nm_r (nI_1 _) (nm_r (nI_1 k) ?_)) (fun ht => nm_r (nI_1 k) ?_)
    · rw [hu_cnt_t (p := fun k => hb_T P S (v k) (6 + i)) ht] at i1; exact i1
    · rw [hu_cnt_f (p := fun k => hb_T P S (v k) (6 + i)) ht] at i1; exact i1
end
theorem i_vc_on {k : Nat} {u : SX} {v : SY} (I : i_Rel k u v) (hk : k + 3 ≤ 1536) (v1 : Int32) : wpX_on (fun r u' => wpY_on (fun r' v' => r' = r ∧ i_Rel (k + 3) u' v') v v1) u v1 := by
  refine rl_el (Q := fun u v => wpX_on (fun r u' => wpY_on (fun r' v' => r' = r ∧ i_Rel (k + 3) u' v') v v1) u v1) ?_ I
  intro n P fn fb fc fm fk fT fB aA aB aC aL tX tY tZ tW tP mX mY mZ mW mP aI kX kY kZ kW aH aD gn gp gc qN qD pA pB pC pD yX yY yZ yW yP yF hX hY
  have t0 : (0 : Int32).toInt = 0 := rfl
  have n8 := hX.1.1
  have e1 := hX.2.1
  have e2 := hY.1
  subst e1; subst e2
  have tn : (nI n).toInt = n := nI_toInt (by omega)
  have tn1 := zi_pred (c := n) (by omega)
  have bad : ¬ (0 ≤ v1.toInt ∧ v1.toInt < n) → wpY_on (fun r' v' => r' = (-1000000) ∧ i_Rel (k + 3) (nI n, fb, fc, fm, fk, fT, fB, aA, aB, aC, aL, tX, tY, tZ, tW, tP, mX, mY, mZ, mW, mP, aI, kX, kY, kZ, kW, aH, aD) v') (nI n, gp, gc, qN, qD, pA, pB, pC, pD, yX, yY, yZ, yW, yP, yF) v1 := fun hb => by
    unfold wpY_on
    refine yb_in (fun a b => ?_) (fun _ => br_t rfl ⟨rfl, rl_mk hX hY⟩)
    rw [t0] at a
    rw [tn1] at b
    exact absurd ⟨a, by omega⟩ hb
  unfold wpX_on
  refine ek_if Int32.lt_iff_toInt_lt (fun h => bad (by omega)) (fun h1 => ?_)
  refine ek_if Int32.lt_iff_toInt_lt (fun h2 => ?_) (fun h => bad (by rw [tn] at h; omega))
  rw [t0] at h1
  rw [tn] at h2
  obtain ⟨i, ei⟩ : ∃ i : Nat, v1.toInt = i := ⟨v1.toInt.toNat, by omega⟩
  have ev : v1 = nI i := by rw [zi_nI, ← ei]; exact zi_of v1
  subst ev
  refine xb_build hX (fun c fb fm tX tY tZ tW tP mX mY mZ mW mP aI hb hB hR => ⟨c + 1, ?_⟩)
  have c32 := hb_md_le (hb_S_sys hX.1) hB.1.1 (fun _ h => h)
  refine xb_on23 c32 (yb_L_x hB.1) (by omega) ?_ c 0 (by omega)
  unfold wpY_on
  refine yb_in (fun a b => br_f (by decide) ?_) (fun hc => absurd hc (by rw [t0, tn1]; omega))
  refine rl_find hX.1 hB hY (fun pA pB pC pD yX yY yZ yW yP hj he hL hR' => ⟨c + 1, ?_⟩)
  exact yb_on26 c32 hL (by omega) ⟨rfl, rl_mk hR hR'⟩ c 0 (by omega)
end
section
/-! answers: faces -/
/-- corners in plane p -/
def hb_W (P : Nat → hb_Q) (S : Nat → Prop) (v : Nat → hb_Q) (p : Nat) : Nat → Prop := fun k => hb_T P S (v k) p
def hb_F1 (P : Nat → hb_Q) (S : Nat → Prop) (c : Nat) (v : Nat → hb_Q) (p : Nat) : Prop := (∃ k, k < c ∧ hb_W P S v p k) ∧ hb_rk P (hb_Al P S c v (hb_W P S v p)) = 1
def hb_F2 (P : Nat → hb_Q) (S : Nat → Prop) (c : Nat) (v : Nat → hb_Q) (p q : Nat) : Prop := ∀ k, k < c → (hb_W P S v p k ↔ hb_W P S v q k)
def hb_F (P : Nat → hb_Q) (S : Nat → Prop) (c : Nat) (v : Nat → hb_Q) (p : Nat) : Prop := hb_F1 P S c v p ∧ ¬ ∃ q, q < p ∧ hb_F2 P S c v p q
theorem hb_rk_le (P : Nat → hb_Q) (T : Nat → Prop) : hb_rk P T ≤ 3 := by
  by_cases h3 : hb_R3 P T
  · rw [hb_rk3 h3]; omega
  · by_cases h2 : hb_R2 P T
    · rw [hb_rk2 h3 h2]; omega
    · by_cases h1 : ∃ i, T i
      · rw [hb_rk1 h2 h1]; omega
      · rw [hb_rk0 h1]; omega
section
variable {fn fb fc fm fk : Int32} {fT fB : Int64} {aA aB aC aL tX tY tZ tW tP mX mY mZ mW mP kX kY kZ kW aH aD : Nat → Int32} {aI : Nat → Int64}
variable {P : Nat → hb_Q} {S : Nat → Prop} {c : Nat} {v : Nat → hb_Q}
theorem xb_face7 {post : Int32 → Prop} (hS : hb_Sys P S) (hA : ∀ i, S i → hb_qt aA aB aC aL i = P i) (hL : yb_L P S c v tX tY tZ tW tP) {p : Nat} (hp : p < 16) (h1 : hb_F1 P S c v p → post 1) (h0 : ¬ hb_F1 P S c v p → post 0) : ∀ d k m x, k + d = c → hb_Bits x (hb_Al P S k v (hb_W P S v p)) → (0 < m ↔ ∃ j, j < k ∧ hb_W P S v p j) → m ≤ k → wX_isFace_7 post (nI p) fn fb (nI c) fm fk fT fB aA aB aC aL tX tY tZ tW tP mX mY mZ mW mP aI kX kY kZ kW aH aD (d + 1) x (nI m) (nI k) := by
  have c32 := yb_L_32 hS hL
  intro d
  induction d with
  | zero =>
    intro k m x hk hb hm hmk
    have e : k = c := by omega
    subst e
    rw [wX_isFace_7]
    refine br_t (nI_le (Nat.le_refl _) (by omega)) ?_
    refine pk_le m 0 (fun z => h0 (fun hF => ?_)) (fun z => ?_)
    · have := hm.mpr hF.1; omega
    · obtain ⟨j, hj, hw⟩ := hm.mp z
      refine xb_rank hb (hb_Al_gt hS hj hw) (fun i hi => hA i (hi j hj hw).1) ?_
      have r3 := hb_rk_le P (hb_Al P S k v (hb_W P S v p))
      refine ek_if (nI_eq (b := 1) (by omega) (by omega)) (fun e => h1 ⟨⟨j, hj, hw⟩, e⟩) (fun e => h0 (fun hF => e hF.2))
  | succ d ih =>
    intro k m x hk hb hm hmk
    rw [wX_isFace_7]
    refine br_f (nI_ge (by omega) (by omega)) ?_
    refine xb_liesOn (by omega) (by omega) (hL.2 k (by omega)).2 (fun ht => br_f (by decide) ⟨vp_in_nI (by omega) (by omega), nm_e (nm_r (nI_1 m) (nm_r (nI_1 k) (ih (k + 1) (m + 1) _ (by omega) ?_ ?_ (by omega))))⟩) (fun ht => br_t rfl (nm_r (nI_1 k) (ih (k + 1) m x (by omega) ?_ ?_ (by omega))))
    · rw [nI_clamp (by omega)]
      refine hb_bits_congr (hb_bits_and hb (hL.2 k (by omega)).2) (fun i _ => ?_)
      constructor
      · intro hh j hj hw
        by_cases e : j = k
        · subst e; exact hh.2
        · exact hh.1 j (by omega) hw
      · intro hh
        exact ⟨fun j hj hw => hh j (by omega) hw, hh k (by omega) ht⟩
    · exact ⟨fun _ => ⟨k, by omega, ht⟩, fun _ => by omega⟩
    · refine hb_bits_congr hb (fun i _ => ?_)
      constructor
      · intro hh j hj hw
        by_cases e : j = k
        · subst e; exact absurd hw ht
        · exact hh j (by omega) hw
      · intro hh j hj hw
        exact hh j (by omega) hw
    · rw [hm]
      constructor
      · intro ⟨j, hj, hw⟩; exact ⟨j, by omega, hw⟩
      · intro ⟨j, hj, hw⟩
        refine ⟨j, ?_, hw⟩
        have : j ≠ k := fun e => ht (e ▸ hw)
        omega
theorem xb_isFace {post : Int32 → Prop} (hS : hb_Sys P S) (hA : ∀ i, S i → hb_qt aA aB aC aL i = P i) (hL : yb_L P S c v tX tY tZ tW tP) {p : Nat} (hp : p < 16) (h1 : hb_F1 P S c v p → post 1) (h0 : ¬ hb_F1 P S c v p → post 0) : wpX_isFace post (fn, fb, nI c, fm, fk, fT, fB, aA, aB, aC, aL, tX, tY, tZ, tW, tP, mX, mY, mZ, mW, mP, aI, kX, kY, kZ, kW, aH, aD) (nI p) :=
  ⟨c + 1, xb_face7 hS hA hL hp h1 h0 c 0 0 (-1) (by omega) (hb_bits_congr hb_bits_m1 (fun i _ => ⟨fun _ j hj => absurd hj (Nat.not_lt_zero j), fun _ => trivial⟩)) ⟨fun h => absurd h (Nat.lt_irrefl 0), fun ⟨j, hj, _⟩ => absurd hj (Nat.not_lt_zero j)⟩ (Nat.le_refl 0)⟩
theorem xb_known12 {post : Int32 → Prop} {J : Int32 → Prop} (hc : c ≤ 32) (hL : yb_L P S c v tX tY tZ tW tP) {p q : Nat} (hp : p < 16) (hq : q < 16) (h1 : hb_F2 P S c v p q → post 1) (h0 : ¬ hb_F2 P S c v p q → J (nI (q + 1))) : ∀ d k, k + d = c → ((∀ j, j < k → (hb_W P S v p j ↔ hb_W P S v q j)) → wX_isKnownFace_12 post J (nI p) (nI q) fn fb (nI c) fm fk fT fB aA aB aC aL tX tY tZ tW tP mX mY mZ mW mP aI kX kY kZ kW aH aD (d + 1) 1 (nI k)) ∧ (¬ hb_F2 P S c v p q → wX_isKnownFace_12 post J (nI p) (nI q) fn fb (nI c) fm fk fT fB aA aB aC aL tX tY tZ tW tP mX mY mZ mW mP aI kX kY kZ kW aH aD (d + 1) 0 (nI k)) := by
  have out : ¬ hb_F2 P S c v p q → wX_isKnownFace_62 post J (nI p) (nI q) 0 fn fb (nI c) fm fk fT fB aA aB aC aL tX tY tZ tW tP mX mY mZ mW mP aI kX kY kZ kW aH aD := fun hn => by
    unfold wX_isKnownFace_62
    exact br_t rfl (nm_r (nI_1 q) (h0 hn))
  intro d
  induction d with
  | zero =>
    intro k hk
    have e : k = c := by omega
    subst e
    refine ⟨fun hs => ?_, fun hn => ?_⟩
    · rw [wX_isKnownFace_12]
      refine br_t (nI_le (Nat.le_refl _) (by omega)) ?_
      unfold wX_isKnownFace_62
      exact br_f (by decide) (h1 hs)
    · rw [wX_isKnownFace_12]
      exact br_t (nI_le (Nat.le_refl _) (by omega)) (out hn)
  | succ d ih =>
    intro k hk
    refine ⟨fun hs => ?_, fun hn => ?_⟩
    · rw [wX_isKnownFace_12]
      refine br_f (nI_ge (by omega) (by omega)) (br_f (by decide) ?_)
      obtain ⟨i1, i2⟩ := ih (k + 1) (by omega)
      have hb := (hL.2 k (by omega)).2
      have same : (hb_W P S v p k ↔ hb_W P S v q k) → wX_isKnownFace_12 post J (nI p) (nI q) fn fb (nI c) fm fk fT fB aA aB aC aL tX tY tZ tW tP mX mY mZ mW mP aI kX kY kZ kW aH aD (d + 1) 1 (nI (k + 1)) := fun he => i1 (fun j hj => by
        by_cases e : j = k
        · rw [e]; exact he
        · exact hs j (by omega))
      have diff : ¬ (hb_W P S v p k ↔ hb_W P S v q k) → wX_isKnownFace_12 post J (nI p) (nI q) fn fb (nI c) fm fk fT fB aA aB aC aL tX tY tZ tW tP mX mY mZ mW mP aI kX kY kZ kW aH aD (d + 1) 0 (nI (k + 1)) := fun he => i2 (fun hF => he (hF k (by omega)))
      refine xb_liesOn (by omega) (by omega) hb (fun a => ?_) (fun a => ?_)
      · refine xb_liesOn (by omega) (by omega) hb (fun b => ?_) (fun b => ?_)
        · exact br_t rfl (nm_r (nI_1 k) (same ⟨fun _ => b, fun _ => a⟩))
        · exact br_f (by decide) (nm_r (nI_1 k) (diff (fun h => b (h.mp a))))
      · refine xb_liesOn (by omega) (by omega) hb (fun b => ?_) (fun b => ?_)
        · exact br_f (by decide) (nm_r (nI_1 k) (diff (fun h => a (h.mpr b))))
        · exact br_t rfl (nm_r (nI_1 k) (same ⟨fun h => absurd h a, fun h => absurd h b⟩))
    · rw [wX_isKnownFace_12]
      exact br_f (nI_ge (by omega) (by omega)) (br_t rfl (out hn))
theorem xb_known2 {post : Int32 → Prop} (hc : c ≤ 32) (hL : yb_L P S c v tX tY tZ tW tP) {p : Nat} (hp : p < 16) (h1 : (∃ q, q < p ∧ hb_F2 P S c v p q) → post 1) (h0 : (¬ ∃ q, q < p ∧ hb_F2 P S c v p q) → post 0) : ∀ d q, q + d = p → (∀ q', q' < q → ¬ hb_F2 P S c v p q') → wX_isKnownFace_2 post (nI p) fn fb (nI c) fm fk fT fB aA aB aC aL tX tY tZ tW tP mX mY mZ mW mP aI kX kY kZ kW aH aD (d + 1) (nI q) := by
  intro d
  induction d with
  | zero =>
    intro q hq hn
    have e : q = p := by omega
    subst e
    rw [wX_isKnownFace_2]
    exact br_t (nI_le (Nat.le_refl _) (by omega)) (h0 (fun ⟨q', a, b⟩ => hn q' a b))
  | succ d ih =>
    intro q hq hn
    rw [wX_isKnownFace_2]
    refine br_f (nI_ge (by omega) (by omega)) ⟨c + 1, ?_⟩
    refine (xb_known12 hc hL hp (by omega) (fun hF => h1 ⟨q, by omega, hF⟩) (fun hF => ih (q + 1) (by omega) (fun q' hq' => ?_)) c 0 (by omega)).1 (fun j hj => absurd hj (Nat.not_lt_zero j))
    by_cases e : q' = q
    · rw [e]; exact hF
    · exact hn q' (by omega)
theorem xb_faces29 {post : Int32 → SX → Prop} {n : Nat} (hn : n ≤ 8) (hS : hb_Sys P S) (hA : ∀ i, S i → hb_qt aA aB aC aL i = P i) (hL : yb_L P S c v tX tY tZ tW tP) (h : post (nI (hu_cnt (hb_F P S c v) (6 + n))) (nI n, fb, nI c, fm, fk, fT, fB, aA, aB, aC, aL, tX, tY, tZ, tW, tP, mX, mY, mZ, mW, mP, aI, kX, kY, kZ, kW, aH, aD)) : ∀ d p, p + d = 6 + n → wX_faces_29 post (nI n) fb (nI c) fm fk fT fB aA aB aC aL tX tY tZ tW tP mX mY mZ mW mP aI kX kY kZ kW aH aD (d + 1) (nI (hu_cnt (hb_F P S c v) p)) (nI p) := by
  have c32 := yb_L_32 hS hL
  have e6 : (6 : Int32) + nI n = nI (6 + n) := nI_add 6 n
  intro d
  induction d with
  | zero =>
    intro p hp
    have e : p = 6 + n := by omega
    subst e
    rw [wX_faces_29]
    exact br_t (show (6 : Int32) + nI n ≤ nI (6 + n) by rw [e6]; exact nI_le (Nat.le_refl _) (by omega)) h
  | succ d ih =>
    intro p hp
    have i1 := ih (p + 1) (by omega)
    rw [wX_faces_29]
    refine br_f (show ¬ (6 : Int32) + nI n ≤ nI p by rw [e6]; exact nI_ge (by omega) (by omega)) ?_
    refine xb_isFace hS hA hL (by omega) (fun f1 => br_f (by decide) ?_) (fun f1 => br_t rfl (nm_r (nI_1 p) ?_))
    · refine ⟨p + 1, xb_known2 c32 hL (by omega) (fun f2 => br_f (by decide) (nm_r (nI_1 p) ?_)) (fun f2 => br_t rfl (nm_r (nI_1 _) (nm_r (nI_1 p) ?_))) p 0 (by omega) (fun q' hq' => absurd hq' (Nat.not_lt_zero q'))⟩
      · rw [hu_cnt_f (p := hb_F P S c v) (fun hF => hF.2 f2)] at i1; exact i1
      · rw [hu_cnt_t (p := hb_F P S c v) ⟨f1, f2⟩] at i1; exact i1
    · rw [hu_cnt_f (p := hb_F P S c v) (fun hF => f1 hF.1)] at i1; exact i1
end
section
variable {gn gp gc : Int32} {qN qD pA pB pC pD yX yY yZ yW yP yF : Nat → Int32}
variable {P : Nat → hb_Q} {N c : Nat} {v : Nat → hb_Q}
theorem yb_inPlane5 {post : Int64 → Prop} (hc : c ≤ 32) (hL : yb_L P (hb_SN N) c v yX yY yZ yW yP) {s : Nat} (hs : s < 16) (h : ∀ w, hb_BitL w (fun k => k < c ∧ hb_W P (hb_SN N) v s k) → post w) : ∀ d k w, k + d = c → hb_BitL w (fun j => j < k ∧ hb_W P (hb_SN N) v s j) → wY_inPlane_5 post (nI s) gn gp (nI c) qN qD pA pB pC pD yX yY yZ yW yP yF (d + 1) w (nI k) := by
  intro d
  induction d with
  | zero =>
    intro k w hk hw
    have e : k = c := by omega
    subst e
    rw [wY_inPlane_5]
    exact br_t (nI_le (Nat.le_refl _) (by omega)) (h w hw)
  | succ d ih =>
    intro k w hk hw
    rw [wY_inPlane_5]
    refine br_f (nI_ge (by omega) (by omega)) ⟨vp_in_nI (by omega) (by omega), ?_⟩
    rw [nI_clamp (by omega)]
    refine ek_if (hb_bit1 (hL.2 k (by omega)).2 (by omega)) (fun ht => nm_e (nm_r (nI_1 k) (ih (k + 1) _ (by omega) ?_))) (fun ht => nm_r (nI_1 k) (ih (k + 1) _ (by omega) ?_))
    · refine hb_bitL_congr (hb_bitL_set hw (by omega : k < 64)) (fun i _ => ?_)
      constructor
      · intro hh
        rcases hh with hh | hh
        · exact ⟨by omega, hh.2⟩
        · subst hh; exact ⟨by omega, ht⟩
      · intro hh
        by_cases e : i = k
        · exact Or.inr e
        · exact Or.inl ⟨by omega, hh.2⟩
    · refine hb_bitL_congr hw (fun i _ => ?_)
      constructor
      · intro hh; exact ⟨by omega, hh.2⟩
      · intro hh
        refine ⟨?_, hh.2⟩
        have : i ≠ k := fun e => ht (e ▸ hh.2)
        omega
theorem yb_inPlane {post : Int64 → Prop} (hc : c ≤ 32) (hL : yb_L P (hb_SN N) c v yX yY yZ yW yP) {s : Nat} (hs : s < 16) (h : ∀ w, hb_BitL w (fun k => k < c ∧ hb_W P (hb_SN N) v s k) → post w) : wpY_inPlane post (gn, gp, nI c, qN, qD, pA, pB, pC, pD, yX, yY, yZ, yW, yP, yF) (nI s) :=
  ⟨c + 1, yb_inPlane5 hc hL hs h c 0 0 (by omega) (hb_bitL_congr hb_bitL_0 (fun i _ => ⟨fun h => h.elim, fun h => absurd h.1 (Nat.not_lt_zero i)⟩))⟩
theorem yb_faces60 {post : Int32 → SY → Prop} {J : Int32 → Int32 → Prop} (hc : c ≤ 32) (hL : yb_L P (hb_SN N) c v yX yY yZ yW yP) {e s : Nat} (hs : s < 16) {w : Int64} (hw : hb_BitL w (fun k => k < c ∧ hb_W P (hb_SN N) v s k)) (h1 : hb_F P (hb_SN N) c v s → J (nI (e + 1)) (nI (s + 1))) (h0 : ¬ hb_F P (hb_SN N) c v s → J (nI e) (nI (s + 1))) : ∀ d r, r + d = s → ((hb_F1 P (hb_SN N) c v s ∧ ∀ q, q < r → ¬ hb_F2 P (hb_SN N) c v s q) → wY_faces_60 post J (nI e) (nI s) w gn gp (nI c) qN qD pA pB pC pD yX yY yZ yW yP yF (d + 1) 1 (nI r)) ∧ (¬ hb_F P (hb_SN N) c v s → wY_faces_60 post J (nI e) (nI s) w gn gp (nI c) qN qD pA pB pC pD yX yY yZ yW yP yF (d + 1) 0 (nI r)) := by
  intro d
  induction d with
  | zero =>
    intro r hr
    have e : r = s := by omega
    subst e
    refine ⟨fun hh => ?_, fun hh => ?_⟩
    · rw [wY_faces_60]
      exact br_t (nI_le (Nat.le_refl _) (by omega)) (br_f (by decide) (nm_r (nI_1 _) (nm_r (nI_1 r) (h1 ⟨hh.1, fun ⟨q, a, b⟩ => hh.2 q a b⟩))))
    · rw [wY_faces_60]
      exact br_t (nI_le (Nat.le_refl _) (by omega)) (br_t rfl (nm_r (nI_1 r) (h0 hh)))
  | succ d ih =>
    intro r hr
    obtain ⟨i1, i2⟩ := ih (r + 1) (by omega)
    have eqv : ∀ w', hb_BitL w' (fun k => k < c ∧ hb_W P (hb_SN N) v r k) → (w' = w ↔ hb_F2 P (hb_SN N) c v s r) := fun w' hw' => by
      rw [hb_bitL_eq hw' hw]
      constructor
      · intro hh k hk
        have := hh k (by omega)
        exact ⟨fun a => (this.mpr ⟨hk, a⟩).2, fun a => (this.mp ⟨hk, a⟩).2⟩
      · intro hh k _
        exact ⟨fun a => ⟨a.1, (hh k a.1).mpr a.2⟩, fun a => ⟨a.1, (hh k a.1).mp a.2⟩⟩
    refine ⟨fun hh => ?_, fun hh => ?_⟩
    · rw [wY_faces_60]
      refine br_f (nI_ge (by omega) (by omega)) ?_
      refine yb_inPlane hc hL (by omega) (fun w' hw' => ?_)
      refine ek_if (eqv w' hw') (fun f2 => nm_r (nI_1 r) (i2 (fun hF => hF.2 ⟨r, by omega, f2⟩))) (fun f2 => nm_r (nI_1 r) (i1 ⟨hh.1, fun q hq => ?_⟩))
      by_cases e : q = r
      · rw [e]; exact f2
      · exact hh.2 q (by omega)
    · rw [wY_faces_60]
      refine br_f (nI_ge (by omega) (by omega)) ?_
      refine yb_inPlane hc hL (by omega) (fun w' hw' => ?_)
      exact br_c (fun _ => nm_r (nI_1 r) (i2 hh)) (fun _ => nm_r (nI_1 r) (i2 hh))
theorem yb_3m {r : Nat} (h : r ≤ 3) : (3 : Int32) - nI r = nI (3 - r) := pk_sub (a := 3) (b := r) h
theorem yb_faces25 {post : Int32 → SY → Prop} (hS : hb_Sys P (hb_SN N)) (hN : N ≤ 16) (hA : ∀ i, i < N → hb_qt pA pB pC pD i = P i) (hL : yb_L P (hb_SN N) c v yX yY yZ yW yP) (h : post (nI (hu_cnt (hb_F P (hb_SN N) c v) N)) (gn, nI N, nI c, qN, qD, pA, pB, pC, pD, yX, yY, yZ, yW, yP, yF)) : ∀ d s, s + d = N → wY_faces_25 post gn (nI N) (nI c) qN qD pA pB pC pD yX yY yZ yW yP yF (d + 1) (nI (hu_cnt (hb_F P (hb_SN N) c v) s)) (nI s) := by
  have c32 := yb_L_32 hS hL
  intro d
  induction d with
  | zero =>
    intro s hs
    have e : s = N := by omega
    subst e
    rw [wY_faces_25]
    exact br_t (nI_le (Nat.le_refl _) (by omega)) h
  | succ d ih =>
    intro s hs
    have i1 := ih (s + 1) (by omega)
    rw [wY_faces_25]
    refine br_f (nI_ge (by omega) (by omega)) ?_
    refine yb_inPlane c32 hL (by omega) (fun w hw => ?_)
    have k60 := fun (a : hb_F P (hb_SN N) c v s → wY_faces_25 post gn (nI N) (nI c) qN qD pA pB pC pD yX yY yZ yW yP yF (d + 1) (nI (hu_cnt (hb_F P (hb_SN N) c v) s + 1)) (nI (s + 1))) (b : ¬ hb_F P (hb_SN N) c v s → wY_faces_25 post gn (nI N) (nI c) qN qD pA pB pC pD yX yY yZ yW yP yF (d + 1) (nI (hu_cnt (hb_F P (hb_SN N) c v) s)) (nI (s + 1))) => yb_faces60 (post := post) (gp := nI N) (gn := gn) (qN := qN) (qD := qD) (pA := pA) (pB := pB) (pC := pC) (pD := pD) (yF := yF) c32 hL (by omega : s < 16) hw a b s 0 (by omega)
    have k := k60 (fun hF => by rw [hu_cnt_t (p := hb_F P (hb_SN N) c v) hF] at i1; exact i1) (fun hF => by rw [hu_cnt_f (p := hb_F P (hb_SN N) c v) hF] at i1; exact i1)
    refine yb_dimOf (P := P) (N := N) (W := fun k => k < c ∧ hb_W P (hb_SN N) v s k) hS hN hA hL hw (fun k hk => hk.1) (fun hn => ?_) (fun hn => ?_)
    · refine br_f (by decide) ⟨s + 1, k.2 (fun hF => hn ?_)⟩
      obtain ⟨j, a, b⟩ := hF.1.1
      exact ⟨j, a, b⟩
    · have r3 := hb_rk_le P (hb_Al P (hb_SN N) c v (fun k => k < c ∧ hb_W P (hb_SN N) v s k))
      have er : hb_rk P (hb_Al P (hb_SN N) c v (fun k => k < c ∧ hb_W P (hb_SN N) v s k)) = hb_rk P (hb_Al P (hb_SN N) c v (hb_W P (hb_SN N) v s)) := hb_rk_congr (fun i => ⟨fun hh j hj hw' => hh j hj ⟨hj, hw'⟩, fun hh j hj hw' => hh j hj hw'.2⟩) (fun _ _ => rfl)
      rw [yb_3m r3]
      rw [er] at r3 ⊢
      refine ek_if (nI_eq (b := 2) (by omega) (by omega)) (fun e => ⟨s + 1, k.1 ⟨⟨?_, by omega⟩, fun q hq => absurd hq (Nat.not_lt_zero q)⟩⟩) (fun e => ⟨s + 1, k.2 (fun hF => e (by have := hF.1.2; omega))⟩)
      obtain ⟨j, a, b⟩ := hn
      exact ⟨j, a, b⟩
end
theorem i_vc_faces {k : Nat} {u : SX} {v : SY} (I : i_Rel k u v) (hk : k + 3 ≤ 1536) : wpX_faces (fun r u' => wpY_faces (fun r' v' => r' = r ∧ i_Rel (k + 3) u' v') v) u := by
  refine rl_el (Q := fun u v => wpX_faces (fun r u' => wpY_faces (fun r' v' => r' = r ∧ i_Rel (k + 3) u' v') v) u) ?_ I
  intro n P fn fb fc fm fk fT fB aA aB aC aL tX tY tZ tW tP mX mY mZ mW mP aI kX kY kZ kW aH aD gn gp gc qN qD pA pB pC pD yX yY yZ yW yP yF hX hY
  unfold wpX_faces
  have n8 := hX.1.1
  refine xb_build hX (fun c fb fm tX tY tZ tW tP mX mY mZ mW mP aI hb hB hR => ?_)
  refine xb_dimNow (hb_S_sys hX.1) hR.2.2.1 (yb_L_x hB.1) (fun e => ?_) (fun e => ?_)
  · refine br_f (by decide) (br_f (by decide) ?_)
    unfold wpY_faces
    refine yb_dimension hX.1 hB hY (fun pA pB pC pD yX yY yZ yW yP hj hL hR' => ⟨fun _ => br_f (by decide) (br_f (by decide) ⟨rfl, rl_mk hR hR'⟩), fun e' => by omega⟩)
  · have y : ∀ r : Int32, (∀ (pA pB pC pD yX yY yZ yW yP : Nat → Int32), (∀ j, j < 6 + n → hb_qt pA pB pC pD j = P j) → yb_L P (hb_S n) c (hb_qt tX tY tZ tW) yX yY yZ yW yP → yb_R n P (nI n) qN qD → (3 ≤ 3 - nI (hb_rk P (hb_Al P (hb_S n) c (hb_qt tX tY tZ tW) (fun _ => True))) → ∃ n25, wY_faces_25 (fun r' v' => r' = r ∧ i_Rel (k + 3) (nI n, fb, nI c, fm, fk, fT, fB, aA, aB, aC, aL, tX, tY, tZ, tW, tP, mX, mY, mZ, mW, mP, aI, kX, kY, kZ, kW, aH, aD) v') (nI n) (nI (6 + n)) (nI c) qN qD pA pB pC pD yX yY yZ yW yP yF n25 0 0) ∧ (¬ 3 ≤ 3 - nI (hb_rk P (hb_Al P (hb_S n) c (hb_qt tX tY tZ tW) (fun _ => True))) → (3 - nI (hb_rk P (hb_Al P (hb_S n) c (hb_qt tX tY tZ tW) (fun _ => True))) = 2 → 1 = r ∧ i_Rel (k + 3) (nI n, fb, nI c, fm, fk, fT, fB, aA, aB, aC, aL, tX, tY, tZ, tW, tP, mX, mY, mZ, mW, mP, aI, kX, kY, kZ, kW, aH, aD) (nI n, nI (6 + n), nI c, qN, qD, pA, pB, pC, pD, yX, yY, yZ, yW, yP, yF)) ∧ (¬ 3 - nI (hb_rk P (hb_Al P (hb_S n) c (hb_qt tX tY tZ tW) (fun _ => True))) = 2 → 0 = r ∧ i_Rel (k + 3) (nI n, fb, nI c, fm, fk, fT, fB, aA, aB, aC, aL, tX, tY, tZ, tW, tP, mX, mY, mZ, mW, mP, aI, kX, kY, kZ, kW, aH, aD) (nI n, nI (6 + n), nI c, qN, qD, pA, pB, pC, pD, yX, yY, yZ, yW, yP, yF)))) → wpY_faces (fun r' v' => r' = r ∧ i_Rel (k + 3) (nI n, fb, nI c, fm, fk, fT, fB, aA, aB, aC, aL, tX, tY, tZ, tW, tP, mX, mY, mZ, mW, mP, aI, kX, kY, kZ, kW, aH, aD) v') (gn, gp, gc, qN, qD, pA, pB, pC, pD, yX, yY, yZ, yW, yP, yF) := fun r hr => by
      unfold wpY_faces
      exact yb_dimension hX.1 hB hY (fun pA pB pC pD yX yY yZ yW yP hj hL hR' => ⟨fun e' => by omega, fun _ => hr _ _ _ _ _ _ _ _ _ hj hL hR'⟩)
    refine br_c (fun d3 => ⟨6 + n + 1, ?_⟩) (fun d3 => br_c (fun d2 => ?_) (fun d2 => ?_))
    · refine xb_faces29 n8 (hb_S_sys hX.1) hR.2.2.1 (yb_L_x hB.1) (y _ (fun pA pB pC pD yX yY yZ yW yP hj hL hR' => br_t d3 ⟨6 + n + 1, ?_⟩)) (6 + n) 0 (by omega)
      exact yb_faces25 (N := 6 + n) (hb_S_sys hX.1) (by omega) hj hL ⟨rfl, rl_mk hR hR'⟩ (6 + n) 0 (by omega)
    · exact y _ (fun pA pB pC pD yX yY yZ yW yP hj hL hR' => br_f d3 (br_t d2 ⟨rfl, rl_mk hR hR'⟩))
    · exact y _ (fun pA pB pC pD yX yY yZ yW yP hj hL hR' => br_f d3 (br_f d2 ⟨rfl, rl_mk hR hR'⟩))
end
section
/-! answers: needless -/
/-- a plane is needless iff all corners without it keep to it -/
theorem hb_needless {P : Nat → hb_Q} {S : Nat → Prop} {p : Nat} (hS : hb_Sys P S) : (∀ v, hb_K P (hb_add S p) v ↔ hb_K P S v) ↔ ∀ v, hb_K P S v → 0 ≤ hb_val (P p) v := by
  constructor
  · intro h v hv
    exact (hb_add_in.mp ((h v).mpr hv).1.1).2
  · intro h v
    constructor
    · intro hv
      rcases hb_cut_all hS hv.1 with hx | ⟨a, b, va, vb, pa, pb, -, -⟩
      · exact ⟨hx, hv.2⟩
      · have r := hb_red_Red vb.1.1
        have := h (hb_red b) ⟨hb_same_Vx vb r.1.1 r.2, r.1⟩
        have := (hb_red_val vb.1.1 r (P p)).2.mpr this
        omega
    · intro hv
      exact ⟨hb_cut_keep hv.1 (h v hv), hv.2⟩
theorem hb_Sn_full {n i : Nat} (hi : i < n) : hb_add (hb_Sn (6 + n) (fun j => j = 6 + i)) (6 + i) = hb_S n := by
  funext j
  refine propext ⟨fun hh => ?_, fun hh => ?_⟩
  · rcases hh with hh | hh
    · exact hh.1
    · show j < 6 + n; omega
  · by_cases e : j = 6 + i
    · exact Or.inr e
    · exact Or.inl ⟨hh, e⟩
/-- the same body by a list without plane 6 + i -/
theorem hb_K_sk {P : Nat → hb_Q} {n i : Nat} (hi : i < n) (v : hb_Q) : hb_K (fun j => P (hb_sk i j)) (hb_SN (5 + n)) v ↔ hb_K P (hb_Sn (6 + n) (fun j => j = 6 + i)) v := by
  have up : ∀ j, hb_SN (5 + n) j → hb_Sn (6 + n) (fun j => j = 6 + i) (hb_sk i j) := fun j hj => by
    have hj : j < 5 + n := hj
    unfold hb_sk
    split
    · exact ⟨by omega, by omega⟩
    · exact ⟨by omega, by omega⟩
  have dn : ∀ j, hb_Sn (6 + n) (fun j => j = 6 + i) j → ∃ j', hb_SN (5 + n) j' ∧ hb_sk i j' = j := fun j hj => by
    obtain ⟨h1, h2⟩ := hj
    by_cases h : j < 6 + i
    · exact ⟨j, show j < 5 + n by omega, by unfold hb_sk; rw [if_pos h]⟩
    · exact ⟨j - 1, show j - 1 < 5 + n by omega, by unfold hb_sk; rw [if_neg (by omega)]; omega⟩
  constructor
  · intro ⟨⟨⟨hw, hin⟩, a, b, c, ha, hb, hc, hd⟩, hn⟩
    refine ⟨⟨⟨hw, fun j hj => ?_⟩, hb_sk i a, hb_sk i b, hb_sk i c, ⟨up a ha.1, ha.2⟩, ⟨up b hb.1, hb.2⟩, ⟨up c hc.1, hc.2⟩, hd⟩, hn⟩
    obtain ⟨j', h1, h2⟩ := dn j hj
    rw [← h2]
    exact hin j' h1
  · intro ⟨⟨⟨hw, hin⟩, a, b, c, ha, hb, hc, hd⟩, hn⟩
    obtain ⟨a', a1, a2⟩ := dn a ha.1
    obtain ⟨b', b1, b2⟩ := dn b hb.1
    obtain ⟨c', c1, c2⟩ := dn c hc.1
    refine ⟨⟨⟨hw, fun j hj => hin _ (up j hj)⟩, a', b', c', ⟨a1, ?_⟩, ⟨b1, ?_⟩, ⟨c1, ?_⟩, ?_⟩, hn⟩
    · show hb_val (P (hb_sk i a')) v = 0; rw [a2]; exact ha.2
    · show hb_val (P (hb_sk i b')) v = 0; rw [b2]; exact hb.2
    · show hb_val (P (hb_sk i c')) v = 0; rw [c2]; exact hc.2
    · show hb_det (P (hb_sk i a')) (P (hb_sk i b')) (P (hb_sk i c')) ≠ 0; rw [a2, b2, c2]; exact hd
section
variable {fn fb fc fm fk : Int32} {fT fB : Int64} {aA aB aC aL tX tY tZ tW tP mX mY mZ mW mP kX kY kZ kW aH aD : Nat → Int32} {aI : Nat → Int64}
variable {c : Nat}
theorem xb_keep10 {post : SX → Prop} (hc : c ≤ 64) (h : ∀ kX kY kZ kW : Nat → Int32, (∀ j, j < c → kX j = tX j ∧ kY j = tY j ∧ kZ j = tZ j ∧ kW j = tW j) → post (fn, fb, nI c, fm, fk, fT, fB, aA, aB, aC, aL, tX, tY, tZ, tW, tP, mX, mY, mZ, mW, mP, aI, kX, kY, kZ, kW, aH, aD)) : ∀ (d k : Nat) (kX kY kZ kW : Nat → Int32), k + d = c → (∀ j, j < k → kX j = tX j ∧ kY j = tY j ∧ kZ j = tZ j ∧ kW j = tW j) → wX_keepCorners_10 post fn fb (nI c) fm fk fT fB (d + 1) (nI k) aA aB aC aL tX tY tZ tW tP mX mY mZ mW mP aI kX kY kZ kW aH aD := by
  intro d
  induction d with
  | zero =>
    intro k kX kY kZ kW hk hj
    have e : k = c := by omega
    subst e
    rw [wX_keepCorners_10]
    exact br_t (nI_le (Nat.le_refl _) (by omega)) (h _ _ _ _ hj)
  | succ d ih =>
    intro k kX kY kZ kW hk hj
    rw [wX_keepCorners_10]
    refine br_f (nI_ge (by omega) (by omega)) ?_
    simp only [xb_in (by omega : k < 64) (by omega : 64 < 2 ^ 31), forall_eq, nI_clamp (by omega : k < 2 ^ 31), true_and, nI_1]
    refine ih (k + 1) _ _ _ _ (by omega) (fun j hj' => ?_)
    by_cases e : j = k
    · subst e; simp only [pk_us, and_self]
    · simp only [pk_un e]; exact hj j (by omega)
theorem xb_keep {post : SX → Prop} (hc : c ≤ 64) (h : ∀ kX kY kZ kW : Nat → Int32, (∀ j, j < c → kX j = tX j ∧ kY j = tY j ∧ kZ j = tZ j ∧ kW j = tW j) → post (fn, fb, nI c, fm, nI c, fT, fB, aA, aB, aC, aL, tX, tY, tZ, tW, tP, mX, mY, mZ, mW, mP, aI, kX, kY, kZ, kW, aH, aD)) : wpX_keepCorners post (fn, fb, nI c, fm, fk, fT, fB, aA, aB, aC, aL, tX, tY, tZ, tW, tP, mX, mY, mZ, mW, mP, aI, kX, kY, kZ, kW, aH, aD) :=
  ⟨c + 1, xb_keep10 hc h c 0 kX kY kZ kW (by omega) (fun j hj => absurd hj (Nat.not_lt_zero j))⟩
theorem xb_needless50 {post : Int32 → SX → Prop} (hc : c ≤ 64) (h1 : (∀ j, j < c → hb_qt tX tY tZ tW j = hb_qt kX kY kZ kW j) → post 1 (fn, fb, fc, fm, nI c, fT, fB, aA, aB, aC, aL, tX, tY, tZ, tW, tP, mX, mY, mZ, mW, mP, aI, kX, kY, kZ, kW, aH, aD)) (h0 : (¬ ∀ j, j < c → hb_qt tX tY tZ tW j = hb_qt kX kY kZ kW j) → post 0 (fn, fb, fc, fm, nI c, fT, fB, aA, aB, aC, aL, tX, tY, tZ, tW, tP, mX, mY, mZ, mW, mP, aI, kX, kY, kZ, kW, aH, aD)) : ∀ d k, k + d = c → (∀ j, j < k → hb_qt tX tY tZ tW j = hb_qt kX kY kZ kW j) → wX_needless_50 post fn fb fc fm (nI c) fT fB aA aB aC aL tX tY tZ tW tP mX mY mZ mW mP aI kX kY kZ kW aH aD (d + 1) (nI k) := by
  intro d
  induction d with
  | zero =>
    intro k hk hj
    have e : k = c := by omega
    subst e
    rw [wX_needless_50]
    exact br_t (nI_le (Nat.le_refl _) (by omega)) (h1 hj)
  | succ d ih =>
    intro k hk hj
    have no : ¬ hb_qt tX tY tZ tW k = hb_qt kX kY kZ kW k → post 0 (fn, fb, fc, fm, nI c, fT, fB, aA, aB, aC, aL, tX, tY, tZ, tW, tP, mX, mY, mZ, mW, mP, aI, kX, kY, kZ, kW, aH, aD) := fun hn => h0 (fun ha => hn (ha k (by omega)))
    have e1 : hb_qt tX tY tZ tW k = hb_qt kX kY kZ kW k ↔ tX k = kX k ∧ tY k = kY k ∧ tZ k = kZ k ∧ tW k = kW k := by
      constructor
      · intro h
        exact ⟨Int32.toInt_inj.mp (congrArg (fun v : hb_Q => v.1) h), Int32.toInt_inj.mp (congrArg (fun v : hb_Q => v.2.1) h), Int32.toInt_inj.mp (congrArg (fun v : hb_Q => v.2.2.1) h), Int32.toInt_inj.mp (congrArg (fun v : hb_Q => v.2.2.2) h)⟩
      · intro ⟨a, b, c, d⟩
        simp only [hb_qt, a, b, c, d]
    rw [wX_needless_50]
    refine br_f (nI_ge (by omega) (by omega)) ?_
    simp only [wX_needless_122, wX_needless_123, xb_in (by omega : k < 64) (by omega : 64 < 2 ^ 31), forall_eq, nI_clamp (by omega : k < 2 ^ 31), true_and, nI_1, yb_10, not_true, not_false_iff, false_implies, true_implies, and_true]
    refine br_c (fun a => br_c (fun b => br_c (fun f => br_c (fun g => ih (k + 1) (by omega) (fun j hj' => ?_)) (fun g => no (fun h => g (e1.mp h).2.2.2))) (fun f => no (fun h => f (e1.mp h).2.2.1))) (fun b => no (fun h => b (e1.mp h).2.1))) (fun a => no (fun h => a (e1.mp h).1))
    by_cases e : j = k
    · rw [e]; exact e1.mpr ⟨a, b, f, g⟩
    · exact hj j (by omega)
end
section
variable {gn gp gc : Int32} {qN qD pA pB pC pD yX yY yZ yW yP yF : Nat → Int32}
variable {P : Nat → hb_Q} {S : Nat → Prop} {c N : Nat}
theorem yb_needless44 {post : Int32 → SY → Prop} {q : hb_Q} (hS : hb_Sys P S) (hC : xb_C P S c yX yY yZ yW yP) (hN : N < 16) (hq : hb_qt pA pB pC pD N = q) (hg : hb_Good q) (h1 : (∀ k, k < c → 0 ≤ hb_val q (hb_qt yX yY yZ yW k)) → post 1 (gn, nI (N + 1), nI c, qN, qD, pA, pB, pC, pD, yX, yY, yZ, yW, yP, yF)) (h0 : (¬ ∀ k, k < c → 0 ≤ hb_val q (hb_qt yX yY yZ yW k)) → post 0 (gn, nI (N + 1), nI c, qN, qD, pA, pB, pC, pD, yX, yY, yZ, yW, yP, yF)) : ∀ d k, k + d = c → (∀ j, j < k → 0 ≤ hb_val q (hb_qt yX yY yZ yW j)) → wY_needless_44 post gn (nI (N + 1)) (nI c) qN qD pA pB pC pD yX yY yZ yW yP yF (d + 1) (nI k) := by
  have c32 := hb_md_le hS hC.1 (fun _ h => h)
  intro d
  induction d with
  | zero =>
    intro k hk hj
    have e : k = c := by omega
    subst e
    rw [wY_needless_44]
    exact br_t (nI_le (Nat.le_refl _) (by omega)) (h1 hj)
  | succ d ih =>
    intro k hk hj
    rw [wY_needless_44]
    refine br_f (nI_ge (by omega) (by omega)) ?_
    rw [nI_pred]
    refine yb_side hN (by omega) ?_
    rw [hq]
    have bd := hb_val_bd hg (hb_K_bd hS (hC.1.1 k (by omega)))
    refine ek_if (zl_le0 ⟨by omega, by omega⟩) (fun a => nm_r (nI_1 k) (ih (k + 1) (by omega) (fun j hj' => ?_))) (fun a => h0 (fun ha => ?_))
    · by_cases e : j = k
      · rw [e]; omega
      · exact hj j (by omega)
    · have := ha k (by omega)
      omega
end
theorem i_vc_needless {k : Nat} {u : SX} {v : SY} (I : i_Rel k u v) (hk : k + 3 ≤ 1536) (v1 : Int32) : wpX_needless (fun r u' => wpY_needless (fun r' v' => r' = r ∧ i_Rel (k + 3) u' v') v v1) u v1 := by
  refine rl_el (Q := fun u v => wpX_needless (fun r u' => wpY_needless (fun r' v' => r' = r ∧ i_Rel (k + 3) u' v') v v1) u v1) ?_ I
  intro n P fn fb fc fm fk fT fB aA aB aC aL tX tY tZ tW tP mX mY mZ mW mP aI kX kY kZ kW aH aD gn gp gc qN qD pA pB pC pD yX yY yZ yW yP yF hX hY
  have t0 : (0 : Int32).toInt = 0 := rfl
  have n8 := hX.1.1
  have e1 := hX.2.1
  have e2 := hY.1
  subst e1; subst e2
  have tn : (nI n).toInt = n := nI_toInt (by omega)
  have tn1 := zi_pred (c := n) (by omega)
  have bad : ¬ (0 ≤ v1.toInt ∧ v1.toInt < n) → wpY_needless (fun r' v' => r' = 0 ∧ i_Rel (k + 3) (nI n, fb, fc, fm, fk, fT, fB, aA, aB, aC, aL, tX, tY, tZ, tW, tP, mX, mY, mZ, mW, mP, aI, kX, kY, kZ, kW, aH, aD) v') (nI n, gp, gc, qN, qD, pA, pB, pC, pD, yX, yY, yZ, yW, yP, yF) v1 := fun hb => by
    unfold wpY_needless
    refine yb_in (fun a b => ?_) (fun _ => br_t rfl ⟨rfl, rl_mk hX hY⟩)
    rw [t0] at a
    rw [tn1] at b
    exact absurd ⟨a, by omega⟩ hb
  unfold wpX_needless
  refine ek_if Int32.lt_iff_toInt_lt (fun h => bad (by omega)) (fun h1 => ?_)
  refine ek_if Int32.lt_iff_toInt_lt (fun h2 => ?_) (fun h => bad (by rw [tn] at h; omega))
  rw [t0] at h1
  rw [tn] at h2
  obtain ⟨i, ei⟩ : ∃ i : Nat, v1.toInt = i := ⟨v1.toInt.toNat, by omega⟩
  have ev : v1 = nI i := by rw [zi_nI, ← ei]; exact zi_of v1
  subst ev
  have hi : i < n := by omega
  have e6 : (6 : Int32) + nI i = nI (6 + i) := nI_add 6 i
  have hPl := hX.1
  have hA := hX.2.2.1
  have hS2 : hb_Sys P (hb_Sn (6 + n) (fun j => j = 6 + i)) := hb_Sn_sys hPl (fun j e => by omega) (by omega) (Nat.le_refl _)
  refine xb_build hX (fun c fb fm tX tY tZ tW tP mX mY mZ mW mP aI hb hB hR => ?_)
  have c32 := hb_md_le (hb_S_sys hPl) hB.1.1 (fun _ h => h)
  refine xb_keep (by omega) (fun kX kY kZ kW hK => ?_)
  rw [e6]
  refine xb_bw (L := fun j => j = 6 + i) hPl hA (fun p hp => by rw [nI_eq (by omega) (by omega)]) (fun j e => by omega) (fun c2 fm sX sY sZ sW sP mX mY mZ mW mP aI hC2 hs2 => ?_)
  have c232 := hb_md_le hS2 hC2.1 (fun _ h => h)
  have kq : ∀ j, j < c → hb_qt kX kY kZ kW j = hb_qt tX tY tZ tW j := fun j hj => by
    obtain ⟨a, b, d, e⟩ := hK j hj
    simp only [hb_qt, a, b, d, e]
  -- the pure answer
  have ans : (c2 = c ∧ ∀ j, j < c → hb_qt sX sY sZ sW j = hb_qt kX kY kZ kW j) ↔ ∀ q, hb_K P (hb_Sn (6 + n) (fun j => j = 6 + i)) q → 0 ≤ hb_val (P (6 + i)) q := by
    rw [← hb_needless hS2, hb_Sn_full hi]
    constructor
    · intro ⟨ec, hj⟩ q
      subst ec
      constructor
      · intro hq
        obtain ⟨j, hjc, e⟩ := hB.1.1.2.1 q hq
        rw [← e, ← kq j hjc, ← hj j hjc]
        exact hC2.1.1 j hjc
      · intro hq
        obtain ⟨j, hjc, e⟩ := hC2.1.2.1 q hq
        rw [← e, hj j hjc, kq j hjc]
        exact hB.1.1.1 j hjc
    · intro hq
      have hB' : hb_MD (hb_K P (hb_Sn (6 + n) (fun j => j = 6 + i))) c (hb_qt tX tY tZ tW) := hb_md_congr hB.1.1 hq (fun _ _ => rfl)
      obtain ⟨ec, hj⟩ := hb_srt_eq hB' hC2.1 hB.2 hs2
      exact ⟨ec, fun j hjc => by rw [hj j hjc, kq j hjc]⟩
  -- Y's answer
  have hr0 : xb_R n P (nI n) 0 (nI c2) aA aB aC aL sX sY sZ sW sP := ⟨hPl, rfl, hA, fun h => absurd rfl h⟩
  have hS3 : hb_Sys (fun j => P (hb_sk i j)) (hb_SN (5 + n)) := by
    have h1 := hb_Pl_drop hPl hi
    have h2 := hb_S_sys h1
    have e : hb_S (n - 1) = hb_SN (5 + n) := by
      funext j
      exact propext ⟨fun h => (by have : j < 6 + (n - 1) := h; show j < 5 + n; omega), fun h => (by have : j < 5 + n := h; show j < 6 + (n - 1); omega)⟩
    rw [e] at h2
    exact h2
  have nk : hb_nk n i = 5 + n := by unfold hb_nk; rw [if_pos hi]
  have y : ∀ r : Int32, ((∀ q, hb_K P (hb_Sn (6 + n) (fun j => j = 6 + i)) q → 0 ≤ hb_val (P (6 + i)) q) → r = 1) → ((¬ ∀ q, hb_K P (hb_Sn (6 + n) (fun j => j = 6 + i)) q → 0 ≤ hb_val (P (6 + i)) q) → r = 0) → wpY_needless (fun r' v' => r' = r ∧ i_Rel (k + 3) (nI n, 0, nI c2, fm, nI c, fT, fB, aA, aB, aC, aL, sX, sY, sZ, sW, sP, mX, mY, mZ, mW, mP, aI, kX, kY, kZ, kW, aH, aD) v') (nI n, gp, gc, qN, qD, pA, pB, pC, pD, yX, yY, yZ, yW, yP, yF) (nI i) := by
    intro r r1 r0
    unfold wpY_needless
    refine yb_in (fun a b => br_f (by decide) ?_) (fun hc => absurd hc (by rw [t0, tn1]; omega))
    refine yb_setPlanes (b := i) hPl hY (fun j hj => nI_eq (by omega) (by omega)) (fun pA pB pC pD hj => ?_)
    rw [nk] at hj ⊢
    refine yb_findCorners hS3 (by omega) hj (fun c3 yX yY yZ yW yP hC3 hs3 => ?_)
    obtain ⟨m, hm, em, ep⟩ := hY.2 i hi
    refine ⟨vp_in_nI (by omega) (by omega), vp_in_nI (by omega) (by omega), ?_⟩
    rw [nI_clamp (by omega), em]
    refine yb_addNormal (by omega) hm (fun pA' pB' pC' pD' g1 g2 => ⟨c3 + 1, ?_⟩)
    rw [← ep] at g2
    have al : (∀ q, hb_K P (hb_Sn (6 + n) (fun j => j = 6 + i)) q → 0 ≤ hb_val (P (6 + i)) q) ↔ ∀ j, j < c3 → 0 ≤ hb_val (P (6 + i)) (hb_qt yX yY yZ yW j) := by
      constructor
      · intro h j hj'
        exact h _ ((hb_K_sk hi _).mp (hC3.1.1 j hj'))
      · intro h q hq
        obtain ⟨j, hj', e⟩ := hC3.1.2.1 q ((hb_K_sk hi q).mpr hq)
        rw [← e]; exact h j hj'
    refine yb_needless44 hS3 hC3 (by omega) g2 (hPl.2.2 (6 + i) (by omega)) (fun ha => ⟨(r1 (al.mpr ha)).symm, rl_mk hr0 ⟨rfl, hY.2⟩⟩) (fun ha => ⟨(r0 (fun h => ha (al.mp h))).symm, rl_mk hr0 ⟨rfl, hY.2⟩⟩) c3 0 (by omega) (fun j hj' => absurd hj' (Nat.not_lt_zero j))
  refine ek_if (nI_eq (by omega) (by omega)) (fun ec => ⟨c + 1, ?_⟩) (fun ec => ?_)
  · refine xb_needless50 (by omega) (fun ha => y 1 (fun _ => rfl) (fun hn => absurd (ans.mp ⟨ec, ha⟩) hn)) (fun ha => y 0 (fun hq => absurd (ans.mpr hq).2 ha) (fun _ => rfl)) c 0 (by omega) (fun j hj => absurd hj (Nat.not_lt_zero j))
  · exact y 0 (fun hq => absurd (ans.mpr hq).1 ec) (fun _ => rfl)
end
section
/-! answers: section -/
/-- the planes with two more, across axis a at k -/
def hb_P2 (P : Nat → hb_Q) (n a : Nat) (k : Int) : Nat → hb_Q := fun i => if i = 6 + n then (if a = 0 then 1 else 0, if a = 1 then 1 else 0, if a = 2 then 1 else 0, k) else if i = 7 + n then (if a = 0 then -1 else 0, if a = 1 then -1 else 0, if a = 2 then -1 else 0, -k) else P i
theorem hb_P2_lo {P : Nat → hb_Q} {n a : Nat} {k : Int} {i : Nat} (h : i < 6 + n) : hb_P2 P n a k i = P i := by
  unfold hb_P2; rw [if_neg (by omega), if_neg (by omega)]
theorem hb_P2_6 {P : Nat → hb_Q} {n a : Nat} {k : Int} : hb_P2 P n a k (6 + n) = (if a = 0 then 1 else 0, if a = 1 then 1 else 0, if a = 2 then 1 else 0, k) := by
  unfold hb_P2; rw [if_pos rfl]
theorem hb_P2_7 {P : Nat → hb_Q} {n a : Nat} {k : Int} : hb_P2 P n a k (7 + n) = (if a = 0 then -1 else 0, if a = 1 then -1 else 0, if a = 2 then -1 else 0, -k) := by
  unfold hb_P2; rw [if_neg (by omega), if_pos rfl]
theorem hb_P2_good {P : Nat → hb_Q} {n a : Nat} {k : Int} (h : hb_Pl n P) (ha : a < 3) (hk : -8 ≤ k ∧ k ≤ 8) {i : Nat} (hi : i < 8 + n) : hb_Good (hb_P2 P n a k i) := by
  have : a = 0 ∨ a = 1 ∨ a = 2 := by omega
  by_cases e : i = 6 + n
  · rw [e, hb_P2_6]
    rcases this with e | e | e <;> subst e <;> simp only [hb_Good, hb_Nz] <;> refine ⟨⟨?_, ?_⟩, ⟨?_, ?_⟩, ⟨?_, ?_⟩, ⟨?_, ?_⟩, ?_⟩ <;> first | decide | omega
  · by_cases e2 : i = 7 + n
    · rw [e2, hb_P2_7]
      rcases this with e | e | e <;> subst e <;> simp only [hb_Good, hb_Nz] <;> refine ⟨⟨?_, ?_⟩, ⟨?_, ?_⟩, ⟨?_, ?_⟩, ⟨?_, ?_⟩, ?_⟩ <;> first | decide | omega
    · rw [hb_P2_lo (by omega)]; exact h.2.2 i (by omega)
theorem hb_P2_cube {P : Nat → hb_Q} {n a : Nat} {k : Int} (h : hb_Cube P) : hb_Cube (hb_P2 P n a k) := by
  obtain ⟨c0, c1, c2, c3, c4, c5⟩ := h
  refine ⟨?_, ?_, ?_, ?_, ?_, ?_⟩
  · rw [hb_P2_lo (by omega)]; exact c0
  · rw [hb_P2_lo (by omega)]; exact c1
  · rw [hb_P2_lo (by omega)]; exact c2
  · rw [hb_P2_lo (by omega)]; exact c3
  · rw [hb_P2_lo (by omega)]; exact c4
  · rw [hb_P2_lo (by omega)]; exact c5
theorem hb_P2_sys {P : Nat → hb_Q} {n a m : Nat} {k : Int} (h : hb_Pl n P) (ha : a < 3) (hk : -8 ≤ k ∧ k ≤ 8) (h6 : 6 ≤ m) (hm : m ≤ 8 + n) : hb_Sys (hb_P2 P n a k) (hb_SN m) :=
  ⟨hb_P2_cube h.2.1, fun i hi => (show i < m by omega), fun i hi => ⟨by have : i < m := hi; have := h.1; omega, hb_P2_good h ha hk (by have : i < m := hi; omega)⟩⟩
theorem hb_SN_add (m : Nat) : hb_add (hb_SN m) m = hb_SN (m + 1) := by
  funext i
  refine propext ⟨fun hh => ?_, fun hh => ?_⟩
  · rcases hh with hh | hh
    · have : i < m := hh; show i < m + 1; omega
    · show i < m + 1; omega
  · have : i < m + 1 := hh
    by_cases e : i = m
    · exact Or.inr e
    · exact Or.inl (show i < m by omega)
section
variable {fn fb fc fm fk : Int32} {fT fB : Int64} {aA aB aC aL tX tY tZ tW tP mX mY mZ mW mP kX kY kZ kW aH aD : Nat → Int32} {aI : Nat → Int64}
variable {P : Nat → hb_Q} {n a : Nat} {k : Int}
theorem xb_sec117 {post : Int32 → SX → Prop} {J : Int32 → Int32 → Int32 → Int32 → Int32 → Int32 → Int64 → Int64 → (Nat → Int32) → (Nat → Int32) → (Nat → Int32) → (Nat → Int32) → (Nat → Int32) → (Nat → Int32) → (Nat → Int32) → (Nat → Int32) → (Nat → Int32) → (Nat → Int32) → (Nat → Int32) → (Nat → Int32) → (Nat → Int32) → (Nat → Int32) → (Nat → Int64) → (Nat → Int32) → (Nat → Int32) → (Nat → Int32) → (Nat → Int32) → (Nat → Int32) → (Nat → Int32) → Prop} {x2 : Int32} {s : Int32} {sd p c : Nat} (hPl : hb_Pl n P) (ha : a < 3) (hk : -8 ≤ k ∧ k ≤ 8) (e2 : x2 = zi_I k) (hp1 : 6 + n ≤ p) (hp2 : p < 8 + n) (hs : s.toInt = 1 ∨ s.toInt = -1) (hP : hb_P2 P n a k p = (if a = 0 then s.toInt else 0, if a = 1 then s.toInt else 0, if a = 2 then s.toInt else 0, s.toInt * k)) (hA : ∀ i, i < p → hb_qt aA aB aC aL i = hb_P2 P n a k i) (hC : xb_C (hb_P2 P n a k) (hb_SN p) c tX tY tZ tW tP) (h : ∀ (c : Nat) (fm : Int32) (aA aB aC aL tX tY tZ tW tP mX mY mZ mW mP : Nat → Int32) (aI : Nat → Int64), (∀ i, i < p + 1 → hb_qt aA aB aC aL i = hb_P2 P n a k i) → xb_C (hb_P2 P n a k) (hb_SN (p + 1)) c tX tY tZ tW tP → J (nI (sd + 1)) fn fb (nI c) fm fk fT fB aA aB aC aL tX tY tZ tW tP mX mY mZ mW mP aI kX kY kZ kW aH aD) {z0 z1 z2 : Int32} (ez : (z2.toInt, z1.toInt, z0.toInt) = ((if a = 0 then s.toInt else 0, if a = 1 then s.toInt else 0, if a = 2 then s.toInt else 0) : Int × Int × Int)) : wX_section_117 post J (nI a) x2 (nI sd) (nI p) s z0 z1 z2 (nI p) fn fb (nI c) fm fk fT fB aA aB aC aL tX tY tZ tW tP mX mY mZ mW mP aI kX kY kZ kW aH aD := by
  have n8 := hPl.1
  have b2 : -1 ≤ z2.toInt ∧ z2.toInt ≤ 1 := by
    have : z2.toInt = if a = 0 then s.toInt else 0 := congrArg (fun v : Int × Int × Int => v.1) ez
    rw [this]; split <;> omega
  have b1 : -1 ≤ z1.toInt ∧ z1.toInt ≤ 1 := by
    have : z1.toInt = if a = 1 then s.toInt else 0 := congrArg (fun v : Int × Int × Int => v.2.1) ez
    rw [this]; split <;> omega
  have b0 : -1 ≤ z0.toInt ∧ z0.toInt ≤ 1 := by
    have : z0.toInt = if a = 2 then s.toInt else 0 := congrArg (fun v : Int × Int × Int => v.2.2) ez
    rw [this]; split <;> omega
  have sk : -8 ≤ s.toInt * k ∧ s.toInt * k ≤ 8 := by rcases hs with e | e <;> rw [e] <;> omega
  have ts : (s * x2).toInt = s.toInt * k := by
    rw [e2, ← zi_t (e := s.toInt * k) ⟨by omega, by omega⟩]
    congr 1
    rw [← zi_mul, ← zi_of]
  unfold wX_section_117
  refine xb_setPlane (by omega) (by omega) (by omega) (by omega) ?_
  refine ⟨vp_in_nI (by omega) (by omega), nm_r (e' := upd aL p (s * x2)) (by rw [nI_clamp (by omega), zi_byte (by omega) (by omega)]) ?_⟩
  have q2 : hb_qt (upd aA p z2) (upd aB p z1) (upd aC p z0) (upd aL p (s * x2)) p = hb_P2 P n a k p := by
    rw [hb_qt_us, hP, ts]
    have h1 : z2.toInt = if a = 0 then s.toInt else 0 := congrArg (fun v : Int × Int × Int => v.1) ez
    have h2 : z1.toInt = if a = 1 then s.toInt else 0 := congrArg (fun v : Int × Int × Int => v.2.1) ez
    have h3 : z0.toInt = if a = 2 then s.toInt else 0 := congrArg (fun v : Int × Int × Int => v.2.2) ez
    rw [h1, h2, h3]
  have s1 := hb_P2_sys hPl ha hk (by omega : 6 ≤ p) (by omega : p ≤ 8 + n)
  have s2 := hb_P2_sys hPl ha hk (by omega : 6 ≤ p + 1) (by omega : p + 1 ≤ 8 + n)
  rw [← hb_SN_add] at s2
  refine xb_apply (by omega) s1 s2 q2 hC (fun c' tX' tY' tZ' tW' tP' mX' mY' mZ' mW' mP' aI' hC' => ?_)
  rw [hb_SN_add] at hC'
  refine nm_r (nI_1 sd) (h c' (nI c') _ _ _ _ _ _ _ _ _ _ _ _ _ _ _ (fun i hi => ?_) hC')
  by_cases e : i = p
  · rw [e]; exact q2
  · rw [hb_qt_un e]; exact hA i (by omega)
theorem xb_sec80 {post : Int32 → SX → Prop} {J : Int32 → Int32 → Int32 → Int32 → Int32 → Int32 → Int64 → Int64 → (Nat → Int32) → (Nat → Int32) → (Nat → Int32) → (Nat → Int32) → (Nat → Int32) → (Nat → Int32) → (Nat → Int32) → (Nat → Int32) → (Nat → Int32) → (Nat → Int32) → (Nat → Int32) → (Nat → Int32) → (Nat → Int32) → (Nat → Int32) → (Nat → Int64) → (Nat → Int32) → (Nat → Int32) → (Nat → Int32) → (Nat → Int32) → (Nat → Int32) → (Nat → Int32) → Prop} {x2 : Int32} {s : Int32} {sd p c : Nat} (hPl : hb_Pl n P) (ha : a < 3) (hk : -8 ≤ k ∧ k ≤ 8) (e2 : x2 = zi_I k) (hp1 : 6 + n ≤ p) (hp2 : p < 8 + n) (hs : s.toInt = 1 ∨ s.toInt = -1) (hP : hb_P2 P n a k p = (if a = 0 then s.toInt else 0, if a = 1 then s.toInt else 0, if a = 2 then s.toInt else 0, s.toInt * k)) (hA : ∀ i, i < p → hb_qt aA aB aC aL i = hb_P2 P n a k i) (hC : xb_C (hb_P2 P n a k) (hb_SN p) c tX tY tZ tW tP) (h : ∀ (c : Nat) (fm : Int32) (aA aB aC aL tX tY tZ tW tP mX mY mZ mW mP : Nat → Int32) (aI : Nat → Int64), (∀ i, i < p + 1 → hb_qt aA aB aC aL i = hb_P2 P n a k i) → xb_C (hb_P2 P n a k) (hb_SN (p + 1)) c tX tY tZ tW tP → J (nI (sd + 1)) fn fb (nI c) fm fk fT fB aA aB aC aL tX tY tZ tW tP mX mY mZ mW mP aI kX kY kZ kW aH aD) : wX_section_80 post J (nI a) x2 (nI sd) (nI p) s fn fb (nI c) fm fk fT fB aA aB aC aL tX tY tZ tW tP mX mY mZ mW mP aI kX kY kZ kW aH aD := by
  have c0 : nI a = 0 ↔ a = 0 := nI_eq (b := 0) (by omega) (by omega)
  have c1 : nI a = 1 ↔ a = 1 := nI_eq (b := 1) (by omega) (by omega)
  have c2 : nI a = 2 ↔ a = 2 := nI_eq (b := 2) (by omega) (by omega)
  have z0 : (0 : Int32).toInt = 0 := rfl
  simp only [wX_section_80, wX_section_95, wX_section_106, c0, c1, c2]
  have : a = 0 ∨ a = 1 ∨ a = 2 := by omega
  rcases this with e | e | e <;> subst e
  · exact br_t rfl (br_f (by omega) (br_f (by omega) (xb_sec117 hPl ha hk e2 hp1 hp2 hs hP hA hC h (by simp only [z0]; rfl))))
  · exact br_f (by omega) (br_t rfl (br_f (by omega) (xb_sec117 hPl ha hk e2 hp1 hp2 hs hP hA hC h (by simp only [z0]; rfl))))
  · exact br_f (by omega) (br_f (by omega) (br_t rfl (xb_sec117 hPl ha hk e2 hp1 hp2 hs hP hA hC h (by simp only [z0]; rfl))))
theorem xb_sec55 {post : Int32 → SX → Prop} {x2 : Int32} {c : Nat} (hPl : hb_Pl n P) (ha : a < 3) (hk : -8 ≤ k ∧ k ≤ 8) (e2 : x2 = zi_I k) (hA : ∀ i, i < 6 + n → hb_qt aA aB aC aL i = P i) (hC : xb_C (hb_P2 P n a k) (hb_SN (6 + n)) c tX tY tZ tW tP) (h : ∀ (c : Nat) (fm : Int32) (aA aB aC aL tX tY tZ tW tP mX mY mZ mW mP : Nat → Int32) (aI : Nat → Int64), (∀ i, i < 6 + n → hb_qt aA aB aC aL i = P i) → xb_C (hb_P2 P n a k) (hb_SN (8 + n)) c tX tY tZ tW tP → post (nI c) (nI n, 0, nI c, fm, fk, fT, fB, aA, aB, aC, aL, tX, tY, tZ, tW, tP, mX, mY, mZ, mW, mP, aI, kX, kY, kZ, kW, aH, aD)) : wX_section_55 post (nI a) x2 3 0 (nI n) fb (nI c) fm fk fT fB aA aB aC aL tX tY tZ tW tP mX mY mZ mW mP aI kX kY kZ kW aH aD := by
  have n8 := hPl.1
  have e6 : ((6 : Int32) + nI n) + nI 0 = nI (6 + n) := by rw [show (6 : Int32) + nI n = nI (6 + n) from nI_add 6 n, nI_add, Nat.add_zero]
  have e7 : ((6 : Int32) + nI n) + nI 1 = nI (7 + n) := by rw [show (6 : Int32) + nI n = nI (6 + n) from nI_add 6 n, nI_add]; congr 1; omega
  have t1 : (1 : Int32).toInt = 1 := rfl
  have tm : (-1 : Int32).toInt = -1 := rfl
  rw [wX_section_55]
  refine br_f (by decide) (nm_r e6 (br_t rfl ?_))
  refine xb_sec80 (sd := 0) hPl ha hk e2 (Nat.le_refl _) (by omega) (Or.inl rfl) (by rw [hb_P2_6, t1, Int.one_mul]) (fun i hi => by rw [hA i hi, hb_P2_lo hi]) hC (fun c' fm' aA' aB' aC' aL' tX' tY' tZ' tW' tP' mX' mY' mZ' mW' mP' aI' hA' hC' => ?_)
  have ep : 6 + n + 1 = 7 + n := by omega
  rw [ep] at hA' hC'
  rw [wX_section_55]
  refine br_f (by decide) (nm_r e7 (br_f (by decide) ?_))
  refine xb_sec80 (sd := 1) hPl ha hk e2 (by omega) (by omega) (Or.inr rfl) (by rw [hb_P2_7, tm, Int.neg_one_mul]) hA' hC' (fun c2 fm2 aA2 aB2 aC2 aL2 tX2 tY2 tZ2 tW2 tP2 mX2 mY2 mZ2 mW2 mP2 aI2 hA2 hC2 => ?_)
  have ep2 : 7 + n + 1 = 8 + n := by omega
  rw [ep2] at hA2 hC2
  rw [wX_section_55]
  exact br_t (by decide) (h c2 fm2 _ _ _ _ _ _ _ _ _ _ _ _ _ _ _ (fun i hi => by rw [hA2 i (by omega), hb_P2_lo hi]) hC2)
theorem xb_sec31 {post : Int32 → SX → Prop} {x2 : Int32} (hPl : hb_Pl n P) (ha : a < 3) (hk : -8 ≤ k ∧ k ≤ 8) (e2 : x2 = zi_I k) (hA : ∀ i, i < 6 + n → hb_qt aA aB aC aL i = P i) (h : ∀ (c : Nat) (fm : Int32) (aA aB aC aL tX tY tZ tW tP mX mY mZ mW mP : Nat → Int32) (aI : Nat → Int64), (∀ i, i < 6 + n → hb_qt aA aB aC aL i = P i) → xb_C (hb_P2 P n a k) (hb_SN (8 + n)) c tX tY tZ tW tP → post (nI c) (nI n, 0, nI c, fm, fk, fT, fB, aA, aB, aC, aL, tX, tY, tZ, tW, tP, mX, mY, mZ, mW, mP, aI, kX, kY, kZ, kW, aH, aD)) : ∀ (d p c : Nat) (fm : Int32) (tX tY tZ tW tP mX mY mZ mW mP : Nat → Int32) (aI : Nat → Int64), p + d = 6 + n → 6 ≤ p → xb_C (hb_P2 P n a k) (hb_SN p) c tX tY tZ tW tP → wX_section_31 post (nI a) x2 (d + 1) (nI p) (nI n) fb (nI c) fm fk fT fB aA aB aC aL tX tY tZ tW tP mX mY mZ mW mP aI kX kY kZ kW aH aD := by
  have n8 := hPl.1
  have e6 : (6 : Int32) + nI n = nI (6 + n) := nI_add 6 n
  intro d
  induction d with
  | zero =>
    intro p c fm tX tY tZ tW tP mX mY mZ mW mP aI hp h6 hC
    have e : p = 6 + n := by omega
    subst e
    rw [wX_section_31]
    refine br_t (show (6 : Int32) + nI n ≤ nI (6 + n) by rw [e6]; exact nI_le (Nat.le_refl _) (by omega)) ⟨3, ?_⟩
    exact xb_sec55 hPl ha hk e2 hA hC h
  | succ d ih =>
    intro p c fm tX tY tZ tW tP mX mY mZ mW mP aI hp h6 hC
    rw [wX_section_31]
    refine br_f (show ¬ (6 : Int32) + nI n ≤ nI p by rw [e6]; exact nI_ge (by omega) (by omega)) ?_
    have s1 := hb_P2_sys hPl ha hk h6 (by omega : p ≤ 8 + n)
    have s2 := hb_P2_sys hPl ha hk (by omega : 6 ≤ p + 1) (by omega : p + 1 ≤ 8 + n)
    rw [← hb_SN_add] at s2
    refine xb_apply (by omega) s1 s2 (by rw [hA p (by omega), hb_P2_lo (by omega)]) hC (fun c' tX' tY' tZ' tW' tP' mX' mY' mZ' mW' mP' aI' hC' => ?_)
    rw [hb_SN_add] at hC'
    exact nm_r (nI_1 p) (ih (p + 1) c' (nI c') _ _ _ _ _ _ _ _ _ _ _ (by omega) (by omega) hC')
end
theorem i_vc_section {k : Nat} {u : SX} {v : SY} (I : i_Rel k u v) (hk : k + 3 ≤ 1536) (v1 : Int32) (v2 : Int32) : wpX_section (fun r u' => wpY_section (fun r' v' => r' = r ∧ i_Rel (k + 3) u' v') v v1 v2) u v1 v2 := by
  refine rl_el (Q := fun u v => wpX_section (fun r u' => wpY_section (fun r' v' => r' = r ∧ i_Rel (k + 3) u' v') v v1 v2) u v1 v2) ?_ I
  intro n P fn fb fc fm fk fT fB aA aB aC aL tX tY tZ tW tP mX mY mZ mW mP aI kX kY kZ kW aH aD gn gp gc qN qD pA pB pC pD yX yY yZ yW yP yF hX hY
  have t0 : (0 : Int32).toInt = 0 := rfl
  have t2 : (2 : Int32).toInt = 2 := rfl
  have t8 : (8 : Int32).toInt = 8 := rfl
  have tm8 : (-8 : Int32).toInt = -8 := rfl
  have n8 := hX.1.1
  have e1 := hX.2.1
  subst e1
  have hPl := hX.1
  have bad : ¬ ((0 ≤ v1.toInt ∧ v1.toInt ≤ 2) ∧ (-8 ≤ v2.toInt ∧ v2.toInt ≤ 8)) → wpY_section (fun r' v' => r' = (-1000000) ∧ i_Rel (k + 3) (nI n, fb, fc, fm, fk, fT, fB, aA, aB, aC, aL, tX, tY, tZ, tW, tP, mX, mY, mZ, mW, mP, aI, kX, kY, kZ, kW, aH, aD) v') (gn, gp, gc, qN, qD, pA, pB, pC, pD, yX, yY, yZ, yW, yP, yF) v1 v2 := fun hb => by
    unfold wpY_section
    refine yb_in (fun a b => br_f (by decide) ?_) (fun _ => br_t rfl ⟨rfl, rl_mk hX hY⟩)
    refine yb_in (fun c d => ?_) (fun _ => br_t rfl ⟨rfl, rl_mk hX hY⟩)
    rw [t0] at a
    rw [t2] at b
    rw [tm8] at c
    rw [t8] at d
    exact absurd ⟨⟨a, b⟩, c, d⟩ hb
  unfold wpX_section
  refine ek_if Int32.lt_iff_toInt_lt (fun h => bad (by omega)) (fun h1 => ?_)
  refine ek_if Int32.lt_iff_toInt_lt (fun h => bad (by omega)) (fun h2 => ?_)
  refine ek_if Int32.lt_iff_toInt_lt (fun h => bad (by omega)) (fun h3 => ?_)
  refine ek_if Int32.le_iff_toInt_le (fun h4 => ?_) (fun h => bad (by omega))
  rw [t0] at h1
  rw [t2] at h2
  rw [tm8] at h3
  rw [t8] at h4
  obtain ⟨a, ea⟩ : ∃ a : Nat, v1.toInt = a := ⟨v1.toInt.toNat, by omega⟩
  have ev : v1 = nI a := by rw [zi_nI, ← ea]; exact zi_of v1
  subst ev
  have ha : a < 3 := by omega
  have hkk : -8 ≤ v2.toInt ∧ v2.toInt ≤ 8 := ⟨by omega, by omega⟩
  refine xb_startCube (hb_P2_cube (n := n) (a := a) (k := v2.toInt) hPl.2.1) (fun tX tY tZ tW tP hC => ⟨n + 1, ?_⟩)
  refine xb_sec31 hPl ha hkk (zi_of v2) hX.2.2.1 (fun c fm aA aB aC aL tX tY tZ tW tP mX mY mZ mW mP aI hA' hC' => ?_) n 6 8 fm tX tY tZ tW tP mX mY mZ mW mP aI (by omega) (by omega) hC
  unfold wpY_section
  refine yb_in (fun _ _ => br_f (by decide) ?_) (fun hc => absurd hc (by rw [t0, t2]; omega))
  refine yb_in (fun _ _ => br_f (by decide) ?_) (fun hc => absurd hc (by rw [tm8, t8]; omega))
  refine yb_setAll hPl hY (fun pA pB pC pD hj => ?_)
  refine yb_addAxis (by omega) ha (fun pA1 pB1 pC1 pD1 a1 a2 => ?_)
  refine yb_addAxis (by omega) ha (fun pA2 pB2 pC2 pD2 b1 b2 => ?_)
  have ep : 6 + n + 1 + 1 = 8 + n := by omega
  have ep1 : 6 + n + 1 = 7 + n := by omega
  rw [ep]
  rw [ep1] at b1 b2
  have tneg : (-v2).toInt = - v2.toInt := by
    rw [Int32.toInt_neg]
    exact Int.bmod_eq_of_le (by omega) (by omega)
  have hj2 : ∀ i, i < 8 + n → hb_qt pA2 pB2 pC2 pD2 i = hb_P2 P n a v2.toInt i := fun i hi => by
    by_cases e7 : i = 7 + n
    · rw [e7, b2, hb_P2_7, tneg]; rfl
    · rw [b1 i e7]
      by_cases e6 : i = 6 + n
      · rw [e6, a2, hb_P2_6]; rfl
      · rw [a1 i e6, hb_P2_lo (by omega)]; exact hj i (by omega)
  refine yb_findCorners (hb_P2_sys hPl ha hkk (by omega) (Nat.le_refl _)) (by omega) hj2 (fun c3 yX yY yZ yW yP hC3 hs3 => ?_)
  have ec : c3 = c := Nat.le_antisymm (hb_md_count hC3.1 hC'.1) (hb_md_count hC'.1 hC3.1)
  subst ec
  exact ⟨rfl, rl_mk ⟨hPl, rfl, hA', fun h => absurd rfl h⟩ ⟨rfl, hY.2⟩⟩
end
section
/-! answers: hops -/
section
variable {nb : Nat → Nat → Prop} {c k : Nat}
/-- X's distances before round r; at round r, all m below i done -/
def hp_D (nb : Nat → Nat → Prop) (c k r : Nat) (aD : Nat → Int32) : Prop := ∀ o, o < c → (∃ d, d ≤ r ∧ hb_dst nb c k d o ∧ aD o = nI d) ∨ (¬ hb_rch nb c k r o ∧ aD o = -1)
def hp_A (nb : Nat → Nat → Prop) (c k r i o : Nat) : Prop := ∃ m, m < i ∧ hb_dst nb c k r m ∧ nb m o
def hp_M (nb : Nat → Nat → Prop) (c k r i : Nat) (aD : Nat → Int32) : Prop := ∀ o, o < c → (∃ d, d ≤ r ∧ hb_dst nb c k d o ∧ aD o = nI d) ∨ (¬ hb_rch nb c k r o ∧ ((hp_A nb c k r i o ∧ aD o = nI (r + 1)) ∨ (¬ hp_A nb c k r i o ∧ aD o = -1)))
theorem hp_M0 {r : Nat} {aD : Nat → Int32} (h : hp_D nb c k r aD) : hp_M nb c k r 0 aD := fun o ho => by
  rcases h o ho with h | ⟨h1, h2⟩
  · exact Or.inl h
  · exact Or.inr ⟨h1, Or.inr ⟨fun ⟨m, hm, _⟩ => absurd hm (Nat.not_lt_zero m), h2⟩⟩
theorem hp_Mc {r : Nat} {aD : Nat → Int32} (h : hp_M nb c k r c aD) : hp_D nb c k (r + 1) aD := fun o ho => by
  rcases h o ho with ⟨d, h1, h2, h3⟩ | ⟨h1, ⟨⟨m, hm, hd, hn⟩, h2⟩ | ⟨h2, h3⟩⟩
  · exact Or.inl ⟨d, by omega, h2, h3⟩
  · refine Or.inl ⟨r + 1, Nat.le_refl _, ⟨Or.inr ⟨m, hm, hd.1, hn⟩, fun s hs hr => h1 (hb_rch_mono (by omega) hr)⟩, h2⟩
  · refine Or.inr ⟨fun hr => ?_, h3⟩
    rcases hr with hr | ⟨m, hm, hr, hn⟩
    · exact h1 hr
    · exact h2 ⟨m, hm, ⟨hr, fun s hs hr' => h1 (hb_rch_mono (by omega : s + 1 ≤ r) (Or.inr ⟨m, hm, hr', hn⟩))⟩, hn⟩
theorem hp_M_skip {r i : Nat} {aD : Nat → Int32} (h : hp_M nb c k r i aD) (hi : ¬ hb_dst nb c k r i) : hp_M nb c k r (i + 1) aD := fun o ho => by
  have e : hp_A nb c k r (i + 1) o ↔ hp_A nb c k r i o := by
    constructor
    · intro ⟨m, hm, hd, hn⟩
      have : m ≠ i := fun e => hi (e ▸ hd)
      exact ⟨m, by omega, hd, hn⟩
    · intro ⟨m, hm, hd, hn⟩
      exact ⟨m, by omega, hd, hn⟩
  rw [e]
  exact h o ho
/-- what 'reach' writes -/
def hp_R (nb : Nat → Nat → Prop) (i s o : Nat) (aD aD' : Nat → Int32) : Prop := ((aD o < 0 ∧ nb i o) → aD' o = nI s) ∧ (¬ (aD o < 0 ∧ nb i o) → aD' o = aD o)
theorem hp_M_reach {r i : Nat} {aD aD' : Nat → Int32} (hr : r < 100) (h : hp_M nb c k r i aD) (hi : hb_dst nb c k r i) (hR : ∀ o, o < c → hp_R nb i (r + 1) o aD aD') : hp_M nb c k r (i + 1) aD' := fun o ho => by
  obtain ⟨r1, r0⟩ := hR o ho
  rcases h o ho with ⟨d, h1, h2, h3⟩ | ⟨h1, ⟨⟨m, hm, hd, hn⟩, h2⟩ | ⟨h2, h3⟩⟩
  · have : ¬ (aD o < 0 ∧ nb i o) := fun h => by
      rw [h3] at h
      exact nI_pos (by omega) h.1
    exact Or.inl ⟨d, h1, h2, by rw [r0 this]; exact h3⟩
  · have : ¬ (aD o < 0 ∧ nb i o) := fun h => by
      rw [h2] at h
      exact nI_pos (by omega) h.1
    exact Or.inr ⟨h1, Or.inl ⟨⟨m, by omega, hd, hn⟩, by rw [r0 this]; exact h2⟩⟩
  · by_cases hn : nb i o
    · exact Or.inr ⟨h1, Or.inl ⟨⟨i, by omega, hi, hn⟩, r1 ⟨by rw [h3]; decide, hn⟩⟩⟩
    · refine Or.inr ⟨h1, Or.inr ⟨fun ⟨m, hm, hd, hn'⟩ => ?_, by rw [r0 (fun h => hn h.2)]; exact h3⟩⟩
      by_cases e : m = i
      · rw [e] at hn'; exact hn hn'
      · exact h2 ⟨m, by omega, hd, hn'⟩
theorem hb_dst_uq {r s m : Nat} (h1 : hb_dst nb c k r m) (h2 : hb_dst nb c k s m) : r = s := by
  rcases Nat.lt_trichotomy r s with h | h | h
  · exact absurd h1.1 (h2.2 r h)
  · exact h
  · exact absurd h2.1 (h1.2 s h)
theorem hp_M_test {r i : Nat} {aD : Nat → Int32} (hr : r < 100) (h : hp_M nb c k r i aD) {m : Nat} (hm : m < c) : aD m = nI r ↔ hb_dst nb c k r m := by
  rcases h m hm with ⟨d, h1, h2, h3⟩ | ⟨h1, ⟨h2, h3⟩ | ⟨h2, h3⟩⟩
  · rw [h3, nI_eq (by omega) (by omega)]
    exact ⟨fun e => e ▸ h2, fun e => hb_dst_uq h2 e⟩
  · rw [h3, nI_eq (by omega) (by omega)]
    exact ⟨fun e => by omega, fun e => absurd e.1 h1⟩
  · rw [h3]
    refine ⟨fun e => ?_, fun e => absurd e.1 h1⟩
    have := nI_pos (n := r) (by omega)
    rw [← e] at this
    exact absurd (by decide) this
/-! Y's -/
/-- f: far, r rounds done -/
def hp_Y (nb : Nat → Nat → Prop) (c k r : Nat) (f : Nat → Nat) : Prop := ∀ j, j < c → f j ≤ 100 ∧ (f j = 100 ∨ hb_rch nb c k (f j) j) ∧ ∀ s, s ≤ r → hb_rch nb c k s j → f j ≤ s
/-- within a round that began with g, at i, j -/
def hp_S (nb : Nat → Nat → Prop) (c k i j : Nat) (g f : Nat → Nat) : Prop := (∀ o, o < c → f o ≤ g o ∧ f o ≤ 100 ∧ (f o = 100 ∨ hb_rch nb c k (f o) o)) ∧ (∀ a b, a < c → b < c → (a < i ∨ (a = i ∧ b < j)) → nb a b → f b ≤ g a + 1)
theorem hp_S0 {r : Nat} {f : Nat → Nat} (h : hp_Y nb c k r f) : hp_S nb c k 0 0 f f := ⟨fun o ho => ⟨Nat.le_refl _, (h o ho).1, (h o ho).2.1⟩, fun a b _ _ ho => by omega⟩
theorem hp_S_row {i : Nat} {g f : Nat → Nat} (h : hp_S nb c k i c g f) : hp_S nb c k (i + 1) 0 g f := ⟨h.1, fun a b ha hb ho => h.2 a b ha hb (by omega)⟩
theorem hp_S_end {r : Nat} {g f : Nat → Nat} (hg : hp_Y nb c k r g) (h : hp_S nb c k c 0 g f) : hp_Y nb c k (r + 1) f := fun j hj => by
  obtain ⟨h1, h2, h3⟩ := h.1 j hj
  refine ⟨h2, h3, fun s hs hr => ?_⟩
  rcases Nat.lt_or_eq_of_le hs with hl | he
  · have := (hg j hj).2.2 s (by omega) hr
    omega
  · subst he
    rcases hr with hr | ⟨m, hm, hr, hn⟩
    · have := (hg j hj).2.2 r (Nat.le_refl r) hr
      omega
    · have a := (hg m hm).2.2 r (Nat.le_refl r) hr
      have b := h.2 m j hm hj (Or.inl hm) hn
      omega
theorem hp_S_keep {i j : Nat} {g f : Nat → Nat} (hi : i < c) (h : hp_S nb c k i j g f) (hk : nb i j → f j ≤ f i + 1) : hp_S nb c k i (j + 1) g f := ⟨h.1, fun a b ha hb ho hn => by
  by_cases e : a = i ∧ b = j
  · obtain ⟨e1, e2⟩ := e
    subst e1; subst e2
    have := hk hn
    have := (h.1 a hi).1
    omega
  · exact h.2 a b ha hb (by omega) hn⟩
theorem hp_S_upd {i j : Nat} {g f f' : Nat → Nat} (hi : i < c) (h : hp_S nb c k i j g f) (hlt : f i + 1 < f j) (hn : nb i j) (hj : f' j = f i + 1) (ho : ∀ o, o ≠ j → f' o = f o) : hp_S nb c k i (j + 1) g f' := by
  have hfi := h.1 i hi
  refine ⟨fun o hoc => ?_, fun a b ha hb hab hn' => ?_⟩
  · by_cases e : o = j
    · subst e
      have := h.1 o hoc
      refine ⟨by omega, by omega, Or.inr ?_⟩
      rw [hj]
      rcases hfi.2.2 with h1 | h1
      · omega
      · exact Or.inr ⟨i, hi, h1, hn⟩
    · rw [ho o e]; exact h.1 o hoc
  · by_cases e : b = j
    · subst e
      rw [hj]
      by_cases e2 : a = i
      · subst e2; omega
      · have := h.2 a b ha hb (by omega) hn'
        omega
    · rw [ho b e]
      exact h.2 a b ha hb (by omega) hn'
theorem hp_Y0 {f : Nat → Nat} (hf : ∀ j, j < c → f j = if j = k then 0 else 100) : hp_Y nb c k 0 f := fun j hj => by
  rw [hf j hj]
  by_cases e : j = k
  · rw [if_pos e]
    exact ⟨by omega, Or.inr e, fun s _ _ => by omega⟩
  · rw [if_neg e]
    refine ⟨by omega, Or.inl rfl, fun s hs hr => ?_⟩
    have : s = 0 := by omega
    subst this
    exact absurd hr e
theorem hp_Y_end {f : Nat → Nat} {l r0 : Nat} (h : hp_Y nb c k c f) (hl : l < c) (hc : c ≤ 32) (hd : hb_dst nb c k r0 l) (hr : r0 < c) : f l = r0 := by
  obtain ⟨h1, h2, h3⟩ := h l hl
  have a := h3 r0 (by omega) hd.1
  rcases h2 with h2 | h2
  · omega
  · rcases Nat.lt_or_ge (f l) r0 with hlt | hge
    · exact absurd h2 (hd.2 _ hlt)
    · omega
end
section
variable {fn fb fc fm fk : Int32} {fT fB : Int64} {aA aB aC aL tX tY tZ tW tP mX mY mZ mW mP kX kY kZ kW aH aD : Nat → Int32} {aI : Nat → Int64}
variable {P : Nat → hb_Q} {S : Nat → Prop} {c k : Nat} {v : Nat → hb_Q}
theorem xb_reach2 {post : SX → Prop} (hS : hb_Sys P S) (hL : yb_L P S c v tX tY tZ tW tP) {i s : Nat} (hi : i < c) (hs : s < 100) (aD : Nat → Int32) (h : ∀ aD' : Nat → Int32, (∀ o, o < c → hp_R (hb_E P S v) i s o aD aD') → post (fn, fb, nI c, fm, fk, fT, fB, aA, aB, aC, aL, tX, tY, tZ, tW, tP, mX, mY, mZ, mW, mP, aI, kX, kY, kZ, kW, aH, aD')) : ∀ (d o : Nat) (aD' : Nat → Int32), o + d = c → (∀ q, q < o → hp_R (hb_E P S v) i s q aD aD') → (∀ q, o ≤ q → aD' q = aD q) → wX_reach_2 post (nI i) (nI s) fn fb (nI c) fm fk fT fB (d + 1) (nI o) aA aB aC aL tX tY tZ tW tP mX mY mZ mW mP aI kX kY kZ kW aH aD' := by
  have c32 := yb_L_32 hS hL
  intro d
  induction d with
  | zero =>
    intro o aD' ho h1 h2
    have e : o = c := by omega
    subst e
    rw [wX_reach_2]
    exact br_t (nI_le (Nat.le_refl _) (by omega)) (h aD' h1)
  | succ d ih =>
    intro o aD' ho h1 h2
    have eo := h2 o (Nat.le_refl o)
    have keep : ¬ (aD o < 0 ∧ hb_E P S v i o) → wX_reach_2 post (nI i) (nI s) fn fb (nI c) fm fk fT fB (d + 1) (nI (o + 1)) aA aB aC aL tX tY tZ tW tP mX mY mZ mW mP aI kX kY kZ kW aH aD' := fun hn => ih (o + 1) aD' (by omega) (fun q hq => by
      by_cases e : q = o
      · subst e; exact ⟨fun h => absurd h hn, fun _ => eo⟩
      · exact h1 q (by omega)) (fun q hq => h2 q (by omega))
    rw [wX_reach_2]
    refine br_f (nI_ge (by omega) (by omega)) ⟨vp_in_nI (by omega) (by omega), ?_⟩
    rw [nI_clamp (by omega), eo]
    refine br_c (fun h0 => nm_r (nI_1 o) (keep (fun hh => Int32.not_lt.mpr h0 hh.1))) (fun h0 => ?_)
    have h0' : aD o < 0 := Int32.not_le.mp h0
    refine xb_areL hS hL hi (by omega) (fun hE => br_f (by decide) ⟨vp_in_nI (by omega) (by omega), nm_r (e' := upd aD' o (nI s)) ?_ (nm_r (nI_1 o) (ih (o + 1) _ (by omega) (fun q hq => ?_) (fun q hq => ?_)))⟩) (fun hE => br_t rfl (nm_r (nI_1 o) (keep (fun hh => hE hh.2))))
    · rw [zi_byte (by rw [nI_toInt (by omega)]; omega) (by rw [nI_toInt (by omega)]; omega)]
    · by_cases e : q = o
      · subst e; exact ⟨fun _ => pk_us, fun hn => absurd ⟨h0', hE⟩ hn⟩
      · obtain ⟨a, b⟩ := h1 q (by omega)
        exact ⟨fun hh => by rw [pk_un e]; exact a hh, fun hh => by rw [pk_un e]; exact b hh⟩
    · rw [pk_un (by omega)]; exact h2 q (by omega)
theorem xb_hops83 {post : Int32 → SX → Prop} {J : Int32 → Int32 → Int32 → Int32 → Int32 → Int32 → Int64 → Int64 → (Nat → Int32) → (Nat → Int32) → (Nat → Int32) → (Nat → Int32) → (Nat → Int32) → (Nat → Int32) → (Nat → Int32) → (Nat → Int32) → (Nat → Int32) → (Nat → Int32) → (Nat → Int32) → (Nat → Int32) → (Nat → Int32) → (Nat → Int32) → (Nat → Int64) → (Nat → Int32) → (Nat → Int32) → (Nat → Int32) → (Nat → Int32) → (Nat → Int32) → (Nat → Int32) → Prop} {x2 : Int32} (hS : hb_Sys P S) (hL : yb_L P S c v tX tY tZ tW tP) {r : Nat} (hr : r < 64) (hJ : ∀ aD : Nat → Int32, hp_D (hb_E P S v) c k (r + 1) aD → J (nI (r + 1)) fn fb (nI c) fm fk fT fB aA aB aC aL tX tY tZ tW tP mX mY mZ mW mP aI kX kY kZ kW aH aD) : ∀ (d m : Nat) (aD : Nat → Int32), m + d = c → hp_M (hb_E P S v) c k r m aD → wX_hops_83 post J x2 (nI r) (d + 1) (nI m) fn fb (nI c) fm fk fT fB aA aB aC aL tX tY tZ tW tP mX mY mZ mW mP aI kX kY kZ kW aH aD := by
  have c32 := yb_L_32 hS hL
  intro d
  induction d with
  | zero =>
    intro m aD hm hM
    have e : m = c := by omega
    subst e
    rw [wX_hops_83]
    exact br_t (nI_le (Nat.le_refl _) (by omega)) (nm_r (nI_1 r) (hJ aD (hp_Mc hM)))
  | succ d ih =>
    intro m aD hm hM
    rw [wX_hops_83]
    refine br_f (nI_ge (by omega) (by omega)) ⟨vp_in_nI (by omega) (by omega), ?_⟩
    rw [nI_clamp (by omega)]
    refine ek_if (hp_M_test (by omega) hM (by omega)) (fun ht => ?_) (fun ht => nm_r (nI_1 m) (ih (m + 1) aD (by omega) (hp_M_skip hM ht)))
    rw [nI_1 r]
    refine ⟨c + 1, xb_reach2 hS hL (by omega) (by omega) aD (fun aD' hR => nm_r (nI_1 m) (ih (m + 1) aD' (by omega) (hp_M_reach (by omega) hM ht hR))) c 0 aD (by omega) (fun q hq => absurd hq (Nat.not_lt_zero q)) (fun q _ => rfl)⟩
theorem xb_hops63 {post : Int32 → SX → Prop} (hS : hb_Sys P S) (hL : yb_L P S c v tX tY tZ tW tP) {l r0 : Nat} (hl : l < c) (hd : hb_dst (hb_E P S v) c k r0 l) (hr0 : r0 < c) (h : ∀ aD : Nat → Int32, post (nI r0) (fn, fb, nI c, fm, fk, fT, fB, aA, aB, aC, aL, tX, tY, tZ, tW, tP, mX, mY, mZ, mW, mP, aI, kX, kY, kZ, kW, aH, aD)) : ∀ (d r : Nat) (aD : Nat → Int32), r + d = r0 → hp_D (hb_E P S v) c k r aD → wX_hops_63 post (nI l) (d + 1) (nI r) fn fb (nI c) fm fk fT fB aA aB aC aL tX tY tZ tW tP mX mY mZ mW mP aI kX kY kZ kW aH aD := by
  have c32 := yb_L_32 hS hL
  have fin : ∀ (r : Nat) (aD : Nat → Int32), r ≤ r0 → hp_D (hb_E P S v) c k r aD → (0 ≤ aD l → aD l = nI r0) ∧ (¬ 0 ≤ aD l → r < r0) := fun r aD hr hD => by
    rcases hD l hl with ⟨d, h1, h2, h3⟩ | ⟨h1, h2⟩
    · have e := hb_dst_uq h2 hd
      subst e
      exact ⟨fun _ => h3, fun hn => absurd (by rw [h3]; exact nI_pos' (by omega)) hn⟩
    · refine ⟨fun hn => ?_, fun _ => ?_⟩
      · rw [h2] at hn
        exact absurd hn (by decide)
      · rcases Nat.lt_or_eq_of_le hr with hl' | he
        · exact hl'
        · subst he; exact absurd hd.1 h1
  intro d
  induction d with
  | zero =>
    intro r aD hr hD
    rw [wX_hops_63]
    obtain ⟨f1, f2⟩ := fin r aD (by omega) hD
    refine ⟨vp_in_nI (by omega) (by omega), ?_⟩
    rw [nI_clamp (by omega)]
    refine br_c (fun h0 => ⟨vp_in_nI (by omega) (by omega), ?_⟩) (fun h0 => ?_)
    · rw [f1 h0]; exact h aD
    · have := f2 h0; omega
  | succ d ih =>
    intro r aD hr hD
    rw [wX_hops_63]
    obtain ⟨f1, f2⟩ := fin r aD (by omega) hD
    refine ⟨vp_in_nI (by omega) (by omega), ?_⟩
    rw [nI_clamp (by omega)]
    refine br_c (fun h0 => ⟨vp_in_nI (by omega) (by omega), ?_⟩) (fun h0 => ?_)
    · rw [f1 h0]; exact h aD
    · refine br_f (nI_ge (by omega) (by omega)) ⟨c + 1, ?_⟩
      exact xb_hops83 hS hL (by omega) (fun aD' hD' => ih (r + 1) aD' (by omega) hD') c 0 aD (by omega) (hp_M0 hD)
theorem xb_hops33 {post : Int32 → SX → Prop} (hS : hb_Sys P S) (hL : yb_L P S c v tX tY tZ tW tP) {l r0 : Nat} (hk : k < c) (hl : l < c) (hd : hb_dst (hb_E P S v) c k r0 l) (hr0 : r0 < c) (h : ∀ aD : Nat → Int32, post (nI r0) (fn, fb, nI c, fm, fk, fT, fB, aA, aB, aC, aL, tX, tY, tZ, tW, tP, mX, mY, mZ, mW, mP, aI, kX, kY, kZ, kW, aH, aD)) : ∀ (d m : Nat) (aD : Nat → Int32), m + d = c → (∀ j, j < m → aD j = -1) → wX_hops_33 post (nI k) (nI l) fn fb (nI c) fm fk fT fB (d + 1) (nI m) aA aB aC aL tX tY tZ tW tP mX mY mZ mW mP aI kX kY kZ kW aH aD := by
  have c32 := yb_L_32 hS hL
  intro d
  induction d with
  | zero =>
    intro m aD hm hj
    have e : m = c := by omega
    subst e
    rw [wX_hops_33]
    refine br_t (nI_le (Nat.le_refl _) (by omega)) ⟨vp_in_nI (by omega) (by omega), nm_r (e' := upd aD k 0) ?_ ⟨r0 + 1, ?_⟩⟩
    · rw [nI_clamp (by omega), zi_byte1 (by decide) (by decide)]
    · refine xb_hops63 hS hL hl hd hr0 h r0 0 _ (by omega) (fun o ho => ?_)
      by_cases e : o = k
      · subst e
        exact Or.inl ⟨0, Nat.le_refl 0, ⟨rfl, fun s hs => absurd hs (Nat.not_lt_zero s)⟩, pk_us⟩
      · exact Or.inr ⟨e, by rw [pk_un e]; exact hj o ho⟩
  | succ d ih =>
    intro m aD hm hj
    rw [wX_hops_33]
    refine br_f (nI_ge (by omega) (by omega)) ⟨vp_in_nI (by omega) (by omega), nm_r (e' := upd aD m (-1)) ?_ (nm_r (nI_1 m) (ih (m + 1) _ (by omega) (fun j hj' => ?_)))⟩
    · rw [nI_clamp (by omega), zi_byte1 (by decide) (by decide)]
    · by_cases e : j = m
      · subst e; exact pk_us
      · rw [pk_un e]; exact hj j (by omega)
end
section
variable {gn gp gc : Int32} {qN qD pA pB pC pD yX yY yZ yW yP yF : Nat → Int32}
variable {P : Nat → hb_Q} {N c k : Nat} {v : Nat → hb_Q}
theorem yb_spread12 {post : SY → Prop} {J : Int32 → (Nat → Int32) → (Nat → Int32) → (Nat → Int32) → (Nat → Int32) → (Nat → Int32) → (Nat → Int32) → (Nat → Int32) → (Nat → Int32) → (Nat → Int32) → (Nat → Int32) → (Nat → Int32) → (Nat → Int32) → Prop} (hS : hb_Sys P (hb_SN N)) (hN : N ≤ 16) (hA : ∀ i, i < N → hb_qt pA pB pC pD i = P i) (hL : yb_L P (hb_SN N) c v yX yY yZ yW yP) {i : Nat} (hi : i < c) {g : Nat → Nat} (hJ : ∀ (yF : Nat → Int32) (f : Nat → Nat), (∀ j, j < c → yF j = nI (f j)) → hp_S (hb_E P (hb_SN N) v) c k (i + 1) 0 g f → J (nI (i + 1)) qN qD pA pB pC pD yX yY yZ yW yP yF) : ∀ (d j : Nat) (yF : Nat → Int32) (f : Nat → Nat), j + d = c → (∀ j, j < c → yF j = nI (f j)) → hp_S (hb_E P (hb_SN N) v) c k i j g f → wY_spread_12 post J (nI i) gn (nI N) (nI c) (d + 1) (nI j) qN qD pA pB pC pD yX yY yZ yW yP yF := by
  have c32 := yb_L_32 hS hL
  intro d
  induction d with
  | zero =>
    intro j yF f hj hf hs
    have e : j = c := by omega
    subst e
    rw [wY_spread_12]
    exact br_t (nI_le (Nat.le_refl _) (by omega)) (nm_r (nI_1 i) (hJ yF f hf (hp_S_row hs)))
  | succ d ih =>
    intro j yF f hj hf hs
    have fi := (hs.1 i hi).2.1
    have fj := (hs.1 j (by omega)).2.1
    rw [wY_spread_12]
    refine br_f (nI_ge (by omega) (by omega)) ⟨vp_in_nI (by omega) (by omega), vp_in_nI (by omega) (by omega), ?_⟩
    rw [nI_clamp (by omega), nI_clamp (by omega), hf i hi, hf j (by omega), nI_1]
    refine ek_if (nI_leI (by omega) (by omega)) (fun h0 => nm_r (nI_1 j) (ih (j + 1) yF f (by omega) hf (hp_S_keep hi hs (fun _ => h0)))) (fun h0 => ?_)
    refine yb_areL hS hN hA hL hi (by omega) (fun hE => br_f (by decide) ⟨vp_in_nI (by omega) (by omega), vp_in_nI (by omega) (by omega), nm_r (e' := upd yF j (nI (f i + 1))) ?_ (nm_r (nI_1 j) ?_)⟩) (fun hE => br_t rfl (nm_r (nI_1 j) (ih (j + 1) yF f (by omega) hf (hp_S_keep hi hs (fun hh => absurd hh hE)))))
    · rfl
    · refine ih (j + 1) _ (fun o => if o = j then f i + 1 else f o) (by omega) (fun o ho => ?_) (hp_S_upd hi hs (by omega) hE (if_pos rfl) (fun o ho => if_neg ho))
      by_cases e : o = j
      · subst e
        rw [pk_us, if_pos rfl]
      · rw [pk_un e, if_neg e]; exact hf o ho
theorem yb_spread2 {post : SY → Prop} (hS : hb_Sys P (hb_SN N)) (hN : N ≤ 16) (hA : ∀ i, i < N → hb_qt pA pB pC pD i = P i) (hL : yb_L P (hb_SN N) c v yX yY yZ yW yP) {g : Nat → Nat} (h : ∀ (yF : Nat → Int32) (f : Nat → Nat), (∀ j, j < c → yF j = nI (f j)) → hp_S (hb_E P (hb_SN N) v) c k c 0 g f → post (gn, nI N, nI c, qN, qD, pA, pB, pC, pD, yX, yY, yZ, yW, yP, yF)) : ∀ (d i : Nat) (yF : Nat → Int32) (f : Nat → Nat), i + d = c → (∀ j, j < c → yF j = nI (f j)) → hp_S (hb_E P (hb_SN N) v) c k i 0 g f → wY_spread_2 post gn (nI N) (nI c) (d + 1) (nI i) qN qD pA pB pC pD yX yY yZ yW yP yF := by
  have c32 := yb_L_32 hS hL
  intro d
  induction d with
  | zero =>
    intro i yF f hi hf hs
    have e : i = c := by omega
    subst e
    rw [wY_spread_2]
    exact br_t (nI_le (Nat.le_refl _) (by omega)) (h yF f hf hs)
  | succ d ih =>
    intro i yF f hi hf hs
    rw [wY_spread_2]
    refine br_f (nI_ge (by omega) (by omega)) ⟨c + 1, ?_⟩
    exact yb_spread12 hS hN hA hL (by omega) (fun yF' f' hf' hs' => ih (i + 1) yF' f' (by omega) hf' hs') c 0 yF f (by omega) hf hs
theorem yb_hops72 {post : Int32 → SY → Prop} (hS : hb_Sys P (hb_SN N)) (hN : N ≤ 16) (hA : ∀ i, i < N → hb_qt pA pB pC pD i = P i) (hL : yb_L P (hb_SN N) c v yX yY yZ yW yP) {l r0 : Nat} (hl : l < c) (hd : hb_dst (hb_E P (hb_SN N) v) c k r0 l) (hr0 : r0 < c) (h : ∀ yF : Nat → Int32, post (nI r0) (gn, nI N, nI c, qN, qD, pA, pB, pC, pD, yX, yY, yZ, yW, yP, yF)) : ∀ (d r : Nat) (yF : Nat → Int32) (f : Nat → Nat), r + d = c → (∀ j, j < c → yF j = nI (f j)) → hp_Y (hb_E P (hb_SN N) v) c k r f → wY_hops_72 post (nI l) (d + 1) (nI r) gn (nI N) (nI c) qN qD pA pB pC pD yX yY yZ yW yP yF := by
  have c32 := yb_L_32 hS hL
  intro d
  induction d with
  | zero =>
    intro r yF f hr hf hY
    have e : r = c := by omega
    subst e
    rw [wY_hops_72]
    refine br_t (nI_le (Nat.le_refl _) (by omega)) ⟨vp_in_nI (by omega) (by omega), ?_⟩
    rw [nI_clamp (by omega), hf l hl, hp_Y_end hY hl c32 hd hr0]
    exact h yF
  | succ d ih =>
    intro r yF f hr hf hY
    rw [wY_hops_72]
    refine br_f (nI_ge (by omega) (by omega)) ⟨c + 1, ?_⟩
    exact yb_spread2 hS hN hA hL (fun yF' f' hf' hs' => nm_r (nI_1 r) (ih (r + 1) yF' f' (by omega) hf' (hp_S_end hY hs'))) c 0 yF f (by omega) hf (hp_S0 hY)
theorem yb_hops39 {post : Int32 → SY → Prop} (hS : hb_Sys P (hb_SN N)) (hN : N ≤ 16) (hA : ∀ i, i < N → hb_qt pA pB pC pD i = P i) (hL : yb_L P (hb_SN N) c v yX yY yZ yW yP) {l r0 : Nat} (hk : k < c) (hl : l < c) (hd : hb_dst (hb_E P (hb_SN N) v) c k r0 l) (hr0 : r0 < c) (h : ∀ yF : Nat → Int32, post (nI r0) (gn, nI N, nI c, qN, qD, pA, pB, pC, pD, yX, yY, yZ, yW, yP, yF)) : ∀ (d m : Nat) (yF : Nat → Int32), m + d = c → (∀ j, j < m → yF j = nI (if j = k then 0 else 100)) → wY_hops_39 post (nI k) (nI l) gn (nI N) (nI c) (d + 1) (nI m) qN qD pA pB pC pD yX yY yZ yW yP yF := by
  have c32 := yb_L_32 hS hL
  intro d
  induction d with
  | zero =>
    intro m yF hm hj
    have e : m = c := by omega
    subst e
    rw [wY_hops_39]
    refine br_t (nI_le (Nat.le_refl _) (by omega)) ⟨m + 1, ?_⟩
    exact yb_hops72 hS hN hA hL hl hd hr0 h m 0 yF (fun j => if j = k then 0 else 100) (by omega) hj (hp_Y0 (fun j _ => rfl))
  | succ d ih =>
    intro m yF hm hj
    rw [wY_hops_39]
    refine br_f (nI_ge (by omega) (by omega)) (ek_if (nI_eq (by omega) (by omega)) (fun e => ⟨vp_in_nI (by omega) (by omega), nm_r (e' := upd yF m 0) (by rw [nI_clamp (by omega)]) (nm_r (nI_1 m) (ih (m + 1) _ (by omega) (fun j hj' => ?_)))⟩) (fun e => ⟨vp_in_nI (by omega) (by omega), nm_r (e' := upd yF m 100) (by rw [nI_clamp (by omega)]) (nm_r (nI_1 m) (ih (m + 1) _ (by omega) (fun j hj' => ?_)))⟩))
    · by_cases ej : j = m
      · rw [ej, pk_us, if_pos e]; rfl
      · rw [pk_un ej]; exact hj j (by omega)
    · by_cases ej : j = m
      · rw [ej, pk_us, if_neg e]; rfl
      · rw [pk_un ej]; exact hj j (by omega)
end
theorem i_vc_hops {k : Nat} {u : SX} {v : SY} (I : i_Rel k u v) (hk : k + 3 ≤ 1536) (v1 : Int32) (v2 : Int32) : wpX_hops (fun r u' => wpY_hops (fun r' v' => r' = r ∧ i_Rel (k + 3) u' v') v v1 v2) u v1 v2 := by
  refine rl_el (Q := fun u v => wpX_hops (fun r u' => wpY_hops (fun r' v' => r' = r ∧ i_Rel (k + 3) u' v') v v1 v2) u v1 v2) ?_ I
  intro n P fn fb fc fm fk fT fB aA aB aC aL tX tY tZ tW tP mX mY mZ mW mP aI kX kY kZ kW aH aD gn gp gc qN qD pA pB pC pD yX yY yZ yW yP yF hX hY
  have t0 : (0 : Int32).toInt = 0 := rfl
  have n8 := hX.1.1
  unfold wpX_hops
  refine xb_build hX (fun c fb fm tX tY tZ tW tP mX mY mZ mW mP aI hb hB hR => ?_)
  have c32 := hb_md_le (hb_S_sys hX.1) hB.1.1 (fun _ h => h)
  have tc : (nI c).toInt = c := nI_toInt (by omega)
  have tc1 := zi_pred (c := c) (by omega)
  have none : ¬ ((0 ≤ v1.toInt ∧ v1.toInt < c) ∧ (0 ≤ v2.toInt ∧ v2.toInt < c)) → wpY_hops (fun r' v' => r' = (-1000002) ∧ i_Rel (k + 3) (nI n, fb, nI c, fm, fk, fT, fB, aA, aB, aC, aL, tX, tY, tZ, tW, tP, mX, mY, mZ, mW, mP, aI, kX, kY, kZ, kW, aH, aD) v') (gn, gp, gc, qN, qD, pA, pB, pC, pD, yX, yY, yZ, yW, yP, yF) v1 v2 := fun hn => by
    unfold wpY_hops
    refine rl_find hX.1 hB hY (fun pA pB pC pD yX yY yZ yW yP hj he hL hR' => ?_)
    refine yb_in (fun a b => br_f (by decide) ?_) (fun _ => br_t rfl ⟨rfl, rl_mk hR hR'⟩)
    refine yb_in (fun d e => ?_) (fun _ => br_t rfl ⟨rfl, rl_mk hR hR'⟩)
    rw [t0] at a d
    rw [tc1] at b e
    exact absurd ⟨⟨a, by omega⟩, d, by omega⟩ hn
  refine ek_if Int32.lt_iff_toInt_lt (fun h => none (by omega)) (fun h1 => ?_)
  refine ek_if Int32.le_iff_toInt_le (fun h => none (by rw [tc] at h; omega)) (fun h2 => ?_)
  refine ek_if Int32.lt_iff_toInt_lt (fun h => none (by omega)) (fun h3 => ?_)
  refine ek_if Int32.lt_iff_toInt_lt (fun h4 => ?_) (fun h => none (by rw [tc] at h; omega))
  rw [t0] at h1 h3
  rw [tc] at h2 h4
  obtain ⟨i, ei⟩ : ∃ i : Nat, v1.toInt = i := ⟨v1.toInt.toNat, by omega⟩
  have ev : v1 = nI i := by rw [zi_nI, ← ei]; exact zi_of v1
  subst ev
  obtain ⟨l, el⟩ : ∃ l : Nat, v2.toInt = l := ⟨v2.toInt.toNat, by omega⟩
  have ev2 : v2 = nI l := by rw [zi_nI, ← el]; exact zi_of v2
  subst ev2
  obtain ⟨r0, hr0, hd⟩ := hb_dist (hb_S_sys hX.1) hB.1.1 (by omega : i < c) (by omega : l < c)
  refine ⟨c + 1, ?_⟩
  refine xb_hops33 (k := i) (hb_S_sys hX.1) (yb_L_x hB.1) (by omega) (by omega) hd hr0 (fun aD => ?_) c 0 aD (by omega) (fun j hj => absurd hj (Nat.not_lt_zero j))
  unfold wpY_hops
  refine rl_find hX.1 hB hY (fun pA pB pC pD yX yY yZ yW yP hj he hL hR' => ?_)
  refine yb_in (fun a b => br_f (by decide) ?_) (fun hc => absurd hc (by rw [t0, tc1]; omega))
  refine yb_in (fun a b => br_f (by decide) ⟨c + 1, ?_⟩) (fun hc => absurd hc (by rw [t0, tc1]; omega))
  exact yb_hops39 (k := i) (N := 6 + n) (hb_S_sys hX.1) (by omega) hj hL (by omega) (by omega) hd hr0 (fun yF => ⟨rfl, rl_mk hR hR'⟩) c 0 yF (by omega) (fun j hj => absurd hj (Nat.not_lt_zero j))
end
section
/-! answers: mostTop, mostBottom -/
/-- b is the first of the first k with the greatest value -/
def hb_Bst (q : hb_Q) (v : Nat → hb_Q) (k b : Nat) : Prop := b < k ∧ (∀ j, j < k → hb_Le q (v j) (v b)) ∧ ∀ j, j < b → hb_Lt q (v j) (v b)
theorem hb_bst_uq {q : hb_Q} {v : Nat → hb_Q} {k b b' : Nat} (h : hb_Bst q v k b) (h' : hb_Bst q v k b') : b' = b := by
  rcases Nat.lt_trichotomy b b' with e | e | e
  · have a := h'.2.2 b e
    have c := h.2.1 b' h'.1
    unfold hb_Lt at a; unfold hb_Le at c; omega
  · exact e.symm
  · have a := h.2.2 b' e
    have c := h'.2.1 b h.1
    unfold hb_Lt at a; unfold hb_Le at c; omega
theorem hb_bst_new {q : hb_Q} {v : Nat → hb_Q} {k b : Nat} (hw : ∀ j, j ≤ k → 0 < (v j).2.2.2) (h : hb_Bst q v k b) (hl : hb_Lt q (v b) (v k)) : hb_Bst q v (k + 1) k := by
  have lt : ∀ j, j < k → hb_Lt q (v j) (v k) := fun j hj => hb_frac_tr2 (hw j (by omega)) (hw b (by have := h.1; omega)) (hw k (by omega)) (h.2.1 j hj) hl
  refine ⟨by omega, fun j hj => ?_, lt⟩
  by_cases e : j = k
  · rw [e]; exact hb_le_rf _ _
  · exact Int.le_of_lt (lt j (by omega))
theorem hb_bst_keep {q : hb_Q} {v : Nat → hb_Q} {k b : Nat} (h : hb_Bst q v k b) (hl : hb_Le q (v k) (v b)) : hb_Bst q v (k + 1) b := by
  refine ⟨by have := h.1; omega, fun j hj => ?_, h.2.2⟩
  by_cases e : j = k
  · rw [e]; exact hl
  · exact h.2.1 j (by omega)
theorem hb_bst_1 (q : hb_Q) (v : Nat → hb_Q) : hb_Bst q v 1 0 := by
  refine ⟨by omega, fun j hj => ?_, fun j hj => absurd hj (Nat.not_lt_zero j)⟩
  have e : j = 0 := by omega
  rw [e]; exact hb_le_rf _ _
theorem hb_dot_bd {m : Nat} (hm : m ≤ 728) {v : hb_Q} (hv : hb_Bd v) : -69120 ≤ hb_dot (hb_code m 0) v ∧ hb_dot (hb_code m 0) v ≤ 69120 := by
  obtain ⟨v1, v2, v3, v4⟩ := hv
  have a1 := hb_mulb (a := ((m % 9 : Nat) : Int) - 4) (A := 4) ⟨by omega, by omega⟩ v1
  have a2 := hb_mulb (a := ((m / 9 % 9 : Nat) : Int) - 4) (A := 4) ⟨by omega, by omega⟩ v2
  have a3 := hb_mulb (a := ((m / 81 : Nat) : Int) - 4) (A := 4) ⟨by omega, by omega⟩ v3
  simp only [hb_dot, hb_code]
  omega
theorem hb_code_val (m : Nat) (v : hb_Q) : - hb_val (hb_code m 0) v = hb_dot (hb_code m 0) v := by
  simp only [hb_val, hb_code]; omega
/-- top and bottom of the greatest value -/
def hb_mg (q v : hb_Q) : Nat := Nat.gcd (hb_dot q v).natAbs v.2.2.2.natAbs
def hb_mt (q v : hb_Q) : Int := hb_dot q v / (hb_mg q v : Int)
def hb_mb (q v : hb_Q) : Int := v.2.2.2 / (hb_mg q v : Int)
theorem hb_mg_dvd (q v : hb_Q) : hb_mt q v * (hb_mg q v : Int) = hb_dot q v ∧ hb_mb q v * (hb_mg q v : Int) = v.2.2.2 := by
  have d1 : (hb_mg q v : Int) ∣ hb_dot q v := Int.ofNat_dvd_left.mpr (Nat.gcd_dvd_left _ _)
  have d2 : (hb_mg q v : Int) ∣ v.2.2.2 := Int.ofNat_dvd_left.mpr (Nat.gcd_dvd_right _ _)
  exact ⟨Int.ediv_mul_cancel d1, Int.ediv_mul_cancel d2⟩
theorem hb_mg_bd {q v : hb_Q} (hv : hb_Bd v) : 0 < hb_mg q v ∧ hb_mg q v ≤ 384 := by
  have h4 := hv.2.2.2
  have p : 0 < v.2.2.2.natAbs := by omega
  have := Nat.le_of_dvd p (Nat.gcd_dvd_right (hb_dot q v).natAbs v.2.2.2.natAbs)
  exact ⟨Nat.gcd_pos_of_pos_right _ p, by unfold hb_mg; omega⟩
section
variable {fn fb fc fm fk : Int32} {fT fB : Int64} {aA aB aC aL tX tY tZ tW tP mX mY mZ mW mP kX kY kZ kW aH aD : Nat → Int32} {aI : Nat → Int64}
variable {P : Nat → hb_Q} {S : Nat → Prop} {c m : Nat} {v : Nat → hb_Q}
theorem xb_most_end {post : Int32 → SX → Prop} {x2 x3 x4 : Int32} (hS : hb_Sys P S) (hm : m ≤ 728) (hL : yb_L P S c v tX tY tZ tW tP) {b : Nat} (hb : b < c) (h : post 1 (fn, fb, nI c, fm, fk, zi_L (hb_mt (hb_code m 0) (v b)), zi_L (hb_mb (hb_code m 0) (v b)), aA, aB, aC, aL, tX, tY, tZ, tW, tP, mX, mY, mZ, mW, mP, aI, kX, kY, kZ, kW, aH, aD)) (n : Nat) : wX_findMost_37 post x2 x3 x4 fn fb (nI c) fm fk aA aB aC aL tX tY tZ tW tP mX mY mZ mW mP aI kX kY kZ kW aH aD (n + 1) (nI c) (zi_L (hb_dot (hb_code m 0) (v b))) (zi_L (v b).2.2.2) := by
  have c32 := yb_L_32 hS hL
  have bd := hb_K_bd hS (hL.1.1 b hb)
  have db := hb_dot_bd hm bd
  have gb := hb_mg_bd (q := hb_code m 0) bd
  obtain ⟨g1, g2⟩ := hb_mg_dvd (hb_code m 0) (v b)
  have w4 := bd.2.2.2
  rw [wX_findMost_37]
  refine br_t (nI_le (Nat.le_refl _) (by omega)) (br_f (fun z => ?_) ?_)
  · have := (zl_eq0 (a := (v b).2.2.2) ⟨by omega, by omega⟩).mp z
    omega
  · refine xb_gcd ⟨by omega, by omega⟩ ⟨by omega, by omega⟩ ?_
    have ge : Nat.gcd (hb_dot (hb_code m 0) (v b)).natAbs (v b).2.2.2.natAbs = hb_mg (hb_code m 0) (v b) := rfl
    rw [ge]
    have gne : ¬ zi_L (hb_mg (hb_code m 0) (v b) : Int) = 0 := fun z => by
      have := (zl_eq0 (a := (hb_mg (hb_code m 0) (v b) : Int)) ⟨by omega, by omega⟩).mp z
      omega
    have e1 : zi_L (hb_dot (hb_code m 0) (v b)) / zi_L (hb_mg (hb_code m 0) (v b) : Int) = zi_L (hb_mt (hb_code m 0) (v b)) := by
      rw [← g1] at db
      rw [← g1]
      exact zl_dv (by omega) ⟨by omega, by omega⟩ ⟨by omega, by omega⟩
    have e2 : zi_L (v b).2.2.2 / zi_L (hb_mg (hb_code m 0) (v b) : Int) = zi_L (hb_mb (hb_code m 0) (v b)) := by
      rw [← g2] at w4
      rw [← g2]
      exact zl_dv (by omega) ⟨by omega, by omega⟩ ⟨by omega, by omega⟩
    exact ⟨gne, nm_r e1 ⟨gne, nm_r e2 h⟩⟩
theorem xb_most37 {post : Int32 → SX → Prop} {x2 x3 x4 : Int32} (hS : hb_Sys P S) (hm : m ≤ 728) (e2 : x2.toInt = (hb_code m 0).1) (e3 : x3.toInt = (hb_code m 0).2.1) (e4 : x4.toInt = (hb_code m 0).2.2.1) (hL : yb_L P S c v tX tY tZ tW tP) (h : ∀ b, hb_Bst (hb_code m 0) v c b → post 1 (fn, fb, nI c, fm, fk, zi_L (hb_mt (hb_code m 0) (v b)), zi_L (hb_mb (hb_code m 0) (v b)), aA, aB, aC, aL, tX, tY, tZ, tW, tP, mX, mY, mZ, mW, mP, aI, kX, kY, kZ, kW, aH, aD)) : ∀ d k b, k + d = c → hb_Bst (hb_code m 0) v k b → wX_findMost_37 post x2 x3 x4 fn fb (nI c) fm fk aA aB aC aL tX tY tZ tW tP mX mY mZ mW mP aI kX kY kZ kW aH aD (d + 1) (nI k) (zi_L (hb_dot (hb_code m 0) (v b))) (zi_L (v b).2.2.2) := by
  have c32 := yb_L_32 hS hL
  intro d
  induction d with
  | zero =>
    intro k b hk hB
    have e : k = c := by omega
    subst e
    exact xb_most_end hS hm hL hB.1 (h b hB) 0
  | succ d ih =>
    intro k b hk hB
    have bc := hB.1
    have kd := hb_K_bd hS (hL.1.1 k (by omega))
    have bd := hb_K_bd hS (hL.1.1 b (by omega))
    have dk := hb_dot_bd hm kd
    have db := hb_dot_bd hm bd
    have wk := kd.2.2.2
    have wb := bd.2.2.2
    have p1 := hb_mulb db (by omega : -384 ≤ (v k).2.2.2 ∧ (v k).2.2.2 ≤ 384)
    have p2 := hb_mulb dk (by omega : -384 ≤ (v b).2.2.2 ∧ (v b).2.2.2 ≤ 384)
    have qk := (hL.2 k (by omega)).1
    have ev : ((x2.toInt64 * (tX k).toInt64) + (x3.toInt64 * (tY k).toInt64)) + (x4.toInt64 * (tZ k).toInt64) = zi_L (hb_dot (hb_code m 0) (v k)) := by
      simp only [zi_64, zl_mul, zl_add, e2, e3, e4, ← qk]
      rfl
    have ew : (tW k).toInt64 = zi_L (v k).2.2.2 := by rw [zi_64, ← qk]; rfl
    have vi : vp_in (nI k) 64 := vp_in_nI (by omega) (by omega)
    have ck : (nI k).toNatClampNeg = k := nI_clamp (by omega)
    rw [wX_findMost_37]
    refine br_f (nI_ge (by omega) (by omega)) ⟨vi, vi, vi, nm_r (e' := zi_L (hb_dot (hb_code m 0) (v k))) (by rw [ck]; exact ev) (ek_if (zl_le0 (a := (v b).2.2.2) ⟨by omega, by omega⟩) (fun h0 => by omega) (fun h0 => ⟨vi, ?_⟩))⟩
    rw [ck, ew, zl_mul, zl_mul]
    refine ek_if (zl_lt ⟨by omega, by omega⟩ ⟨by omega, by omega⟩) (fun h1 => ?_) (fun h1 => nm_r (nI_1 k) (ih (k + 1) b (by omega) (hb_bst_keep hB (by unfold hb_Le; omega))))
    unfold wX_findMost_120
    refine ⟨vi, nm_r (e' := zi_L (v k).2.2.2) (by rw [ck]; exact ew) (nm_r (nI_1 k) (ih (k + 1) k (by omega) (hb_bst_new (fun j hj => ?_) hB h1)))⟩
    exact (hL.1.1 j (by omega)).1.1.1
theorem xb_findMost {post : Int32 → SX → Prop} {n : Nat} (hR : xb_R n P fn fb fc aA aB aC aL tX tY tZ tW tP) (hm : m ≤ 728) (h : ∀ (c : Nat) (fb fm : Int32) (tX tY tZ tW tP mX mY mZ mW mP : Nat → Int32) (aI : Nat → Int64), xb_B n P c tX tY tZ tW tP → xb_R n P (nI n) fb (nI c) aA aB aC aL tX tY tZ tW tP → (c = 0 → ∀ fT, post 0 (nI n, fb, nI c, fm, fk, fT, 0, aA, aB, aC, aL, tX, tY, tZ, tW, tP, mX, mY, mZ, mW, mP, aI, kX, kY, kZ, kW, aH, aD)) ∧ (∀ b, hb_Bst (hb_code m 0) (hb_qt tX tY tZ tW) c b → post 1 (nI n, fb, nI c, fm, fk, zi_L (hb_mt (hb_code m 0) (hb_qt tX tY tZ tW b)), zi_L (hb_mb (hb_code m 0) (hb_qt tX tY tZ tW b)), aA, aB, aC, aL, tX, tY, tZ, tW, tP, mX, mY, mZ, mW, mP, aI, kX, kY, kZ, kW, aH, aD))) : wpX_findMost post (fn, fb, fc, fm, fk, fT, fB, aA, aB, aC, aL, tX, tY, tZ, tW, tP, mX, mY, mZ, mW, mP, aI, kX, kY, kZ, kW, aH, aD) (nI m) := by
  obtain ⟨d1, d2, d3⟩ := yb_dec hm
  unfold wpX_findMost
  refine xb_build hR (fun c fb fm tX tY tZ tW tP mX mY mZ mW mP aI hb hB hR' => ?_)
  obtain ⟨h0, h1⟩ := h c fb fm tX tY tZ tW tP mX mY mZ mW mP aI hB hR'
  have hS := hb_S_sys hR.1
  have hL := yb_L_x hB.1
  have c32 := yb_L_32 hS hL
  refine ⟨by decide, nm_r d1 ⟨by decide, by decide, nm_r d2 ⟨by decide, nm_r d3 ⟨c + 1, ?_⟩⟩⟩⟩
  rcases Nat.eq_zero_or_pos c with e | e
  · subst e
    rw [wX_findMost_37]
    exact br_t (by decide) (br_t rfl (h0 rfl _))
  · have t1 : (zi_I ((m % 9 : Nat) - 4)).toInt = (hb_code m 0).1 := zi_t ⟨by omega, by omega⟩
    have t2 : (zi_I ((m / 9 % 9 : Nat) - 4)).toInt = (hb_code m 0).2.1 := zi_t ⟨by omega, by omega⟩
    have t3 : (zi_I ((m / 81 : Nat) - 4)).toInt = (hb_code m 0).2.2.1 := zi_t ⟨by omega, by omega⟩
    have ev : (((zi_I ((m % 9 : Nat) - 4)).toInt64 * (tX 0).toInt64) + ((zi_I ((m / 9 % 9 : Nat) - 4)).toInt64 * (tY 0).toInt64)) + ((zi_I ((m / 81 : Nat) - 4)).toInt64 * (tZ 0).toInt64) = zi_L (hb_dot (hb_code m 0) (hb_qt tX tY tZ tW 0)) := by
      simp only [zi_64, zl_mul, zl_add, t1, t2, t3]
      rfl
    have vi : vp_in (nI 0) 64 := vp_in_nI (by omega) (by omega)
    have ck : (nI 0).toNatClampNeg = 0 := nI_clamp (by omega)
    show wX_findMost_37 _ _ _ _ _ _ _ _ _ _ _ _ _ _ _ _ _ _ _ _ _ _ _ _ _ _ _ _ _ _ (c + 1) (nI 0) _ _
    rw [wX_findMost_37]
    refine br_f (nI_ge (by omega) (by omega)) ⟨vi, vi, vi, nm_r (e' := zi_L (hb_dot (hb_code m 0) (hb_qt tX tY tZ tW 0))) (by rw [ck]; exact ev) (br_t (by decide) ?_)⟩
    unfold wX_findMost_120
    refine ⟨vi, nm_r (e' := zi_L (hb_qt tX tY tZ tW 0).2.2.2) (by rw [ck, zi_64]; rfl) (nm_r (nI_1 0) ?_)⟩
    obtain ⟨c1, rfl⟩ : ∃ c1, c = c1 + 1 := ⟨c - 1, by omega⟩
    exact xb_most37 (v := hb_qt tX tY tZ tW) hS hm t1 t2 t3 hL h1 c1 1 0 (by omega) (hb_bst_1 _ _)
end
section
variable {gn gp gc : Int32} {qN qD pA pB pC pD yX yY yZ yW yP yF : Nat → Int32}
variable {P : Nat → hb_Q} {S : Nat → Prop} {c m N : Nat} {v : Nat → hb_Q}
theorem yb_best22 {post : Int32 → SY → Prop} (hS : hb_Sys P S) (hm : m ≤ 728) (hN : N < 16) (hq : hb_qt pA pB pC pD N = hb_code m 0) (hL : yb_L P S c v yX yY yZ yW yP) (h : ∀ b, hb_Bst (hb_code m 0) v c b → post (nI b) (gn, gp, nI c, qN, qD, pA, pB, pC, pD, yX, yY, yZ, yW, yP, yF)) : ∀ d k b, k + d = c → hb_Bst (hb_code m 0) v k b → wY_best_22 post (nI N) gn gp (nI c) qN qD pA pB pC pD yX yY yZ yW yP yF (d + 1) (nI b) (nI k) := by
  have c32 := yb_L_32 hS hL
  intro d
  induction d with
  | zero =>
    intro k b hk hB
    have e : k = c := by omega
    subst e
    rw [wY_best_22]
    exact br_t (nI_le (Nat.le_refl _) (by omega)) (h b hB)
  | succ d ih =>
    intro k b hk hB
    have bc := hB.1
    have kd := hb_K_bd hS (hL.1.1 k (by omega))
    have bd := hb_K_bd hS (hL.1.1 b (by omega))
    have dk := hb_dot_bd hm kd
    have db := hb_dot_bd hm bd
    have wk := kd.2.2.2
    have wb := bd.2.2.2
    have p1 := hb_mulb db (by omega : -384 ≤ (v k).2.2.2 ∧ (v k).2.2.2 ≤ 384)
    have p2 := hb_mulb dk (by omega : -384 ≤ (v b).2.2.2 ∧ (v b).2.2.2 ≤ 384)
    have qk := (hL.2 k (by omega)).1
    have qb := (hL.2 b (by omega)).1
    have ek : (yW k).toInt64 = zi_L (v k).2.2.2 := by rw [zi_64, ← qk]; rfl
    have eb : (yW b).toInt64 = zi_L (v b).2.2.2 := by rw [zi_64, ← qb]; rfl
    rw [wY_best_22]
    refine br_f (nI_ge (by omega) (by omega)) (br_f (nI_pos (by omega)) ?_)
    refine yb_side hN (by omega) ?_
    rw [hq, qk, hb_code_val]
    refine ⟨vp_in_nI (by omega) (by omega), ?_⟩
    refine yb_side hN (by omega) ?_
    rw [hq, qb, hb_code_val]
    refine ⟨vp_in_nI (by omega) (by omega), ?_⟩
    rw [nI_clamp (by omega), nI_clamp (by omega), ek, eb, zl_mul, zl_mul]
    refine ek_if (zl_le ⟨by omega, by omega⟩ ⟨by omega, by omega⟩) (fun h1 => nm_r (nI_1 k) (ih (k + 1) b (by omega) (hb_bst_keep hB h1))) (fun h1 => nm_r (nI_1 k) (ih (k + 1) k (by omega) (hb_bst_new (fun j hj => ?_) hB ?_)))
    · exact (hL.1.1 j (by omega)).1.1.1
    · unfold hb_Lt; omega
theorem yb_most85 {post : Int32 → SY → Prop} {g : Nat} (hg : 0 < g) (hg2 : g < 2 ^ 31) {t : Int} (ht : zi_R (t * g)) (h : post (zi_I t) (gn, gp, gc, qN, qD, pA, pB, pC, pD, yX, yY, yZ, yW, yP, yF)) : wY_most_85 post (nI g) (zi_I (t * g)) gn gp gc qN qD pA pB pC pD yX yY yZ yW yP yF := by
  unfold wY_most_85
  refine br_t (nI_le (a := 1) (by omega) (by omega)) ⟨nI_ne0 hg hg2, ?_⟩
  rw [zi_nI, zi_dv (by omega) ht ⟨by omega, by omega⟩]
  exact h
end
section
variable {gn gp gc : Int32} {qN qD pA pB pC pD yX yY yZ yW yP yF : Nat → Int32}
variable {P : Nat → hb_Q} {c m n : Nat}
theorem yb_most {post : Int32 → SY → Prop} {tX tY tZ tW tP : Nat → Int32} (hPl : hb_Pl n P) (hB : xb_B n P c tX tY tZ tW tP) (hY : yb_R n P gn qN qD) (hm : m ≤ 728) {fl : Int32} {w : Nat → Int} (hf : (fl = 0 ∧ w = fun b => hb_mb (hb_code m 0) (hb_qt tX tY tZ tW b)) ∨ (¬ fl = 0 ∧ w = fun b => hb_mt (hb_code m 0) (hb_qt tX tY tZ tW b))) (h : ∀ (gp : Int32) (pA pB pC pD yX yY yZ yW yP : Nat → Int32), (c = 0 → post (-1000002) (nI n, gp, nI c, qN, qD, pA, pB, pC, pD, yX, yY, yZ, yW, yP, yF)) ∧ (∀ b, hb_Bst (hb_code m 0) (hb_qt tX tY tZ tW) c b → post (zi_I (w b)) (nI n, gp, nI c, qN, qD, pA, pB, pC, pD, yX, yY, yZ, yW, yP, yF))) : wpY_most post (gn, gp, gc, qN, qD, pA, pB, pC, pD, yX, yY, yZ, yW, yP, yF) (nI m) fl := by
  have n8 := hPl.1
  have t0 : (0 : Int32).toInt = 0 := rfl
  have t728 : (728 : Int32).toInt = 728 := rfl
  have tm : (nI m).toInt = m := nI_toInt (by omega)
  have hS := hb_S_sys hPl
  unfold wpY_most
  refine yb_in (fun _ _ => br_f (by decide) ?_) (fun hc => absurd hc (by rw [t0, t728, tm]; omega))
  unfold wpY_best
  refine rl_find hPl hB hY (fun pA pB pC pD yX yY yZ yW yP hj he hL hR' => ?_)
  have c32 := yb_L_32 hS hL
  refine yb_addNormal (by omega) hm (fun pA' pB' pC' pD' g1 g2 => ?_)
  have g2 : hb_qt pA' pB' pC' pD' (6 + n) = hb_code m 0 := g2
  have e1 : nI (6 + n + 1) - 1 = nI (6 + n) := nI_pred _
  obtain ⟨h0, h1⟩ := h (nI (6 + n + 1)) pA' pB' pC' pD' yX yY yZ yW yP
  refine nm_r e1 ⟨c + 1, ?_⟩
  rcases Nat.eq_zero_or_pos c with e | e
  · subst e
    rw [wY_best_22]
    exact br_t (by decide) (br_f (by decide) (h0 rfl))
  · obtain ⟨c1, rfl⟩ : ∃ c1, c = c1 + 1 := ⟨c - 1, by omega⟩
    show wY_best_22 _ _ _ _ _ _ _ _ _ _ _ _ _ _ _ _ _ (c1 + 1 + 1) (-1) (nI 0)
    rw [wY_best_22]
    refine br_f (nI_ge (by omega) (by omega)) (br_t (by decide) (nm_r (nI_1 0) ?_))
    refine yb_best22 (N := 6 + n) hS hm (by omega) g2 hL (fun b hb => ?_) c1 1 0 (by omega) (hb_bst_1 _ _)
    have bc := hb.1
    have bd := hb_K_bd hS (hL.1.1 b bc)
    have db := hb_dot_bd hm bd
    have gb := hb_mg_bd (q := hb_code m 0) bd
    obtain ⟨d1, d2⟩ := hb_mg_dvd (hb_code m 0) (hb_qt tX tY tZ tW b)
    have w4 := bd.2.2.2
    have qb := (hL.2 b bc).1
    have eW : yW b = zi_I (hb_qt tX tY tZ tW b).2.2.2 := by
      rw [zi_of (yW b)]
      congr 1
      exact congrArg (fun v : hb_Q => v.2.2.2) qb
    refine br_t (nI_pos' (by omega)) ?_
    rw [e1]
    refine yb_side (by omega) (by omega) ?_
    rw [g2, qb, hb_code_val, zl_32]
    have vi : vp_in (nI b) 40 := vp_in_nI (by omega) (by omega)
    have fin : wY_most_68 post fl (nI b) (zi_I (hb_dot (hb_code m 0) (hb_qt tX tY tZ tW b))) (nI (hb_mg (hb_code m 0) (hb_qt tX tY tZ tW b))) (nI n) (nI (6 + n + 1)) (nI (c1 + 1)) qN qD pA' pB' pC' pD' yX yY yZ yW yP yF := by
      unfold wY_most_68
      have k := h1 b hb
      rcases hf with ⟨f0, fw⟩ | ⟨f0, fw⟩
      · refine br_t f0 ⟨vi, ?_⟩
        rw [nI_clamp (by omega), eW, ← d2]
        refine yb_most85 gb.1 (by omega) ⟨by rw [d2]; omega, by rw [d2]; omega⟩ ?_
        rw [fw] at k; exact k
      · refine br_f f0 ?_
        rw [← d1]
        refine yb_most85 gb.1 (by omega) ⟨by rw [d1]; omega, by rw [d1]; omega⟩ ?_
        rw [fw] at k; exact k
    refine ek_if (zi_eq0 ⟨by omega, by omega⟩) (fun z => ⟨vi, ?_⟩) (fun z => ⟨vi, ?_⟩)
    · rw [nI_clamp (by omega)]
      have eg : yW b = nI (hb_mg (hb_code m 0) (hb_qt tX tY tZ tW b)) := by
        rw [eW, zi_nI]
        congr 1
        unfold hb_mg
        rw [z]
        show _ = ((Nat.gcd 0 _ : Nat) : Int)
        rw [Nat.gcd_zero_left]
        omega
      rw [eg]
      exact fin
    · rw [nI_clamp (by omega)]
      have tw : (yW b).toInt = (hb_qt tX tY tZ tW b).2.2.2 := congrArg (fun v : hb_Q => v.2.2.2) qb
      have td : (zi_I (hb_dot (hb_code m 0) (hb_qt tX tY tZ tW b))).toInt = hb_dot (hb_code m 0) (hb_qt tX tY tZ tW b) := zi_t ⟨by omega, by omega⟩
      refine yb_gcd' (by rw [td]; omega) (by rw [tw]; omega) ?_
      rw [td, tw]
      have eg : Nat.gcd (hb_dot (hb_code m 0) (hb_qt tX tY tZ tW b)).natAbs (hb_qt tX tY tZ tW b).2.2.2.natAbs = hb_mg (hb_code m 0) (hb_qt tX tY tZ tW b) := rfl
      rw [eg, if_neg (by omega)]
      exact fin
end
theorem yb_most_bad {k : Nat} {n : Nat} {P : Nat → hb_Q} {fl v1 : Int32} {u : SX} {gn gp gc : Int32} {qN qD pA pB pC pD yX yY yZ yW yP yF : Nat → Int32} (h : ¬ (0 ≤ v1.toInt ∧ v1.toInt ≤ 728)) (hR : i_Rel k u (gn, gp, gc, qN, qD, pA, pB, pC, pD, yX, yY, yZ, yW, yP, yF)) : wpY_most (fun r' v' => r' = (-1000000) ∧ i_Rel k u v') (gn, gp, gc, qN, qD, pA, pB, pC, pD, yX, yY, yZ, yW, yP, yF) v1 fl := by
  unfold wpY_most
  refine yb_in (fun a b => ?_) (fun _ => br_t rfl ⟨rfl, hR⟩)
  have t0 : (0 : Int32).toInt = 0 := rfl
  have t728 : (728 : Int32).toInt = 728 := rfl
  rw [t0] at a
  rw [t728] at b
  exact absurd ⟨a, b⟩ h
theorem i_vc_mostTop {k : Nat} {u : SX} {v : SY} (I : i_Rel k u v) (hk : k + 3 ≤ 1536) (v1 : Int32) : wpX_mostTop (fun r u' => wpY_mostTop (fun r' v' => r' = r ∧ i_Rel (k + 3) u' v') v v1) u v1 := by
  refine rl_el (Q := fun u v => wpX_mostTop (fun r u' => wpY_mostTop (fun r' v' => r' = r ∧ i_Rel (k + 3) u' v') v v1) u v1) ?_ I
  intro n P fn fb fc fm fk fT fB aA aB aC aL tX tY tZ tW tP mX mY mZ mW mP aI kX kY kZ kW aH aD gn gp gc qN qD pA pB pC pD yX yY yZ yW yP yF hX hY
  have t0 : (0 : Int32).toInt = 0 := rfl
  have t728 : (728 : Int32).toInt = 728 := rfl
  unfold wpX_mostTop
  refine ek_if Int32.lt_iff_toInt_lt (fun h => yb_most_bad (n := n) (P := P) (by omega) (rl_mk hX hY)) (fun h1 => ?_)
  refine ek_if Int32.le_iff_toInt_le (fun h2 => ?_) (fun h => yb_most_bad (n := n) (P := P) (by omega) (rl_mk hX hY))
  rw [t0] at h1
  rw [t728] at h2
  obtain ⟨m, em⟩ : ∃ m : Nat, v1.toInt = m := ⟨v1.toInt.toNat, by omega⟩
  have ev : v1 = nI m := by rw [zi_nI, ← em]; exact zi_of v1
  subst ev
  have hm : m ≤ 728 := by omega
  refine xb_findMost hX hm (fun c fb fm tX tY tZ tW tP mX mY mZ mW mP aI hB hR => ⟨fun e fT => br_t rfl ?_, fun b hb => br_f (by decide) ?_⟩)
  · unfold wpY_mostTop
    exact yb_most hX.1 hB hY hm (Or.inr ⟨by decide, rfl⟩) (fun gp pA pB pC pD yX yY yZ yW yP => ⟨fun _ => ⟨rfl, rl_mk hR ⟨rfl, hY.2⟩⟩, fun b hb => by have := hb.1; omega⟩)
  · rw [zl_32]
    unfold wpY_mostTop
    exact yb_most hX.1 hB hY hm (Or.inr ⟨by decide, rfl⟩) (fun gp pA pB pC pD yX yY yZ yW yP => ⟨fun e => by have := hb.1; omega, fun b' hb' => ⟨by rw [hb_bst_uq hb hb'], rl_mk hR ⟨rfl, hY.2⟩⟩⟩)
theorem i_vc_mostBottom {k : Nat} {u : SX} {v : SY} (I : i_Rel k u v) (hk : k + 3 ≤ 1536) (v1 : Int32) : wpX_mostBottom (fun r u' => wpY_mostBottom (fun r' v' => r' = r ∧ i_Rel (k + 3) u' v') v v1) u v1 := by
  refine rl_el (Q := fun u v => wpX_mostBottom (fun r u' => wpY_mostBottom (fun r' v' => r' = r ∧ i_Rel (k + 3) u' v') v v1) u v1) ?_ I
  intro n P fn fb fc fm fk fT fB aA aB aC aL tX tY tZ tW tP mX mY mZ mW mP aI kX kY kZ kW aH aD gn gp gc qN qD pA pB pC pD yX yY yZ yW yP yF hX hY
  have t0 : (0 : Int32).toInt = 0 := rfl
  have t728 : (728 : Int32).toInt = 728 := rfl
  unfold wpX_mostBottom
  refine ek_if Int32.lt_iff_toInt_lt (fun h => yb_most_bad (n := n) (P := P) (by omega) (rl_mk hX hY)) (fun h1 => ?_)
  refine ek_if Int32.le_iff_toInt_le (fun h2 => ?_) (fun h => yb_most_bad (n := n) (P := P) (by omega) (rl_mk hX hY))
  rw [t0] at h1
  rw [t728] at h2
  obtain ⟨m, em⟩ : ∃ m : Nat, v1.toInt = m := ⟨v1.toInt.toNat, by omega⟩
  have ev : v1 = nI m := by rw [zi_nI, ← em]; exact zi_of v1
  subst ev
  have hm : m ≤ 728 := by omega
  refine xb_findMost hX hm (fun c fb fm tX tY tZ tW tP mX mY mZ mW mP aI hB hR => ⟨fun e fT => br_t rfl ?_, fun b hb => br_f (by decide) ?_⟩)
  · unfold wpY_mostBottom
    exact yb_most hX.1 hB hY hm (Or.inl ⟨rfl, rfl⟩) (fun gp pA pB pC pD yX yY yZ yW yP => ⟨fun _ => ⟨rfl, rl_mk hR ⟨rfl, hY.2⟩⟩, fun b hb => by have := hb.1; omega⟩)
  · rw [zl_32]
    unfold wpY_mostBottom
    exact yb_most hX.1 hB hY hm (Or.inl ⟨rfl, rfl⟩) (fun gp pA pB pC pD yX yY yZ yW yP => ⟨fun e => by have := hb.1; omega, fun b' hb' => ⟨by rw [hb_bst_uq hb hb'], rl_mk hR ⟨rfl, hY.2⟩⟩⟩)
end
section
/-! answers: whole -/
def hw_ok (P : Nat → hb_Q) (m : Nat) (x y z : Int) : Prop := ∀ i, 6 ≤ i → i < m → (P i).1 * x + (P i).2.1 * y + (P i).2.2.1 * z ≤ (P i).2.2.2
noncomputable def hw_col (P : Nat → hb_Q) (m : Nat) (x y : Int) : Nat := hu_cnt (fun z => hw_ok P m x y ((z : Int) - 8)) 17
noncomputable def hw_all (P : Nat → hb_Q) (m : Nat) : Nat := hu_sm (fun i => hu_sm (fun j => hw_col P m ((i : Int) - 8) ((j : Int) - 8)) 17) 17
theorem hw_sum (P : Nat → hb_Q) (m : Nat) : hu_cnt (fun p => hw_ok P m (((p % 17 : Nat) : Int) - 8) (((p / 17 % 17 : Nat) : Int) - 8) (((p / 289 : Nat) : Int) - 8)) 4913 = hw_all P m := by
  rw [hu_sm_cnt]
  have := hu_cube_sum (fun x y z => @ite Nat (hw_ok P m ((x : Int) - 8) ((y : Int) - 8) ((z : Int) - 8)) (Classical.propDecidable _) 1 0)
  rw [this]
  unfold hw_all
  refine hu_sm_congr 17 fun i _ => hu_sm_congr 17 fun j _ => ?_
  unfold hw_col
  rw [hu_sm_cnt]
theorem hw_all_le (P : Nat → hb_Q) (m : Nat) : hw_all P m ≤ 4913 := by
  rw [← hw_sum]; exact hu_cnt_le _ _
/-- floor by a divisor from 1 to 4 -/
theorem zi_fl {x b : Int} (hx : -1000 ≤ x ∧ x ≤ 1000) (hb : 1 ≤ b ∧ b ≤ 4) : (¬ x < 0 → zi_I x / zi_I b = zi_I (x / b)) ∧ (x < 0 → -(((zi_I b - 1) - zi_I x) / zi_I b) = zi_I (x / b)) := by
  have dv : ∀ a : Int, 0 ≤ a → a ≤ 2000 → zi_I a / zi_I b = zi_I (a / b) := fun a h0 h1 => by
    have q : 0 ≤ a / b ∧ a / b ≤ 2000 := by
      have : b = 1 ∨ b = 2 ∨ b = 3 ∨ b = 4 := by omega
      rcases this with e | e | e | e <;> subst e <;> omega
    rw [← Int32.toInt_inj, Int32.toInt_div, zi_t ⟨by omega, by omega⟩, zi_t ⟨by omega, by omega⟩, zi_t ⟨by omega, by omega⟩, Int.tdiv_eq_ediv_of_nonneg h0]
    exact Int.bmod_eq_of_le (by omega) (by omega)
  refine ⟨fun h => dv x (by omega) (by omega), fun h => ?_⟩
  rw [show (1 : Int32) = zi_I 1 from rfl, zi_sub, zi_sub, dv _ (by omega) (by omega), zi_neg]
  congr 1
  have : b = 1 ∨ b = 2 ∨ b = 3 ∨ b = 4 := by omega
  rcases this with e | e | e | e <;> subst e <;> omega
section
variable {fn fb fc fm fk : Int32} {fT fB : Int64} {aA aB aC aL tX tY tZ tW tP mX mY mZ mW mP kX kY kZ kW aH aD : Nat → Int32} {aI : Nat → Int64}
variable {P : Nat → hb_Q} {n : Nat}
theorem xb_rounded {post : Int32 → Prop} {x b : Int} (hx : -1000 ≤ x ∧ x ≤ 1000) (hb : 1 ≤ b ∧ b ≤ 4) (h : post (zi_I (x / b))) : wpX_roundedDown post (fn, fb, fc, fm, fk, fT, fB, aA, aB, aC, aL, tX, tY, tZ, tW, tP, mX, mY, mZ, mW, mP, aI, kX, kY, kZ, kW, aH, aD) (zi_I x) (zi_I b) := by
  obtain ⟨f1, f2⟩ := zi_fl hx hb
  have nb : ¬ zi_I b = 0 := fun z => by
    have := (zi_eq0 (a := b) ⟨by omega, by omega⟩).mp z
    omega
  unfold wpX_roundedDown
  refine ek_if (zi_lt0 ⟨by omega, by omega⟩) (fun h0 => ⟨nb, ?_⟩) (fun h0 => ⟨nb, ?_⟩)
  · rw [f2 h0]; exact h
  · rw [f1 h0]; exact h
theorem hw_step {p : Nat} {x y : Int} {lo hi : Int} (h6 : 6 ≤ p) (hs : ∀ z, -8 ≤ z → z ≤ 8 → (hw_ok P p x y z ↔ lo ≤ z ∧ z ≤ hi)) {lo' hi' : Int} (hn : ∀ z, -8 ≤ z → z ≤ 8 → ((lo ≤ z ∧ z ≤ hi) ∧ (P p).1 * x + (P p).2.1 * y + (P p).2.2.1 * z ≤ (P p).2.2.2 ↔ lo' ≤ z ∧ z ≤ hi')) : ∀ z, -8 ≤ z → z ≤ 8 → (hw_ok P (p + 1) x y z ↔ lo' ≤ z ∧ z ≤ hi') := by
  intro z z1 z2
  rw [← hn z z1 z2, ← hs z z1 z2]
  constructor
  · intro h
    exact ⟨fun i h1 h2 => h i h1 (by omega), h p h6 (by omega)⟩
  · intro ⟨h1, h2⟩ i hi1 hi2
    by_cases e : i = p
    · rw [e]; exact h2
    · exact h1 i hi1 (by omega)
theorem xb_in99 {post : Int32 → Prop} {J : Int32 → Int32 → Int32 → Prop} {x1 x2 : Int32} {lo hi c l : Int} {p : Nat} (hlo : -8 ≤ lo ∧ lo ≤ 1000) (hc : -4 ≤ c ∧ c ≤ 4) (hl : -1000 ≤ l ∧ l ≤ 1000) (h0 : 0 ≤ c → J (zi_I lo) (zi_I hi) (nI (p + 1))) (h1 : c < 0 → ∀ lo', (∀ z : Int, (lo ≤ z ∧ c * z ≤ l) ↔ lo' ≤ z) → -8 ≤ lo' ∧ lo' ≤ 1000 → J (zi_I lo') (zi_I hi) (nI (p + 1))) : wX_wholeIn_99 post J x1 x2 (zi_I lo) (zi_I hi) (nI p) (zi_I c) (zi_I l) fn fb fc fm fk fT fB aA aB aC aL tX tY tZ tW tP mX mY mZ mW mP aI kX kY kZ kW aH aD := by
  unfold wX_wholeIn_99
  refine ek_if (zi_ge0 ⟨by omega, by omega⟩) (fun h => nm_r (nI_1 p) (h0 h)) (fun h => ?_)
  obtain ⟨b, rfl⟩ : ∃ b, c = -b := ⟨-c, by omega⟩
  rw [zi_neg, Int.neg_neg]
  refine xb_rounded hl (by omega) ?_
  have q : -1000 ≤ l / b ∧ l / b ≤ 1000 := by
    have : b = 1 ∨ b = 2 ∨ b = 3 ∨ b = 4 := by omega
    rcases this with e | e | e | e <;> subst e <;> omega
  have key : ∀ z : Int, (-b) * z ≤ l ↔ -(l / b) ≤ z := fun z => by
    have : b = 1 ∨ b = 2 ∨ b = 3 ∨ b = 4 := by omega
    rcases this with e | e | e | e <;> subst e <;> omega
  refine nm_r (zi_neg _) (ek_if (zi_le ⟨by omega, by omega⟩ ⟨by omega, by omega⟩) (fun g => nm_r (nI_1 p) (h1 (by omega) lo (fun z => ?_) (by omega))) (fun g => nm_r (nI_1 p) (h1 (by omega) _ (fun z => ?_) (by omega))))
  · rw [key z]; omega
  · rw [key z]; omega
theorem xb_in73 {post : Int32 → Prop} {J : Int32 → Int32 → Int32 → Prop} {x1 x2 : Int32} {lo hi c l : Int} {p : Nat} (hlo : -8 ≤ lo ∧ lo ≤ 1000) (hhi : -1000 ≤ hi ∧ hi ≤ 8) (hc : -4 ≤ c ∧ c ≤ 4) (hl : -1000 ≤ l ∧ l ≤ 1000) (hz : c = 0 → 0 ≤ l) (h : ∀ lo' hi', (∀ z : Int, ((lo ≤ z ∧ z ≤ hi) ∧ c * z ≤ l) ↔ lo' ≤ z ∧ z ≤ hi') → (-8 ≤ lo' ∧ lo' ≤ 1000) → (-1000 ≤ hi' ∧ hi' ≤ 8) → J (zi_I lo') (zi_I hi') (nI (p + 1))) : wX_wholeIn_73 post J x1 x2 (zi_I lo) (zi_I hi) (nI p) (zi_I c) (zi_I l) fn fb fc fm fk fT fB aA aB aC aL tX tY tZ tW tP mX mY mZ mW mP aI kX kY kZ kW aH aD := by
  unfold wX_wholeIn_73
  refine ek_if (zi_le0 ⟨by omega, by omega⟩) (fun h0 => ?_) (fun h0 => ?_)
  · refine xb_in99 hlo hc hl (fun hc0 => h lo hi (fun z => ?_) hlo hhi) (fun hc0 lo' hlo' hb => h lo' hi (fun z => ?_) hb hhi)
    · have e : c = 0 := by omega
      have := hz e
      subst e
      omega
    · rw [← hlo' z]; omega
  · refine xb_rounded hl (by omega) ?_
    have q : -1000 ≤ l / c ∧ l / c ≤ 1000 := by
      have : c = 1 ∨ c = 2 ∨ c = 3 ∨ c = 4 := by omega
      rcases this with e | e | e | e <;> subst e <;> omega
    have key : ∀ z : Int, c * z ≤ l ↔ z ≤ l / c := fun z => by
      have : c = 1 ∨ c = 2 ∨ c = 3 ∨ c = 4 := by omega
      rcases this with e | e | e | e <;> subst e <;> omega
    refine ek_if (zi_le ⟨by omega, by omega⟩ ⟨by omega, by omega⟩) (fun g => ?_) (fun g => ?_)
    · refine xb_in99 hlo hc hl (fun _ => h lo hi (fun z => ?_) hlo hhi) (fun hc0 => by omega)
      rw [key z]; omega
    · refine xb_in99 hlo hc hl (fun _ => h lo (l / c) (fun z => ?_) hlo (by omega)) (fun hc0 => by omega)
      rw [key z]; omega
theorem xb_in11 {post : Int32 → Prop} {x y : Int} (hx : -8 ≤ x ∧ x ≤ 8) (hy : -8 ≤ y ∧ y ≤ 8) (hPl : hb_Pl n P) (hA : ∀ i, i < 6 + n → hb_qt aA aB aC aL i = P i) (h : post (nI (hw_col P (6 + n) x y))) : ∀ (d p : Nat) (lo hi : Int), p + d = 6 + n → 6 ≤ p → (-8 ≤ lo ∧ lo ≤ 1000) → (-1000 ≤ hi ∧ hi ≤ 8) → (∀ z, -8 ≤ z → z ≤ 8 → (hw_ok P p x y z ↔ lo ≤ z ∧ z ≤ hi)) → wX_wholeIn_11 post (zi_I x) (zi_I y) (nI n) fb fc fm fk fT fB aA aB aC aL tX tY tZ tW tP mX mY mZ mW mP aI kX kY kZ kW aH aD (d + 1) (zi_I lo) (zi_I hi) (nI p) := by
  have n8 := hPl.1
  have e6 : (6 : Int32) + nI n = nI (6 + n) := nI_add 6 n
  intro d
  induction d with
  | zero =>
    intro p lo hi hp h6 hlo hhi hs
    have e : p = 6 + n := by omega
    subst e
    have cn : (hw_col P (6 + n) x y : Int) = if lo ≤ hi then hi - lo + 1 else 0 := by
      rw [← hu_ival hlo.1 hhi.2]
      unfold hw_col
      congr 1
      exact hu_cnt_congr 17 (fun z hz => hs _ (by omega) (by omega))
    rw [wX_wholeIn_11]
    refine br_t (show (6 : Int32) + nI n ≤ nI (6 + n) by rw [e6]; exact nI_le (Nat.le_refl _) (by omega)) ?_
    refine ek_if (zi_le ⟨by omega, by omega⟩ ⟨by omega, by omega⟩) (fun g => ?_) (fun g => ?_)
    · rw [if_pos g] at cn
      rw [zi_nI, cn] at h
      rw [zi_sub, show (1 : Int32) = zi_I 1 from rfl, zi_add]
      exact h
    · rw [if_neg g] at cn
      rw [zi_nI, cn] at h
      exact h
  | succ d ih =>
    intro p lo hi hp h6 hlo hhi hs
    have q := hA p (by omega)
    obtain ⟨g1, g2, g3, g4, -⟩ := hPl.2.2 p (by omega)
    have eA : (aA p).toInt = (P p).1 := congrArg (fun v : hb_Q => v.1) q
    have eB : (aB p).toInt = (P p).2.1 := congrArg (fun v : hb_Q => v.2.1) q
    have eC : (aC p).toInt = (P p).2.2.1 := congrArg (fun v : hb_Q => v.2.2.1) q
    have eL : (aL p).toInt = (P p).2.2.2 := congrArg (fun v : hb_Q => v.2.2.2) q
    have m1 := hb_mulb g1 hx
    have m2 := hb_mulb g2 hy
    have vi : vp_in (nI p) 16 := vp_in_nI (by omega) (by omega)
    have cp : (nI p).toNatClampNeg = p := nI_clamp (by omega)
    have el : (aL p - aA p * zi_I x) - aB p * zi_I y = zi_I ((P p).2.2.2 - (P p).1 * x - (P p).2.1 * y) := by
      rw [yb_mulI, yb_mulI, zi_of (aL p), zi_sub, zi_sub, eA, eB, eL]
    rw [wX_wholeIn_11]
    refine br_f (show ¬ (6 : Int32) + nI n ≤ nI p by rw [e6]; exact nI_ge (by omega) (by omega)) ⟨vi, nm_r (e' := zi_I (P p).2.2.1) (by rw [cp, ← eC]; exact zi_of _) ⟨vi, vi, vi, nm_r (e' := zi_I ((P p).2.2.2 - (P p).1 * x - (P p).2.1 * y)) (by rw [cp]; exact el) ?_⟩⟩
    have go : ((P p).2.2.1 = 0 → 0 ≤ (P p).2.2.2 - (P p).1 * x - (P p).2.1 * y) → wX_wholeIn_73 post (wX_wholeIn_11 post (zi_I x) (zi_I y) (nI n) fb fc fm fk fT fB aA aB aC aL tX tY tZ tW tP mX mY mZ mW mP aI kX kY kZ kW aH aD (d + 1)) (zi_I x) (zi_I y) (zi_I lo) (zi_I hi) (nI p) (zi_I (P p).2.2.1) (zi_I ((P p).2.2.2 - (P p).1 * x - (P p).2.1 * y)) (nI n) fb fc fm fk fT fB aA aB aC aL tX tY tZ tW tP mX mY mZ mW mP aI kX kY kZ kW aH aD := fun hz =>
      xb_in73 hlo hhi g3 (by omega) hz (fun lo' hi' he b1 b2 => ih (p + 1) lo' hi' (by omega) (by omega) b1 b2 (hw_step h6 hs (fun z _ _ => by rw [← he z]; omega)))
    refine ek_if (zi_eq0 ⟨by omega, by omega⟩) (fun c0 => ek_if (zi_ge0 ⟨by omega, by omega⟩) (fun l0 => go (fun _ => l0)) (fun l0 => ?_)) (fun c0 => go (fun e => absurd e c0))
    have z0 : hw_col P (6 + n) x y = 0 := hu_cnt_0 17 (fun z _ hz => by
      have := hz p h6 (by omega)
      rw [c0] at this
      omega)
    rw [z0] at h
    exact h
theorem xb_wholeIn {post : Int32 → Prop} {x y : Int} (hx : -8 ≤ x ∧ x ≤ 8) (hy : -8 ≤ y ∧ y ≤ 8) (hPl : hb_Pl n P) (hA : ∀ i, i < 6 + n → hb_qt aA aB aC aL i = P i) (h : post (nI (hw_col P (6 + n) x y))) : wpX_wholeIn post (nI n, fb, fc, fm, fk, fT, fB, aA, aB, aC, aL, tX, tY, tZ, tW, tP, mX, mY, mZ, mW, mP, aI, kX, kY, kZ, kW, aH, aD) (zi_I x) (zi_I y) :=
  ⟨n + 1, xb_in11 hx hy hPl hA h n 6 (-8) 8 (by omega) (by omega) (by omega) (by omega) (fun z h1 h2 => ⟨fun _ => ⟨h1, h2⟩, fun _ i a b => by omega⟩)⟩
theorem xb_whole14 {post : Int32 → Prop} {J : Int32 → Int32 → Prop} {x2 : Int32} {i e : Nat} (hi : i < 17) (e2 : x2 = zi_I ((i : Int) - 8)) (hPl : hb_Pl n P) (hA : ∀ i, i < 6 + n → hb_qt aA aB aC aL i = P i) (hJ : J (nI (e + hu_sm (fun j => hw_col P (6 + n) ((i : Int) - 8) ((j : Int) - 8)) 17)) (zi_I (((i + 1 : Nat) : Int) - 8))) : ∀ d j, j + d = 17 → wX_whole_14 post J x2 (nI n) fb fc fm fk fT fB aA aB aC aL tX tY tZ tW tP mX mY mZ mW mP aI kX kY kZ kW aH aD (d + 1) (nI (e + hu_sm (fun j => hw_col P (6 + n) ((i : Int) - 8) ((j : Int) - 8)) j)) (zi_I ((j : Int) - 8)) := by
  have s1 : ∀ q : Nat, zi_I ((q : Int) - 8) + 1 = zi_I (((q + 1 : Nat) : Int) - 8) := fun q => by
    rw [show (1 : Int32) = zi_I 1 from rfl, zi_add]; congr 1; omega
  intro d
  induction d with
  | zero =>
    intro j hj
    have e : j = 17 := by omega
    subst e
    rw [wX_whole_14]
    refine br_t (by decide) (nm_r (by rw [e2]; exact s1 i) hJ)
  | succ d ih =>
    intro j hj
    rw [wX_whole_14, e2]
    refine br_f (fun z => ?_) ?_
    · have := (zi_lt (a := 8) (b := (j : Int) - 8) ⟨by omega, by omega⟩ ⟨by omega, by omega⟩).mp z
      omega
    · refine xb_wholeIn (by omega) (by omega) hPl hA ?_
      refine nm_r (nI_add _ _) (nm_r (s1 j) ?_)
      have := ih (j + 1) (by omega)
      rw [hu_sm, ← Nat.add_assoc, e2] at this
      exact this
theorem xb_whole5 {post : Int32 → Prop} (hPl : hb_Pl n P) (hA : ∀ i, i < 6 + n → hb_qt aA aB aC aL i = P i) (h : post (nI (hw_all P (6 + n)))) : ∀ d i, i + d = 17 → wX_whole_5 post (nI n) fb fc fm fk fT fB aA aB aC aL tX tY tZ tW tP mX mY mZ mW mP aI kX kY kZ kW aH aD (d + 1) (nI (hu_sm (fun i => hu_sm (fun j => hw_col P (6 + n) ((i : Int) - 8) ((j : Int) - 8)) 17) i)) (zi_I ((i : Int) - 8)) := by
  intro d
  induction d with
  | zero =>
    intro i hi
    have e : i = 17 := by omega
    subst e
    rw [wX_whole_5]
    exact br_t (by decide) h
  | succ d ih =>
    intro i hi
    rw [wX_whole_5]
    refine br_f (fun z => ?_) ⟨18, ?_⟩
    · have := (zi_lt (a := 8) (b := (i : Int) - 8) ⟨by omega, by omega⟩ ⟨by omega, by omega⟩).mp z
      omega
    · exact xb_whole14 (e := hu_sm (fun i => hu_sm (fun j => hw_col P (6 + n) ((i : Int) - 8) ((j : Int) - 8)) 17) i) (by omega) rfl hPl hA (ih (i + 1) (by omega)) 17 0 (by omega)
end
section
variable {gn gp gc : Int32} {qN qD pA pB pC pD yX yY yZ yW yP yF : Nat → Int32}
variable {P : Nat → hb_Q} {n : Nat}
theorem yb_isIn3 {post : Int32 → Prop} {x y z : Int} (hx : -8 ≤ x ∧ x ≤ 8) (hy : -8 ≤ y ∧ y ≤ 8) (hz : -8 ≤ z ∧ z ≤ 8) (hPl : hb_Pl n P) (hA : ∀ i, i < 6 + n → hb_qt pA pB pC pD i = P i) (h1 : hw_ok P (6 + n) x y z → post 1) (h0 : ¬ hw_ok P (6 + n) x y z → post 0) : ∀ d s, s + d = 6 + n → (∀ i, i < s → (P i).1 * x + (P i).2.1 * y + (P i).2.2.1 * z ≤ (P i).2.2.2) → wY_isIn_3 post (zi_I x) (zi_I y) (zi_I z) gn (nI (6 + n)) gc qN qD pA pB pC pD yX yY yZ yW yP yF (d + 1) (nI s) := by
  have n8 := hPl.1
  have cube : ∀ i, i < 6 → (P i).1 * x + (P i).2.1 * y + (P i).2.2.1 * z ≤ (P i).2.2.2 := fun i hi => by
    obtain ⟨c0, c1, c2, c3, c4, c5⟩ := hPl.2.1
    have : i = 0 ∨ i = 1 ∨ i = 2 ∨ i = 3 ∨ i = 4 ∨ i = 5 := by omega
    rcases this with e | e | e | e | e | e <;> subst e
    · rw [c0]; simp only; omega
    · rw [c1]; simp only; omega
    · rw [c2]; simp only; omega
    · rw [c3]; simp only; omega
    · rw [c4]; simp only; omega
    · rw [c5]; simp only; omega
  intro d
  induction d with
  | zero =>
    intro s hs hj
    have e : s = 6 + n := by omega
    subst e
    rw [wY_isIn_3]
    exact br_t (nI_le (Nat.le_refl _) (by omega)) (h1 (fun i _ hi => hj i hi))
  | succ d ih =>
    intro s hs hj
    have q := hA s (by omega)
    obtain ⟨g1, g2, g3, g4, -⟩ := hPl.2.2 s (by omega)
    have eA : (pA s).toInt = (P s).1 := congrArg (fun v : hb_Q => v.1) q
    have eB : (pB s).toInt = (P s).2.1 := congrArg (fun v : hb_Q => v.2.1) q
    have eC : (pC s).toInt = (P s).2.2.1 := congrArg (fun v : hb_Q => v.2.2.1) q
    have eL : pD s = zi_I (P s).2.2.2 := by rw [zi_of (pD s)]; exact congrArg zi_I (congrArg (fun v : hb_Q => v.2.2.2) q)
    have m1 := hb_mulb g1 hx
    have m2 := hb_mulb g2 hy
    have m3 := hb_mulb g3 hz
    have vi : vp_in (nI s) 16 := vp_in_nI (by omega) (by omega)
    rw [wY_isIn_3]
    refine br_f (nI_ge (by omega) (by omega)) ⟨vi, vi, vi, vi, ?_⟩
    rw [nI_clamp (by omega), yb_mulI, yb_mulI, yb_mulI, zi_add, zi_add, eA, eB, eC, eL]
    refine ek_if (zi_le ⟨by omega, by omega⟩ ⟨by omega, by omega⟩) (fun g => nm_r (nI_1 s) (ih (s + 1) (by omega) (fun i hi => ?_))) (fun g => h0 (fun hk => ?_))
    · by_cases e : i = s
      · rw [e]; exact g
      · exact hj i (by omega)
    · rcases Nat.lt_or_ge s 6 with h6 | h6
      · exact g (cube s h6)
      · exact g (hk s h6 (by omega))
theorem yb_whole9 {post : Int32 → SY → Prop} (hPl : hb_Pl n P) (hA : ∀ i, i < 6 + n → hb_qt pA pB pC pD i = P i) (h : post (nI (hw_all P (6 + n))) (gn, nI (6 + n), gc, qN, qD, pA, pB, pC, pD, yX, yY, yZ, yW, yP, yF)) : ∀ d p, p + d = 4913 → wY_whole_9 post gn (nI (6 + n)) gc qN qD pA pB pC pD yX yY yZ yW yP yF (d + 1) (nI (hu_cnt (fun p => hw_ok P (6 + n) (((p % 17 : Nat) : Int) - 8) (((p / 17 % 17 : Nat) : Int) - 8) (((p / 289 : Nat) : Int) - 8)) p)) (nI p) := by
  intro d
  induction d with
  | zero =>
    intro p hp
    have e : p = 4913 := by omega
    subst e
    rw [wY_whole_9, hw_sum]
    exact br_t (by decide) h
  | succ d ih =>
    intro p hp
    have i1 := ih (p + 1) (by omega)
    have e1 : nI p - nI p / 17 * 17 = nI (p % 17) := pk_rem (d := 17) (by omega) (by omega) (by omega)
    have e2 : nI p / 17 = nI (p / 17) := pk_div (d := 17) (by omega) (by omega) (by omega)
    have e3 : nI (p / 17) - nI (p / 17) / 17 * 17 = nI (p / 17 % 17) := pk_rem (d := 17) (by omega) (by omega) (by omega)
    have e4 : nI p / 289 = nI (p / 289) := pk_div (d := 289) (by omega) (by omega) (by omega)
    have f8 : ∀ q : Nat, nI q - 8 = zi_I ((q : Int) - 8) := fun q => by rw [zi_nI, show (8 : Int32) = zi_I 8 from rfl, zi_sub]
    have fx : (nI p - nI p / 17 * 17) - 8 = zi_I (((p % 17 : Nat) : Int) - 8) := by rw [e1, f8]
    have fy : ((nI p / 17) - (nI p / 17) / 17 * 17) - 8 = zi_I (((p / 17 % 17 : Nat) : Int) - 8) := by rw [e2, e3, f8]
    have fz : (nI p / 289) - 8 = zi_I (((p / 289 : Nat) : Int) - 8) := by rw [e4, f8]
    rw [wY_whole_9]
    refine br_f (nI_ge (b := 4913) (by omega) (by decide)) ⟨by decide, by decide, by decide, by decide, ?_⟩
    rw [fx, fy, fz]
    refine ⟨6 + n + 1, yb_isIn3 (by omega) (by omega) (by omega) hPl hA (fun hk => br_f (by decide) (nm_r (nI_1 _) (nm_r (nI_1 p) ?_))) (fun hk => br_t rfl (nm_r (nI_1 p) ?_)) (6 + n) 0 (by omega) (fun i hi => absurd hi (Nat.not_lt_zero i))⟩
    · rw [hu_cnt_t (p := fun p => hw_ok P (6 + n) (((p % 17 : Nat) : Int) - 8) (((p / 17 % 17 : Nat) : Int) - 8) (((p / 289 : Nat) : Int) - 8)) hk] at i1; exact i1
    · rw [hu_cnt_f (p := fun p => hw_ok P (6 + n) (((p % 17 : Nat) : Int) - 8) (((p / 17 % 17 : Nat) : Int) - 8) (((p / 289 : Nat) : Int) - 8)) hk] at i1; exact i1
end
theorem i_vc_whole {k : Nat} {u : SX} {v : SY} (I : i_Rel k u v) (hk : k + 3 ≤ 1536) : wpX_whole (fun r => wpY_whole (fun r' v' => r' = r ∧ i_Rel (k + 3) u v') v) u := by
  refine rl_el (Q := fun u v => wpX_whole (fun r => wpY_whole (fun r' v' => r' = r ∧ i_Rel (k + 3) u v') v) u) ?_ I
  intro n P fn fb fc fm fk fT fB aA aB aC aL tX tY tZ tW tP mX mY mZ mW mP aI kX kY kZ kW aH aD gn gp gc qN qD pA pB pC pD yX yY yZ yW yP yF hX hY
  have e1 := hX.2.1
  subst e1
  refine ⟨18, ?_⟩
  refine xb_whole5 hX.1 hX.2.2.1 ?_ 17 0 (by omega)
  unfold wpY_whole
  refine yb_setAll hX.1 hY (fun pA pB pC pD hj => ⟨4914, ?_⟩)
  exact yb_whole9 hX.1 hj ⟨rfl, rl_mk hX ⟨rfl, hY.2⟩⟩ 4913 0 (by omega)
end
section
/-! points by one key: the different ones in order, the outer ones -/
section
variable {K W : Nat → Int} {c : Nat}
def hs_lt (K W : Nat → Int) (i j : Nat) : Prop := K i * W j < K j * W i
def hs_eq (K W : Nat → Int) (i j : Nat) : Prop := K i * W j = K j * W i
theorem hs_lt_tr {i j k : Nat} (hi : 0 < W i) (hj : 0 < W j) (hk : 0 < W k) (h1 : hs_lt K W i j) (h2 : hs_lt K W j k) : hs_lt K W i k := hb_frac_tr' hi hj hk h1 (Int.le_of_lt h2)
theorem hs_lt_eq {i j k : Nat} (hi : 0 < W i) (hj : 0 < W j) (hk : 0 < W k) (h1 : hs_lt K W i j) (h2 : hs_eq K W j k) : hs_lt K W i k := hb_frac_tr' hi hj hk h1 (Int.le_of_eq h2)
theorem hs_eq_lt {i j k : Nat} (hi : 0 < W i) (hj : 0 < W j) (hk : 0 < W k) (h1 : hs_eq K W i j) (h2 : hs_lt K W j k) : hs_lt K W i k := hb_frac_tr2 hi hj hk (Int.le_of_eq h1) h2
theorem hs_eq_tr {i j k : Nat} (hi : 0 < W i) (hj : 0 < W j) (hk : 0 < W k) (h1 : hs_eq K W i j) (h2 : hs_eq K W j k) : hs_eq K W i k :=
  Int.le_antisymm (hb_frac_tr hi hj hk (Int.le_of_eq h1) (Int.le_of_eq h2)) (hb_frac_tr hk hj hi (Int.le_of_eq h2.symm) (Int.le_of_eq h1.symm))
theorem hs_eq_symm {i j : Nat} (h : hs_eq K W i j) : hs_eq K W j i := Eq.symm h
theorem hs_tri (K W : Nat → Int) (i j : Nat) : hs_lt K W i j ∨ hs_eq K W i j ∨ hs_lt K W j i := Int.lt_trichotomy _ _
theorem hs_irr (i : Nat) : ¬ hs_lt K W i i := Int.lt_irrefl _
theorem hs_lt_ne {i j : Nat} (h : hs_lt K W i j) : ¬ hs_eq K W i j := fun e => by unfold hs_lt at h; unfold hs_eq at e; omega
theorem hs_lt_as {i j : Nat} (h : hs_lt K W i j) : ¬ hs_lt K W j i := fun e => by unfold hs_lt at h e; omega
/-- the different points in order, each by its first index -/
def hs_Seq (K W : Nat → Int) (c N : Nat) (s : Nat → Nat) : Prop := (∀ t, t < N → s t < c ∧ ∀ j, j < s t → ¬ hs_eq K W j (s t)) ∧ (∀ t, t + 1 < N → hs_lt K W (s t) (s (t + 1))) ∧ (∀ k, k < c → ∃ t, t < N ∧ hs_eq K W k (s t))
/-- the first least one of those that A allows, below k -/
def hs_Mn (K W : Nat → Int) (A : Nat → Prop) (k b : Nat) : Prop := b < k ∧ A b ∧ (∀ j, j < k → A j → ¬ hs_lt K W j b) ∧ (∀ j, j < b → A j → hs_lt K W b j)
theorem hs_mn_new {A : Nat → Prop} {k b : Nat} (hw : ∀ j, j ≤ k → 0 < W j) (h : hs_Mn K W A k b) (ha : A k) (hl : hs_lt K W k b) : hs_Mn K W A (k + 1) k := by
  obtain ⟨h1, h2, h3, h4⟩ := h
  have lt : ∀ j, j < k → A j → hs_lt K W k j := fun j hj hja => by
    rcases hs_tri K W b j with h | h | h
    · exact hs_lt_tr (hw k (by omega)) (hw b (by omega)) (hw j (by omega)) hl h
    · exact hs_lt_eq (hw k (by omega)) (hw b (by omega)) (hw j (by omega)) hl h
    · exact absurd h (h3 j hj hja)
  refine ⟨by omega, ha, fun j hj hja => ?_, lt⟩
  by_cases e : j = k
  · rw [e]; exact hs_irr k
  · exact hs_lt_as (lt j (by omega) hja)
theorem hs_mn_keep {A : Nat → Prop} {k b : Nat} (h : hs_Mn K W A k b) (hl : A k → ¬ hs_lt K W k b) : hs_Mn K W A (k + 1) b := by
  obtain ⟨h1, h2, h3, h4⟩ := h
  refine ⟨by omega, h2, fun j hj hja => ?_, h4⟩
  by_cases e : j = k
  · rw [e] at hja ⊢; exact hl hja
  · exact h3 j (by omega) hja
theorem hs_mn_first {A : Nat → Prop} {k : Nat} (hn : ∀ j, j < k → ¬ A j) (ha : A k) : hs_Mn K W A (k + 1) k := by
  refine ⟨by omega, ha, fun j hj hja => ?_, fun j hj hja => absurd hja (hn j hj)⟩
  by_cases e : j = k
  · rw [e]; exact hs_irr k
  · exact absurd hja (hn j (by omega))
theorem hs_mn_ex {A : Nat → Prop} : ∀ k, (∀ j, j ≤ k → 0 < W j) → (∀ j, j < k → ¬ A j) ∨ ∃ b, hs_Mn K W A k b := by
  intro k
  induction k with
  | zero => intro _; exact Or.inl (fun j hj => absurd hj (Nat.not_lt_zero j))
  | succ k ih =>
    intro hw
    rcases ih (fun j hj => hw j (by omega)) with h | ⟨b, h⟩
    · by_cases ha : A k
      · exact Or.inr ⟨k, hs_mn_first h ha⟩
      · refine Or.inl (fun j hj => ?_)
        by_cases e : j = k
        · rw [e]; exact ha
        · exact h j (by omega)
    · by_cases hl : A k ∧ hs_lt K W k b
      · exact Or.inr ⟨k, hs_mn_new (fun j hj => hw j (by omega)) h hl.1 hl.2⟩
      · exact Or.inr ⟨b, hs_mn_keep h (fun ha hlt => hl ⟨ha, hlt⟩)⟩
/-- what may come behind the first n of a sequence -/
def hs_Af (K W : Nat → Int) (s : Nat → Nat) (n k : Nat) : Prop := n = 0 ∨ hs_lt K W (s (n - 1)) k
def hs_Ch (K W : Nat → Int) (c n : Nat) (s : Nat → Nat) : Prop := (∀ t, t < n → s t < c ∧ ∀ j, j < s t → ¬ hs_eq K W j (s t)) ∧ (∀ t, t + 1 < n → hs_lt K W (s t) (s (t + 1))) ∧ (∀ k, k < c → (∃ t, t < n ∧ hs_eq K W k (s t)) ∨ hs_Af K W s n k)
theorem hs_mono {N : Nat} {s : Nat → Nat} (hw : ∀ i, i < c → 0 < W i) (h1 : ∀ t, t < N → s t < c) (h2 : ∀ t, t + 1 < N → hs_lt K W (s t) (s (t + 1))) : ∀ d i, i + d + 1 < N → hs_lt K W (s i) (s (i + d + 1)) := by
  intro d
  induction d with
  | zero => intro i hi; exact h2 i hi
  | succ d ih =>
    intro i hi
    have e : i + (d + 1) + 1 = i + d + 1 + 1 := by omega
    rw [e]
    exact hs_lt_tr (hw _ (h1 i (by omega))) (hw _ (h1 (i + d + 1) (by omega))) (hw _ (h1 (i + d + 1 + 1) (by omega))) (ih i (by omega)) (h2 (i + d + 1) (by omega))
theorem hs_mono' {N : Nat} {s : Nat → Nat} (hw : ∀ i, i < c → 0 < W i) (h1 : ∀ t, t < N → s t < c) (h2 : ∀ t, t + 1 < N → hs_lt K W (s t) (s (t + 1))) {i j : Nat} (hij : i < j) (hj : j < N) : hs_lt K W (s i) (s j) := by
  have := hs_mono hw h1 h2 (j - i - 1) i (by omega)
  have e : i + (j - i - 1) + 1 = j := by omega
  rw [e] at this
  exact this
theorem hs_seq_ex (hw : ∀ i, i < c → 0 < W i) : ∃ N s, hs_Seq K W c N s := by
  have step : ∀ n s, hs_Ch K W c n s → (∃ N s, hs_Seq K W c N s) ∨ ∃ s', hs_Ch K W c (n + 1) s' := by
    intro n s ⟨h1, h2, h3⟩
    by_cases hc : ∀ k, k < c → ∃ t, t < n ∧ hs_eq K W k (s t)
    · exact Or.inl ⟨n, s, h1, h2, hc⟩
    · refine Or.inr ?_
      have hw' : ∀ j, j ≤ c - 1 → c ≠ 0 → 0 < W j := fun j hj hc0 => hw j (by omega)
      have c0 : c ≠ 0 := fun e => hc (fun k hk => by omega)
      obtain ⟨c1, rfl⟩ : ∃ c1, c = c1 + 1 := ⟨c - 1, by omega⟩
      -- the first least one behind
      have hex : (∀ j, j < c1 + 1 → ¬ hs_Af K W s n j) ∨ ∃ b, hs_Mn K W (hs_Af K W s n) (c1 + 1) b := by
        rcases hs_mn_ex (K := K) (A := hs_Af K W s n) c1 (fun j hj => hw j (by omega)) with h | ⟨b, h⟩
        · by_cases ha : hs_Af K W s n c1
          · exact Or.inr ⟨c1, hs_mn_first h ha⟩
          · refine Or.inl (fun j hj => ?_)
            by_cases e : j = c1
            · rw [e]; exact ha
            · exact h j (by omega)
        · by_cases hl : hs_Af K W s n c1 ∧ hs_lt K W c1 b
          · exact Or.inr ⟨c1, hs_mn_new (fun j hj => hw j (by omega)) h hl.1 hl.2⟩
          · exact Or.inr ⟨b, hs_mn_keep h (fun ha hlt => hl ⟨ha, hlt⟩)⟩
      rcases hex with hn | ⟨b, hb1, hb2, hb3, hb4⟩
      · exact absurd (fun k hk => (h3 k hk).elim id (fun ha => absurd ha (hn k hk))) hc
      · have sb : ∀ t, t < n → hs_lt K W (s t) b := fun t ht => by
          rcases hb2 with h | h
          · omega
          · by_cases e : t = n - 1
            · rw [e]; exact h
            · exact hs_lt_tr (hw _ (h1 t ht).1) (hw _ (h1 (n - 1) (by omega)).1) (hw b hb1) (hs_mono' hw (fun t ht => (h1 t ht).1) h2 (by omega) (by omega)) h
        refine ⟨fun t => if t = n then b else s t, fun t ht => ?_, fun t ht => ?_, fun k hk => ?_⟩
        · by_cases e : t = n
          · simp only [if_pos e]
            refine ⟨hb1, fun j hj he => ?_⟩
            have ja : hs_Af K W s n j := by
              rcases hb2 with h | h
              · exact Or.inl h
              · exact Or.inr (hs_lt_eq (hw _ (h1 (n - 1) (by
                  rcases Nat.eq_zero_or_pos n with z | z
                  · exfalso
                    rcases h3 b hb1 with ⟨t, ht', _⟩ | hf
                    · omega
                    · have := hb4 j hj (Or.inl z)
                      exact hs_lt_ne this (hs_eq_symm he)
                  · omega)).1) (hw b hb1) (hw j (by omega)) h (hs_eq_symm he))
            exact hs_lt_ne (hb4 j hj ja) (hs_eq_symm he)
          · simp only [if_neg e]
            exact h1 t (by omega)
        · by_cases e : t + 1 = n
          · simp only [if_pos e, if_neg (by omega : ¬ t = n)]
            exact sb t (by omega)
          · simp only [if_neg e, if_neg (by omega : ¬ t = n)]
            exact h2 t (by omega)
        · have en : n + 1 - 1 = n := by omega
          have eb : (if n + 1 - 1 = n then b else s (n + 1 - 1)) = b := if_pos en
          rcases h3 k hk with ⟨t, ht, he⟩ | ha
          · exact Or.inl ⟨t, by omega, by simp only [if_neg (by omega : ¬ t = n)]; exact he⟩
          · rcases hs_tri K W b k with h | h | h
            · refine Or.inr (Or.inr ?_)
              show hs_lt K W (if n + 1 - 1 = n then b else s (n + 1 - 1)) k
              rw [eb]; exact h
            · exact Or.inl ⟨n, by omega, by simp only [if_true]; exact hs_eq_symm h⟩
            · exact absurd h (hb3 k hk ha)
  have all : ∀ n, (∃ N s, hs_Seq K W c N s) ∨ ∃ s, hs_Ch K W c n s := by
    intro n
    induction n with
    | zero => exact Or.inr ⟨fun _ => 0, fun t ht => absurd ht (Nat.not_lt_zero t), fun t ht => absurd ht (Nat.not_lt_zero _), fun k _ => Or.inr (Or.inl rfl)⟩
    | succ n ih =>
      rcases ih with h | ⟨s, h⟩
      · exact Or.inl h
      · exact step n s h
  rcases all (c + 1) with h | ⟨s, h1, h2, h3⟩
  · exact h
  · have := hb_pig c (c + 1) s (fun t ht => (h1 t ht).1) (fun i j hi hj e => by
      rcases Nat.lt_trichotomy i j with h | h | h
      · have := hs_mono' hw (fun t ht => (h1 t ht).1) h2 h hj
        rw [e] at this
        exact absurd this (hs_irr _)
      · exact h
      · have := hs_mono' hw (fun t ht => (h1 t ht).1) h2 h hi
        rw [e] at this
        exact absurd this (hs_irr _))
    omega
variable {N : Nat} {s : Nat → Nat}
/-- what 'next behind' finds -/
theorem hs_next (hw : ∀ i, i < c → 0 < W i) (h : hs_Seq K W c N s) {n b : Nat} (hn : n ≤ N) (hb : hs_Mn K W (hs_Af K W s n) c b) : n < N ∧ b = s n := by
  obtain ⟨h1, h2, h3⟩ := h
  obtain ⟨b1, b2, b3, b4⟩ := hb
  obtain ⟨t, ht, et⟩ := h3 b b1
  have mono : ∀ {i j : Nat}, i < j → j < N → hs_lt K W (s i) (s j) := fun hij hj => hs_mono' hw (fun t ht => (h1 t ht).1) h2 hij hj
  have tn : n ≤ t := by
    rcases b2 with h | h
    · omega
    · rcases Nat.lt_or_ge t n with hl | hl
      · exfalso
        by_cases e : t = n - 1
        · rw [← e] at h
          exact hs_lt_ne h (hs_eq_symm et)
        · have m := mono (by omega : t < n - 1) (by omega)
          have m2 := hs_lt_tr (hw _ (h1 t ht).1) (hw _ (h1 (n - 1) (by omega)).1) (hw b b1) m h
          exact hs_lt_ne m2 (hs_eq_symm et)
      · exact hl
  have nN : n < N := by omega
  have an : hs_Af K W s n (s n) := by
    rcases Nat.eq_zero_or_pos n with z | z
    · exact Or.inl z
    · refine Or.inr ?_
      have := h2 (n - 1) (by omega)
      have e : n - 1 + 1 = n := by omega
      rw [e] at this
      exact this
  have te : t = n := by
    rcases Nat.lt_or_eq_of_le tn with hl | hl
    · have m := mono hl ht
      have m2 := hs_lt_eq (hw _ (h1 n nN).1) (hw _ (h1 t ht).1) (hw b b1) m (hs_eq_symm et)
      exact absurd m2 (b3 (s n) (h1 n nN).1 an)
    · exact hl.symm
  subst te
  refine ⟨nN, ?_⟩
  rcases Nat.lt_trichotomy b (s t) with h | h | h
  · exact absurd et ((h1 t ht).2 b h)
  · exact h
  · exact absurd et (hs_lt_ne (b4 (s t) h an))
theorem hs_next_ex (hw : ∀ i, i < c → 0 < W i) (h : hs_Seq K W c N s) {n : Nat} (hn : n < N) : hs_Af K W s n (s n) := by
  rcases Nat.eq_zero_or_pos n with z | z
  · exact Or.inl z
  · refine Or.inr ?_
    have := h.2.1 (n - 1) (by omega)
    have e : n - 1 + 1 = n := by omega
    rw [e] at this
    exact this
theorem hs_ord (hw : ∀ i, i < c → 0 < W i) (h : hs_Seq K W c N s) : hu_Ord (fun t => K (s t)) (fun t => W (s t)) N := by
  refine ⟨fun i hi => hw _ (h.1 i hi).1, fun i j hij hj => ?_⟩
  have := hs_mono' hw (fun t ht => (h.1 t ht).1) h.2.1 hij hj
  unfold hs_lt at this
  show 0 < K (s j) * W (s i) - K (s i) * W (s j)
  omega
theorem hs_seq_inj (hw : ∀ i, i < c → 0 < W i) (h : hs_Seq K W c N s) {i j : Nat} (hi : i < N) (hj : j < N) (e : hs_eq K W (s i) (s j)) : i = j := by
  rcases Nat.lt_trichotomy i j with h' | h' | h'
  · exact absurd e (hs_lt_ne (hs_mono' hw (fun t ht => (h.1 t ht).1) h.2.1 h' hj))
  · exact h'
  · exact absurd (hs_eq_symm e) (hs_lt_ne (hs_mono' hw (fun t ht => (h.1 t ht).1) h.2.1 h' hi))
end
/-! the key of a point with two coordinates -/
section
variable {U V W : Nat → Int} {c : Nat}
def hs_K (U V : Nat → Int) : Nat → Int := fun k => 10000000 * U k + V k
def hs_df (U W : Nat → Int) (i j : Nat) : Int := U i * W j - U j * W i
def hs_Ok (V W : Nat → Int) (c : Nat) : Prop := (∀ i, i < c → 0 < W i) ∧ ∀ i j, i < c → j < c → -9000000 < hs_df V W i j ∧ hs_df V W i j < 9000000
theorem hs_key (i j : Nat) : hs_K U V i * W j - hs_K U V j * W i = 10000000 * hs_df U W i j + hs_df V W i j := by
  simp only [hs_K, hs_df]; grind
theorem hs_lt_iff (h : hs_Ok V W c) {i j : Nat} (hi : i < c) (hj : j < c) : hs_lt (hs_K U V) W i j ↔ (hs_df U W i j < 0 ∨ (hs_df U W i j = 0 ∧ hs_df V W i j < 0)) := by
  have k := hs_key (U := U) (V := V) (W := W) i j
  have b := h.2 i j hi hj
  unfold hs_lt
  omega
theorem hs_eq_iff (h : hs_Ok V W c) {i j : Nat} (hi : i < c) (hj : j < c) : hs_eq (hs_K U V) W i j ↔ (hs_df U W i j = 0 ∧ hs_df V W i j = 0) := by
  have k := hs_key (U := U) (V := V) (W := W) i j
  have b := h.2 i j hi hj
  unfold hs_eq
  omega
theorem hs_D (i j k : Nat) : hu_D (hs_K U V) V W i j k = 10000000 * hu_D U V W i j k := by
  simp only [hu_D, hs_K]; grind
/-- turn and dot as Y takes them: from k, over q and j -/
def hs_T (U V W : Nat → Int) (k q j : Nat) : Int := hs_df U W q k * hs_df V W j k - hs_df V W q k * hs_df U W j k
def hs_S (U V W : Nat → Int) (k q j : Nat) : Int := hs_df U W q k * hs_df U W j k + hs_df V W q k * hs_df V W j k
def hs_B (U V W : Nat → Int) (k q j : Nat) : Prop := 0 < hs_T U V W k q j ∨ (hs_T U V W k q j = 0 ∧ 0 ≤ hs_S U V W k q j)
theorem hs_T_D (k q j : Nat) : hs_T U V W k q j = W k * hu_D U V W k q j := by
  simp only [hs_T, hs_df, hu_D]; grind
theorem hs_l (t x : Nat) : hu_l (hs_K U V) W t x = 10000000 * hs_df U W x t + hs_df V W x t := by
  simp only [hu_l, hs_K, hs_df]; grind
theorem hs_TS {k q j : Nat} (h : hs_T U V W k q j = 0) : (hs_df U W q k * hs_df U W q k + hs_df V W q k * hs_df V W q k) * hu_l (hs_K U V) W k j = hu_l (hs_K U V) W k q * hs_S U V W k q j := by
  rw [hs_l, hs_l]
  unfold hs_T at h
  unfold hs_S
  grind
theorem hs_B_iff (h : hs_Ok V W c) {k q j : Nat} (hk : k < c) (hq : q < c) (hj : j < c) (nq : ¬ hs_eq (hs_K U V) W q k) (nj : ¬ hs_eq (hs_K U V) W j k) : hs_B U V W k q j ↔ (0 < hu_D (hs_K U V) V W k q j ∨ (hu_D (hs_K U V) V W k q j = 0 ∧ 0 < hu_l (hs_K U V) W k q * hu_l (hs_K U V) W k j)) := by
  have wk := h.1 k hk
  rw [hs_D]
  have e := hs_T_D (U := U) (V := V) (W := W) k q j
  have pos : 0 < hs_T U V W k q j ↔ 0 < 10000000 * hu_D U V W k q j := by
    rw [e]
    constructor
    · intro hh
      have := Int.pos_of_mul_pos_right hh wk
      omega
    · intro hh
      exact Int.mul_pos wk (by omega)
  have zer : hs_T U V W k q j = 0 ↔ 10000000 * hu_D U V W k q j = 0 := by
    rw [e]
    constructor
    · intro hh
      have := hb_cancel0 (a := W k) (by omega) hh
      omega
    · intro hh
      have : hu_D U V W k q j = 0 := by omega
      rw [this]; omega
  unfold hs_B
  rw [pos]
  have lq : hu_l (hs_K U V) W k q ≠ 0 := fun z => nq (by unfold hs_eq; unfold hu_l at z; omega)
  have lj : hu_l (hs_K U V) W k j ≠ 0 := fun z => nj (by unfold hs_eq; unfold hu_l at z; omega)
  have sq : 0 < hs_df U W q k * hs_df U W q k + hs_df V W q k * hs_df V W q k := by
    have h1 := hb_sq (hs_df U W q k)
    have h2 := hb_sq (hs_df V W q k)
    by_cases z1 : hs_df U W q k = 0
    · by_cases z2 : hs_df V W q k = 0
      · exact absurd ((hs_eq_iff h hq hk).mpr ⟨z1, z2⟩) nq
      · have := hb_sqp z2; omega
    · have := hb_sqp z1; omega
  constructor
  · intro hh
    rcases hh with hh | ⟨h0, hs⟩
    · exact Or.inl hh
    · refine Or.inr ⟨zer.mp h0, ?_⟩
      have ts := hs_TS h0
      rcases Int.lt_or_gt_of_ne lq with a | a <;> rcases Int.lt_or_gt_of_ne lj with b | b
      · exact Int.mul_pos_of_neg_of_neg a b
      · have p1 := Int.mul_pos sq b
        have p2 := hu_np hs a
        rw [Int.mul_comm] at p2
        omega
      · have p1 := Int.mul_neg_of_pos_of_neg sq b
        have p2 := Int.mul_nonneg (Int.le_of_lt a) hs
        omega
      · exact Int.mul_pos a b
  · intro hh
    rcases hh with hh | ⟨h0, hl⟩
    · exact Or.inl hh
    · have z := zer.mpr h0
      refine Or.inr ⟨z, ?_⟩
      have ts := hs_TS z
      rcases Int.lt_or_gt_of_ne lq with a | a <;> rcases Int.lt_or_gt_of_ne lj with b | b
      · have p1 := Int.mul_neg_of_pos_of_neg sq b
        rw [ts, Int.mul_comm] at p1
        exact Int.le_of_lt (hu_pos_neg p1 a)
      · have := Int.mul_neg_of_neg_of_pos a b; omega
      · have := Int.mul_neg_of_pos_of_neg a b; omega
      · have p1 := Int.mul_pos sq b
        rw [ts, Int.mul_comm] at p1
        exact Int.le_of_lt (hu_pos_pos p1 a)
/-- the same shadow: the same answers -/
theorem hs_T_j {k q x y : Nat} (h1 : hs_df U W x y = 0) (h2 : hs_df V W x y = 0) : hs_T U V W k q x * W y = hs_T U V W k q y * W x ∧ hs_S U V W k q x * W y = hs_S U V W k q y * W x := by
  simp only [hs_T, hs_S, hs_df] at *
  refine ⟨?_, ?_⟩ <;> grind
theorem hs_T_q {k x y j : Nat} (h1 : hs_df U W x y = 0) (h2 : hs_df V W x y = 0) : hs_T U V W k x j * W y = hs_T U V W k y j * W x ∧ hs_S U V W k x j * W y = hs_S U V W k y j * W x := by
  simp only [hs_T, hs_S, hs_df] at *
  refine ⟨?_, ?_⟩ <;> grind
theorem hs_scale {a b x y : Int} (hx : 0 < x) (hy : 0 < y) (e : a * y = b * x) : (0 < a ↔ 0 < b) ∧ (a = 0 ↔ b = 0) ∧ (0 ≤ a ↔ 0 ≤ b) := by
  have f1 : 0 < a → 0 < b := fun h => by
    have := Int.mul_pos h hy
    rw [e] at this
    exact hu_pos_pos this hx
  have f2 : 0 < b → 0 < a := fun h => by
    have := Int.mul_pos h hx
    rw [← e] at this
    exact hu_pos_pos this hy
  have g1 : a = 0 → b = 0 := fun h => by
    rw [h] at e
    rcases Int.mul_eq_zero.mp (by omega : b * x = 0) with h' | h'
    · exact h'
    · omega
  have g2 : b = 0 → a = 0 := fun h => by
    rw [h] at e
    rcases Int.mul_eq_zero.mp (by omega : a * y = 0) with h' | h'
    · exact h'
    · omega
  refine ⟨⟨f1, f2⟩, ⟨g1, g2⟩, fun h => ?_, fun h => ?_⟩
  · rcases Int.lt_or_eq_of_le h with h' | h'
    · exact Int.le_of_lt (f1 h')
    · exact Int.le_of_eq (g1 h'.symm).symm
  · rcases Int.lt_or_eq_of_le h with h' | h'
    · exact Int.le_of_lt (f2 h')
    · exact Int.le_of_eq (g2 h'.symm).symm
theorem hs_B_j {k q x y : Nat} (wx : 0 < W x) (wy : 0 < W y) (h1 : hs_df U W x y = 0) (h2 : hs_df V W x y = 0) : hs_B U V W k q x ↔ hs_B U V W k q y := by
  obtain ⟨e1, e2⟩ := hs_T_j (k := k) (q := q) h1 h2
  obtain ⟨a1, a2, -⟩ := hs_scale wx wy e1
  obtain ⟨-, -, a3⟩ := hs_scale wx wy e2
  unfold hs_B
  rw [a1, a2, a3]
theorem hs_B_q {k x y j : Nat} (wx : 0 < W x) (wy : 0 < W y) (h1 : hs_df U W x y = 0) (h2 : hs_df V W x y = 0) : hs_B U V W k x j ↔ hs_B U V W k y j := by
  obtain ⟨e1, e2⟩ := hs_T_q (k := k) (j := j) h1 h2
  obtain ⟨a1, a2, -⟩ := hs_scale wx wy e1
  obtain ⟨-, -, a3⟩ := hs_scale wx wy e2
  unfold hs_B
  rw [a1, a2, a3]
/-- Y's test -/
def hs_O (U V W : Nat → Int) (c k : Nat) : Prop := (∀ q, q < c → hs_eq (hs_K U V) W q k) ∨ ∃ q, q < c ∧ ¬ hs_eq (hs_K U V) W q k ∧ ∀ j, j < c → ¬ hs_eq (hs_K U V) W j k → hs_B U V W k q j
def hs_Fi (U V W : Nat → Int) (k : Nat) : Prop := ∀ j, j < k → ¬ hs_eq (hs_K U V) W j k
/-- X's answer -/
noncomputable def hs_ans (U V W : Nat → Int) (N : Nat) (s : Nat → Nat) : Nat := if N = 1 then 1 else hu_cnt (fun t => hu_H (fun t => hs_K U V (s t)) (fun t => V (s t)) (fun t => W (s t)) N t ∨ hu_H (fun t => hs_K U V (s t)) (fun t => - V (s t)) (fun t => W (s t)) N t) N
theorem hs_O_pos {N : Nat} {s : Nat → Nat} (h : hs_Ok V W c) (hs : hs_Seq (hs_K U V) W c N s) (h2 : 2 ≤ N) {t : Nat} (ht : t < N) : hs_O U V W c (s t) ↔ hu_Out (fun t => hs_K U V (s t)) (fun t => V (s t)) (fun t => W (s t)) N t := by
  have hw := h.1
  have st := fun t (ht : t < N) => (hs.1 t ht).1
  have D' : ∀ q j, hu_D (fun t => hs_K U V (s t)) (fun t => V (s t)) (fun t => W (s t)) t q j = hu_D (hs_K U V) V W (s t) (s q) (s j) := fun q j => rfl
  have l' : ∀ q, hu_l (fun t => hs_K U V (s t)) (fun t => W (s t)) t q = hu_l (hs_K U V) W (s t) (s q) := fun q => rfl
  constructor
  · intro hO
    rcases hO with hO | ⟨q, hq, nq, hb⟩
    · exfalso
      have e1 := hO (s 0) (st 0 (by omega))
      have e2 := hO (s 1) (st 1 (by omega))
      have := hs_seq_inj hw hs (by omega : 0 < N) (by omega : 1 < N) (hs_eq_tr (hw _ (st 0 (by omega))) (hw _ (st t ht)) (hw _ (st 1 (by omega))) e1 (hs_eq_symm e2))
      omega
    · obtain ⟨p, hp, ep⟩ := hs.2.2 q hq
      obtain ⟨e1, e2⟩ := (hs_eq_iff h hq (st p hp)).mp ep
      have pt : p ≠ t := fun e => nq (e ▸ ep)
      refine ⟨p, hp, pt, fun j hj hjt => ?_⟩
      have nj : ¬ hs_eq (hs_K U V) W (s j) (s t) := fun e => hjt (hs_seq_inj hw hs hj ht e)
      have np : ¬ hs_eq (hs_K U V) W (s p) (s t) := fun e => pt (hs_seq_inj hw hs hp ht e)
      have B := hb (s j) (st j hj) nj
      rw [hs_B_q (hw q hq) (hw _ (st p hp)) e1 e2] at B
      exact (hs_B_iff h (st t ht) (st p hp) (st j hj) np nj).mp B
  · intro ⟨p, hp, pt, hb⟩
    have np : ¬ hs_eq (hs_K U V) W (s p) (s t) := fun e => pt (hs_seq_inj hw hs hp ht e)
    refine Or.inr ⟨s p, st p hp, np, fun j hj nj => ?_⟩
    obtain ⟨r, hr, er⟩ := hs.2.2 j hj
    obtain ⟨e1, e2⟩ := (hs_eq_iff h hj (st r hr)).mp er
    have rt : r ≠ t := fun e => nj (e ▸ er)
    have nr : ¬ hs_eq (hs_K U V) W (s r) (s t) := fun e => rt (hs_seq_inj hw hs hr ht e)
    rw [hs_B_j (hw j hj) (hw _ (st r hr)) e1 e2]
    exact (hs_B_iff h (st t ht) (st p hp) (st r hr) np nr).mpr (hb r hr rt)
/-- Y's count is X's answer -/
theorem hs_count {N : Nat} {s : Nat → Nat} (h : hs_Ok V W c) (hs : hs_Seq (hs_K U V) W c N s) (h1 : 1 ≤ N) : hu_cnt (fun k => hs_Fi U V W k ∧ hs_O U V W c k) c = hs_ans U V W N s := by
  have hw := h.1
  have b := hu_cnt_bij (s := s) (c := c) N (fun k => hs_Fi U V W k ∧ hs_O U V W c k) (fun j hj => (hs.1 j hj).1) (fun i j hi hj e => hs_seq_inj hw hs hi hj (by rw [e]; exact rfl)) (fun k hk hp => by
    obtain ⟨t, ht, et⟩ := hs.2.2 k hk
    refine ⟨t, ht, ?_⟩
    rcases Nat.lt_trichotomy (s t) k with hl | hl | hl
    · exact absurd (hs_eq_symm et) (hp.1 (s t) hl)
    · exact hl
    · exact absurd et ((hs.1 t ht).2 k hl))
  rw [← b]
  unfold hs_ans
  by_cases e : N = 1
  · rw [if_pos e]
    subst e
    refine hu_cnt_list (st := fun _ => 0) 1 1 (fun r hr => ⟨by omega, (hs.1 0 (by omega)).2, Or.inl (fun q hq => ?_)⟩) (fun r hr => by omega) (fun t ht _ => ⟨0, by omega, by omega⟩)
    obtain ⟨t, ht, et⟩ := hs.2.2 q hq
    have : t = 0 := by omega
    rw [this] at et
    exact et
  · rw [if_neg e]
    refine hu_cnt_congr N fun t ht => ?_
    rw [hs_O_pos h hs (by omega) ht, hu_out_iff (hs_ord hw hs) (by omega) ht]
    constructor
    · intro hh; exact hh.2
    · intro hh; exact ⟨(hs.1 t ht).2, hh⟩
end
end
section
/-! answers: shadow -/
def hs_u (a : Nat) (q : hb_Q) : Int := if a = 0 then q.2.1 else q.1
def hs_v (a : Nat) (q : hb_Q) : Int := if a = 2 then q.2.1 else q.2.2.1
def hs_U (a : Nat) (v : Nat → hb_Q) : Nat → Int := fun k => hs_u a (v k)
def hs_V (a : Nat) (v : Nat → hb_Q) : Nat → Int := fun k => hs_v a (v k)
def hs_W (v : Nat → hb_Q) : Nat → Int := fun k => (v k).2.2.2
theorem hs_bd {a : Nat} {v : Nat → hb_Q} {k : Nat} (h : hb_Bd (v k)) : (-5760 ≤ hs_U a v k ∧ hs_U a v k ≤ 5760) ∧ (-5760 ≤ hs_V a v k ∧ hs_V a v k ≤ 5760) ∧ (1 ≤ hs_W v k ∧ hs_W v k ≤ 384) := by
  obtain ⟨h1, h2, h3, h4⟩ := h
  refine ⟨?_, ?_, h4⟩
  · unfold hs_U hs_u; split
    · exact h2
    · exact h1
  · unfold hs_V hs_v; split
    · exact h2
    · exact h3
theorem hs_df_bd {U W : Nat → Int} {i j : Nat} (hi : -5760 ≤ U i ∧ U i ≤ 5760) (hj : -5760 ≤ U j ∧ U j ≤ 5760) (wi : 1 ≤ W i ∧ W i ≤ 384) (wj : 1 ≤ W j ∧ W j ≤ 384) : -4423680 ≤ hs_df U W i j ∧ hs_df U W i j ≤ 4423680 := by
  have a := hb_mulb hi (by omega : -384 ≤ W j ∧ W j ≤ 384)
  have b := hb_mulb hj (by omega : -384 ≤ W i ∧ W i ≤ 384)
  unfold hs_df
  omega
section
variable {P : Nat → hb_Q} {S : Nat → Prop} {c : Nat} {v : Nat → hb_Q} {a : Nat}
theorem hs_dfU (hS : hb_Sys P S) (hM : hb_MD (hb_K P S) c v) {i j : Nat} (hi : i < c) (hj : j < c) : (-4423680 ≤ hs_df (hs_U a v) (hs_W v) i j ∧ hs_df (hs_U a v) (hs_W v) i j ≤ 4423680) ∧ (-4423680 ≤ hs_df (hs_V a v) (hs_W v) i j ∧ hs_df (hs_V a v) (hs_W v) i j ≤ 4423680) := by
  obtain ⟨a1, a2, a3⟩ := hs_bd (a := a) (hb_K_bd hS (hM.1 i hi))
  obtain ⟨b1, b2, b3⟩ := hs_bd (a := a) (hb_K_bd hS (hM.1 j hj))
  exact ⟨hs_df_bd a1 b1 a3 b3, hs_df_bd a2 b2 a3 b3⟩
theorem hs_ok (hS : hb_Sys P S) (hM : hb_MD (hb_K P S) c v) : hs_Ok (hs_V a v) (hs_W v) c := by
  refine ⟨fun i hi => (hM.1 i hi).1.1.1, fun i j hi hj => ?_⟩
  have := (hs_dfU (a := a) hS hM hi hj).2
  omega
end
section
variable {fn fb fc fm fk : Int32} {fT fB : Int64} {aA aB aC aL tX tY tZ tW tP mX mY mZ mW mP kX kY kZ kW aH aD : Nat → Int32} {aI : Nat → Int64}
variable {P : Nat → hb_Q} {S : Nat → Prop} {c : Nat} {v : Nat → hb_Q} {a : Nat}
theorem xb_across {post : Int32 → Prop} {k : Nat} (ha : a < 3) (hk : k < 64) (hq : hb_qt tX tY tZ tW k = v k) (h : ∀ r : Int32, r.toInt = hs_U a v k → post r) : wpX_across post (fn, fb, fc, fm, fk, fT, fB, aA, aB, aC, aL, tX, tY, tZ, tW, tP, mX, mY, mZ, mW, mP, aI, kX, kY, kZ, kW, aH, aD) (nI k) (nI a) := by
  unfold wpX_across
  refine ek_if (nI_eq (b := 0) (by omega) (by omega)) (fun e => ⟨vp_in_nI hk (by omega), h _ ?_⟩) (fun e => ⟨vp_in_nI hk (by omega), h _ ?_⟩)
  · rw [nI_clamp (by omega)]; unfold hs_U hs_u; rw [if_pos e, ← hq]; rfl
  · rw [nI_clamp (by omega)]; unfold hs_U hs_u; rw [if_neg e, ← hq]; rfl
theorem xb_upward {post : Int32 → Prop} {k : Nat} (ha : a < 3) (hk : k < 64) (hq : hb_qt tX tY tZ tW k = v k) (h : ∀ r : Int32, r.toInt = hs_V a v k → post r) : wpX_upward post (fn, fb, fc, fm, fk, fT, fB, aA, aB, aC, aL, tX, tY, tZ, tW, tP, mX, mY, mZ, mW, mP, aI, kX, kY, kZ, kW, aH, aD) (nI k) (nI a) := by
  unfold wpX_upward
  refine ek_if (nI_eq (b := 2) (by omega) (by omega)) (fun e => ⟨vp_in_nI hk (by omega), h _ ?_⟩) (fun e => ⟨vp_in_nI hk (by omega), h _ ?_⟩)
  · rw [nI_clamp (by omega)]; unfold hs_V hs_v; rw [if_pos e, ← hq]; rfl
  · rw [nI_clamp (by omega)]; unfold hs_V hs_v; rw [if_neg e, ← hq]; rfl
theorem xb_w64 {k : Nat} (hq : hb_qt tX tY tZ tW k = v k) : (tW k).toInt64 = zi_L (hs_W v k) := by
  rw [zi_64]; unfold hs_W; rw [← hq]; rfl
theorem xb_compare {post : Int32 → Prop} (hS : hb_Sys P S) (hL : yb_L P S c v tX tY tZ tW tP) (ha : a < 3) {k l : Nat} (hk : k < c) (hl : l < c) (h1 : hs_lt (hs_K (hs_U a v) (hs_V a v)) (hs_W v) k l → post (-1)) (h2 : hs_eq (hs_K (hs_U a v) (hs_V a v)) (hs_W v) k l → post 0) (h3 : hs_lt (hs_K (hs_U a v) (hs_V a v)) (hs_W v) l k → post 1) : wpX_compare post (fn, fb, fc, fm, fk, fT, fB, aA, aB, aC, aL, tX, tY, tZ, tW, tP, mX, mY, mZ, mW, mP, aI, kX, kY, kZ, kW, aH, aD) (nI k) (nI l) (nI a) := by
  have c32 := yb_L_32 hS hL
  have ok := hs_ok (a := a) hS hL.1
  obtain ⟨bu, bv⟩ := hs_dfU (a := a) hS hL.1 hk hl
  have qk := (hL.2 k hk).1
  have ql := (hL.2 l hl).1
  have i1 := hs_lt_iff (U := hs_U a v) ok hk hl
  have i2 := hs_eq_iff (U := hs_U a v) ok hk hl
  have i3 := hs_lt_iff (U := hs_U a v) ok hl hk
  have sw : ∀ F : Nat → Int, hs_df F (hs_W v) l k = - hs_df F (hs_W v) k l := fun F => by unfold hs_df; omega
  rw [sw, sw] at i3
  have vk : vp_in (nI k) 64 := vp_in_nI (by omega) (by omega)
  have vl : vp_in (nI l) 64 := vp_in_nI (by omega) (by omega)
  have ck : (nI k).toNatClampNeg = k := nI_clamp (by omega)
  have cl : (nI l).toNatClampNeg = l := nI_clamp (by omega)
  have fin : ∀ e : Int, (-4423680 ≤ e ∧ e ≤ 4423680) → (e < 0 → post (-1)) → (e = 0 → post 0) → (0 < e → post 1) → wX_compare_73 post (zi_L e) fn fb fc fm fk fT fB aA aB aC aL tX tY tZ tW tP mX mY mZ mW mP aI kX kY kZ kW aH aD := fun e he p1 p2 p3 => by
    unfold wX_compare_73
    refine ek_if (zl_ge0 ⟨by omega, by omega⟩) (fun g => ek_if (zl_le0 ⟨by omega, by omega⟩) (fun g2 => p2 (by omega)) (fun g2 => p3 (by omega))) (fun g => p1 (by omega))
  unfold wpX_compare
  refine xb_across ha (by omega) qk (fun r1 e1 => ⟨vl, ?_⟩)
  refine xb_across ha (by omega) ql (fun r2 e2 => ⟨vk, nm_r (e' := zi_L (hs_df (hs_U a v) (hs_W v) k l)) ?_ ?_⟩)
  · rw [ck, cl, zi_64, zi_64 r2, e1, e2, xb_w64 qk, xb_w64 ql, zl_mul, zl_mul, zl_sub]; rfl
  · refine ek_if (zl_eq0 ⟨by omega, by omega⟩) (fun z => ?_) (fun z => fin _ bu (fun g => h1 (i1.mpr (by omega))) (fun g => absurd g z) (fun g => h3 (i3.mpr (by omega))))
    refine xb_upward ha (by omega) qk (fun r3 e3 => ⟨vl, ?_⟩)
    refine xb_upward ha (by omega) ql (fun r4 e4 => ⟨vk, nm_r (e' := zi_L (hs_df (hs_V a v) (hs_W v) k l)) ?_ ?_⟩)
    · rw [ck, cl, zi_64, zi_64 r4, e3, e4, xb_w64 qk, xb_w64 ql, zl_mul, zl_mul, zl_sub]; rfl
    · exact fin _ bv (fun g => h1 (i1.mpr (by omega))) (fun g => h2 (i2.mpr ⟨z, g⟩)) (fun g => h3 (i3.mpr (by omega)))
theorem xb_small5 {post : Int32 → Prop} (hS : hb_Sys P S) (hL : yb_L P S c v tX tY tZ tW tP) (ha : a < 3) {x1 : Int32} {A : Nat → Prop} (hx : (x1 = -1 ∧ ∀ k, A k) ∨ ∃ j, j < c ∧ x1 = nI j ∧ ∀ k, k < c → (A k ↔ hs_lt (hs_K (hs_U a v) (hs_V a v)) (hs_W v) j k)) (h1 : ∀ b, hs_Mn (hs_K (hs_U a v) (hs_V a v)) (hs_W v) A c b → post (nI b)) (h0 : (∀ j, j < c → ¬ A j) → post (-1)) : ∀ d k, k + d = c → ((∀ j, j < k → ¬ A j) → wX_smallestAfter_5 post x1 (nI a) fn fb (nI c) fm fk fT fB aA aB aC aL tX tY tZ tW tP mX mY mZ mW mP aI kX kY kZ kW aH aD (d + 1) (-1) (nI k)) ∧ (∀ b, hs_Mn (hs_K (hs_U a v) (hs_V a v)) (hs_W v) A k b → wX_smallestAfter_5 post x1 (nI a) fn fb (nI c) fm fk fT fB aA aB aC aL tX tY tZ tW tP mX mY mZ mW mP aI kX kY kZ kW aH aD (d + 1) (nI b) (nI k)) := by
  have c32 := yb_L_32 hS hL
  have hw : ∀ i, i < c → 0 < hs_W v i := fun i hi => (hL.1.1 i hi).1.1.1
  intro d
  induction d with
  | zero =>
    intro k hk
    have e : k = c := by omega
    subst e
    refine ⟨fun hn => ?_, fun b hb => ?_⟩
    · rw [wX_smallestAfter_5]
      exact br_t (nI_le (Nat.le_refl _) (by omega)) (h0 hn)
    · rw [wX_smallestAfter_5]
      exact br_t (nI_le (Nat.le_refl _) (by omega)) (h1 b hb)
  | succ d ih =>
    intro k hk
    obtain ⟨i0, i1⟩ := ih (k + 1) (by omega)
    have none_no : (∀ j, j < k → ¬ A j) → ¬ A k → wX_smallestAfter_5 post x1 (nI a) fn fb (nI c) fm fk fT fB aA aB aC aL tX tY tZ tW tP mX mY mZ mW mP aI kX kY kZ kW aH aD (d + 1) (-1) (nI (k + 1)) := fun hn hk' => i0 (fun j hj => by
      by_cases e : j = k
      · rw [e]; exact hk'
      · exact hn j (by omega))
    have cand0 : (∀ j, j < k → ¬ A j) → A k → wX_smallestAfter_32 post (wX_smallestAfter_5 post x1 (nI a) fn fb (nI c) fm fk fT fB aA aB aC aL tX tY tZ tW tP mX mY mZ mW mP aI kX kY kZ kW aH aD (d + 1)) x1 (nI a) (-1) (nI k) fn fb (nI c) fm fk fT fB aA aB aC aL tX tY tZ tW tP mX mY mZ mW mP aI kX kY kZ kW aH aD := fun hn hk' => by
      unfold wX_smallestAfter_32
      exact br_t (by decide) (nm_r (nI_1 k) (i1 k (hs_mn_first hn hk')))
    have candb : ∀ b, hs_Mn (hs_K (hs_U a v) (hs_V a v)) (hs_W v) A k b → A k → wX_smallestAfter_32 post (wX_smallestAfter_5 post x1 (nI a) fn fb (nI c) fm fk fT fB aA aB aC aL tX tY tZ tW tP mX mY mZ mW mP aI kX kY kZ kW aH aD (d + 1)) x1 (nI a) (nI b) (nI k) fn fb (nI c) fm fk fT fB aA aB aC aL tX tY tZ tW tP mX mY mZ mW mP aI kX kY kZ kW aH aD := fun b hb hk' => by
      have bk := hb.1
      unfold wX_smallestAfter_32
      refine br_f (nI_pos (by omega)) ?_
      refine xb_compare hS hL ha (by omega) (by omega) (fun g => br_f (by decide) (nm_r (nI_1 k) (i1 k (hs_mn_new (fun j hj => hw j (by omega)) hb hk' g)))) (fun g => br_t (by decide) (nm_r (nI_1 k) (i1 b (hs_mn_keep hb (fun _ hl => hs_lt_ne hl g))))) (fun g => br_t (by decide) (nm_r (nI_1 k) (i1 b (hs_mn_keep hb (fun _ hl => hs_lt_as hl g)))))
    refine ⟨fun hn => ?_, fun b hb => ?_⟩
    · rw [wX_smallestAfter_5]
      refine br_f (nI_ge (by omega) (by omega)) ?_
      rcases hx with ⟨ex, hA⟩ | ⟨j, hj, ex, hA⟩
      · exact br_t (by rw [ex]; decide) (cand0 hn (hA k))
      · refine br_f (by rw [ex]; exact nI_pos (by omega)) ?_
        rw [ex] at cand0 none_no ⊢
        refine xb_compare hS hL ha (by omega) hj (fun g => br_f (by decide) (nm_r (nI_1 k) (none_no hn (fun hk' => hs_lt_as g ((hA k (by omega)).mp hk'))))) (fun g => br_f (by decide) (nm_r (nI_1 k) (none_no hn (fun hk' => hs_lt_ne ((hA k (by omega)).mp hk') (hs_eq_symm g))))) (fun g => br_t (by decide) (cand0 hn ((hA k (by omega)).mpr g)))
    · rw [wX_smallestAfter_5]
      refine br_f (nI_ge (by omega) (by omega)) ?_
      rcases hx with ⟨ex, hA⟩ | ⟨j, hj, ex, hA⟩
      · exact br_t (by rw [ex]; decide) (candb b hb (hA k))
      · refine br_f (by rw [ex]; exact nI_pos (by omega)) ?_
        rw [ex] at candb i1 ⊢
        refine xb_compare hS hL ha (by omega) hj (fun g => br_f (by decide) (nm_r (nI_1 k) (i1 b (hs_mn_keep hb (fun hk' => absurd ((hA k (by omega)).mp hk') (hs_lt_as g)))))) (fun g => br_f (by decide) (nm_r (nI_1 k) (i1 b (hs_mn_keep hb (fun hk' => absurd (hs_eq_symm g) (hs_lt_ne ((hA k (by omega)).mp hk'))))))) (fun g => br_t (by decide) (candb b hb ((hA k (by omega)).mpr g)))
variable {N : Nat} {s : Nat → Nat}
/-- the next one of the sequence -/
def hs_nx (N : Nat) (s : Nat → Nat) (n : Nat) : Int32 := if n < N then nI (s n) else -1
theorem xb_small {post : Int32 → Prop} (hS : hb_Sys P S) (hL : yb_L P S c v tX tY tZ tW tP) (ha : a < 3) (hs : hs_Seq (hs_K (hs_U a v) (hs_V a v)) (hs_W v) c N s) {n : Nat} (hn : n ≤ N) {x1 : Int32} (hx : (n = 0 ∧ x1 = -1) ∨ (0 < n ∧ x1 = nI (s (n - 1)))) (h : post (hs_nx N s n)) : wpX_smallestAfter post (fn, fb, nI c, fm, fk, fT, fB, aA, aB, aC, aL, tX, tY, tZ, tW, tP, mX, mY, mZ, mW, mP, aI, kX, kY, kZ, kW, aH, aD) x1 (nI a) := by
  have hw : ∀ i, i < c → 0 < hs_W v i := fun i hi => (hL.1.1 i hi).1.1.1
  refine ⟨c + 1, ?_⟩
  refine (xb_small5 (A := hs_Af (hs_K (hs_U a v) (hs_V a v)) (hs_W v) s n) hS hL ha ?_ (fun b hb => ?_) (fun hj => ?_) c 0 (by omega)).1 (fun j hj => absurd hj (Nat.not_lt_zero j))
  · rcases hx with ⟨h0, ex⟩ | ⟨h0, ex⟩
    · exact Or.inl ⟨ex, fun k => Or.inl h0⟩
    · refine Or.inr ⟨s (n - 1), (hs.1 (n - 1) (by omega)).1, ex, fun k _ => ⟨fun g => ?_, fun g => Or.inr g⟩⟩
      rcases g with g | g
      · omega
      · exact g
  · obtain ⟨g1, g2⟩ := hs_next hw hs hn hb
    unfold hs_nx at h
    rw [if_pos g1, ← g2] at h
    exact h
  · have : ¬ n < N := fun g => hj (s n) (hs.1 n g).1 (hs_next_ex hw hs g)
    unfold hs_nx at h
    rw [if_neg this] at h
    exact h
theorem xb_turn {post : Int64 → Prop} (hS : hb_Sys P S) (hL : yb_L P S c v tX tY tZ tW tP) (ha : a < 3) {k l m : Nat} (hk : k < c) (hl : l < c) (hm : m < c) (h : post (zi_L (hu_D (hs_U a v) (hs_V a v) (hs_W v) k l m))) : wpX_turn post (fn, fb, fc, fm, fk, fT, fB, aA, aB, aC, aL, tX, tY, tZ, tW, tP, mX, mY, mZ, mW, mP, aI, kX, kY, kZ, kW, aH, aD) (nI k) (nI l) (nI m) (nI a) := by
  have c32 := yb_L_32 hS hL
  have qk := (hL.2 k hk).1
  have ql := (hL.2 l hl).1
  have qm := (hL.2 m hm).1
  have vk : vp_in (nI k) 64 := vp_in_nI (by omega) (by omega)
  have vl : vp_in (nI l) 64 := vp_in_nI (by omega) (by omega)
  have vm : vp_in (nI m) 64 := vp_in_nI (by omega) (by omega)
  have ck : (nI k).toNatClampNeg = k := nI_clamp (by omega)
  have cl : (nI l).toNatClampNeg = l := nI_clamp (by omega)
  have cm : (nI m).toNatClampNeg = m := nI_clamp (by omega)
  unfold wpX_turn
  refine xb_across ha (by omega) qk (fun r1 e1 => ?_)
  refine xb_upward ha (by omega) qk (fun r2 e2 => ⟨vk, nm_r (e' := zi_L (hs_W v k)) (by rw [ck]; exact xb_w64 qk) ?_⟩)
  refine xb_across ha (by omega) ql (fun r3 e3 => ?_)
  refine xb_upward ha (by omega) ql (fun r4 e4 => ?_)
  refine xb_across ha (by omega) qm (fun r5 e5 => ?_)
  refine xb_upward ha (by omega) qm (fun r6 e6 => ⟨vm, vl, vm, vl, ?_⟩)
  rw [cl, cm, xb_w64 ql, xb_w64 qm, zi_64 r1, zi_64 r2, zi_64 r3, zi_64 r4, zi_64 r5, zi_64 r6, e1, e2, e3, e4, e5, e6]
  simp only [zl_mul, zl_sub, zl_add]
  exact h
end
theorem hs_D_bd {U V W : Nat → Int} {i j k : Nat} (ui : -5760 ≤ U i ∧ U i ≤ 5760) (uj : -5760 ≤ U j ∧ U j ≤ 5760) (uk : -5760 ≤ U k ∧ U k ≤ 5760) (vi : -5760 ≤ V i ∧ V i ≤ 5760) (vj : -5760 ≤ V j ∧ V j ≤ 5760) (vk : -5760 ≤ V k ∧ V k ≤ 5760) (wi : -384 ≤ W i ∧ W i ≤ 384) (wj : -384 ≤ W j ∧ W j ≤ 384) (wk : -384 ≤ W k ∧ W k ≤ 384) : -1000000000000 < hu_D U V W i j k ∧ hu_D U V W i j k < 1000000000000 := by
  have a1 := hb_mulb vj wk
  have a2 := hb_mulb vk wj
  have b1 := hb_mulb uj wk
  have b2 := hb_mulb uk wj
  have c1 := hb_mulb uj vk
  have c2 := hb_mulb uk vj
  have d1 := hb_mulb (B := 4423680) ui (b := V j * W k - V k * W j) (by omega)
  have d2 := hb_mulb (B := 4423680) vi (b := U j * W k - U k * W j) (by omega)
  have d3 := hb_mulb (B := 66355200) wi (b := U j * V k - U k * V j) (by omega)
  unfold hu_D
  omega
/-- the sign of a turn, with its side -/
theorem hs_sgn {U V W : Nat → Int} {s : Nat → Nat} {g : Int} {VV : Nat → Int} (hV : ∀ t, VV t = g * V (s t)) (i j k : Nat) : hu_D (fun t => hs_K U V (s t)) VV (fun t => W (s t)) i j k = 10000000 * (hu_D U V W (s i) (s j) (s k) * g) := by
  simp only [hu_D, hs_K, hV]; grind
section
variable {fn fb fc fm fk : Int32} {fT fB : Int64} {aA aB aC aL tX tY tZ tW tP mX mY mZ mW mP kX kY kZ kW aH aD : Nat → Int32} {aI : Nat → Int64}
variable {P : Nat → hb_Q} {S : Nat → Prop} {c : Nat} {v : Nat → hb_Q} {a N : Nat} {s : Nat → Nat} {g : Int} {VV : Nat → Int}
theorem xb_half64 {post : Int32 → SX → Prop} {J : Int32 → Int32 → (Nat → Int32) → (Nat → Int32) → (Nat → Int32) → (Nat → Int32) → (Nat → Int32) → (Nat → Int32) → (Nat → Int32) → (Nat → Int32) → (Nat → Int32) → (Nat → Int32) → (Nat → Int32) → (Nat → Int32) → (Nat → Int32) → (Nat → Int32) → (Nat → Int64) → (Nat → Int32) → (Nat → Int32) → (Nat → Int32) → (Nat → Int32) → (Nat → Int32) → (Nat → Int32) → Prop} {x2 : Int64} (hS : hb_Sys P S) (hL : yb_L P S c v tX tY tZ tW tP) (ha : a < 3) (hs : hs_Seq (hs_K (hs_U a v) (hs_V a v)) (hs_W v) c N s) {n q : Nat} (hn : n < N) (hq : q < 64) (h : ∀ aH' : Nat → Int32, (∀ r, r < q → aH' r = aH r) → aH' q = nI (s n) → J (nI (q + 1)) (hs_nx N s (n + 1)) aA aB aC aL tX tY tZ tW tP mX mY mZ mW mP aI kX kY kZ kW aH' aD) : wX_halfOutline_64 post J (nI a) x2 (nI q) (nI (s n)) fn fb (nI c) fm fk fT fB aA aB aC aL tX tY tZ tW tP mX mY mZ mW mP aI kX kY kZ kW aH aD := by
  have c32 := yb_L_32 hS hL
  have sn := (hs.1 n hn).1
  have ts : (nI (s n)).toInt = s n := nI_toInt (by omega)
  unfold wX_halfOutline_64
  refine ⟨vp_in_nI hq (by omega), nm_r (e' := upd aH q (nI (s n))) (by rw [nI_clamp (by omega), zi_byte (by rw [ts]; omega) (by rw [ts]; omega)]) (nm_r (nI_1 q) ?_)⟩
  refine xb_small hS hL ha hs (n := n + 1) (by omega) (Or.inr ⟨by omega, rfl⟩) ?_
  exact h _ (fun r hr => pk_un (by omega)) pk_us
theorem xb_half20 {post : Int32 → SX → Prop} {J : Int32 → Int32 → (Nat → Int32) → (Nat → Int32) → (Nat → Int32) → (Nat → Int32) → (Nat → Int32) → (Nat → Int32) → (Nat → Int32) → (Nat → Int32) → (Nat → Int32) → (Nat → Int32) → (Nat → Int32) → (Nat → Int32) → (Nat → Int32) → (Nat → Int32) → (Nat → Int64) → (Nat → Int32) → (Nat → Int32) → (Nat → Int32) → (Nat → Int32) → (Nat → Int32) → (Nat → Int32) → Prop} (hS : hb_Sys P S) (hL : yb_L P S c v tX tY tZ tW tP) (ha : a < 3) (hs : hs_Seq (hs_K (hs_U a v) (hs_V a v)) (hs_W v) c N s) (hg : g = 1 ∨ g = -1) (hV : ∀ t, VV t = g * hs_V a v (s t)) {n h : Nat} {st : Nat → Nat} (hn : n < N) (hN : N ≤ 32) (hst : hu_Stk (fun t => hs_K (hs_U a v) (hs_V a v) (s t)) VV (fun t => hs_W v (s t)) n h st) (hh : h ≤ 32) (hH : ∀ r, r < h → aH r = nI (s (st r))) (hJ : ∀ (h' : Nat) (st' : Nat → Nat) (aH' : Nat → Int32), h' ≤ h + 1 → hu_Stk (fun t => hs_K (hs_U a v) (hs_V a v) (s t)) VV (fun t => hs_W v (s t)) (n + 1) h' st' → (∀ r, r < h' → aH' r = nI (s (st' r))) → J (nI h') (hs_nx N s (n + 1)) aA aB aC aL tX tY tZ tW tP mX mY mZ mW mP aI kX kY kZ kW aH' aD) : ∀ q, hu_Pop (fun t => hs_K (hs_U a v) (hs_V a v) (s t)) VV (fun t => hs_W v (s t)) n h q st → wX_halfOutline_20 post J (nI a) (zi_L g) (nI (s n)) fn fb (nI c) fm fk fT fB aA aB aC aL tX tY tZ tW tP mX mY mZ mW mP aI kX kY kZ kW aH aD (q + 1) (nI q) := by
  have c32 := yb_L_32 hS hL
  have hw : ∀ i, i < c → 0 < hs_W v i := fun i hi => (hL.1.1 i hi).1.1.1
  have ord := hs_ord hw hs
  have sn := (hs.1 n hn).1
  have push : ∀ q, hu_Pop (fun t => hs_K (hs_U a v) (hs_V a v) (s t)) VV (fun t => hs_W v (s t)) n h q st → (q = 1 ∨ 0 < hu_D (fun t => hs_K (hs_U a v) (hs_V a v) (s t)) VV (fun t => hs_W v (s t)) (st (q - 2)) (st (q - 1)) n) → wX_halfOutline_64 post J (nI a) (zi_L g) (nI q) (nI (s n)) fn fb (nI c) fm fk fT fB aA aB aC aL tX tY tZ tW tP mX mY mZ mW mP aI kX kY kZ kW aH aD := fun q hp hd => by
    have q1 := hp.1
    have q2 := hp.2.1
    refine xb_half64 hS hL ha hs hn (by omega) (fun aH' e1 e2 => ?_)
    refine hJ (q + 1) (fun r => if r = q then n else st r) aH' (by omega) (hu_push ord hn hst hp hd (fun r hr => if_neg (by omega)) (if_pos rfl)) (fun r hr => ?_)
    by_cases e : r = q
    · simp only [if_pos e]; rw [e]; exact e2
    · simp only [if_neg e]
      rw [e1 r (by omega)]
      exact hH r (by omega)
  intro q
  induction q with
  | zero => intro hp; exact absurd hp.1 (Nat.lt_irrefl 0)
  | succ q ih =>
    intro hp
    have q2 := hp.2.1
    rw [wX_halfOutline_20]
    refine pk_le (q + 1) 1 (fun g1 => push (q + 1) hp (Or.inl (by omega))) (fun g1 => ?_)
    have e1 : nI (q + 1) - 2 = nI (q + 1 - 2) := pk_sub (b := 2) (by omega)
    have e2 : nI (q + 1) - 1 = nI (q + 1 - 1) := pk_sub (b := 1) (by omega)
    rw [e1, e2]
    refine ⟨vp_in_nI (by omega) (by omega), vp_in_nI (by omega) (by omega), ?_⟩
    rw [nI_clamp (by omega), nI_clamp (by omega), hH _ (by omega), hH _ (by omega)]
    have s5 := hst.2.2.2.2.2.1
    have b1 := (hs.1 (st (q + 1 - 2)) (by have := s5 (q + 1 - 2) (by omega); omega)).1
    have b2 := (hs.1 (st (q + 1 - 1)) (by have := s5 (q + 1 - 1) (by omega); omega)).1
    refine xb_turn hS hL ha b1 b2 sn ?_
    obtain ⟨x1, x2, x3⟩ := hs_bd (a := a) (hb_K_bd hS (hL.1.1 _ b1))
    obtain ⟨y1, y2, y3⟩ := hs_bd (a := a) (hb_K_bd hS (hL.1.1 _ b2))
    obtain ⟨z1, z2, z3⟩ := hs_bd (a := a) (hb_K_bd hS (hL.1.1 _ sn))
    have bd := hs_D_bd (W := hs_W v) x1 y1 z1 x2 y2 z2 (by omega) (by omega) (by omega)
    have sg := hs_sgn (U := hs_U a v) (W := hs_W v) hV (st (q + 1 - 2)) (st (q + 1 - 1)) n
    rw [zl_mul]
    have bg : -1000000000000 < hu_D (hs_U a v) (hs_V a v) (hs_W v) (s (st (q + 1 - 2))) (s (st (q + 1 - 1))) (s n) * g ∧ hu_D (hs_U a v) (hs_V a v) (hs_W v) (s (st (q + 1 - 2))) (s (st (q + 1 - 1))) (s n) * g < 1000000000000 := by
      rcases hg with e | e <;> rw [e] <;> omega
    refine ek_if (zl_gt0 ⟨by omega, by omega⟩) (fun d0 => push (q + 1) hp (Or.inr (by rw [sg]; omega))) (fun d0 => nm_r (pk_m1 q) (ih ?_))
    exact hu_pop ord hn hst hp (by omega) (by rw [sg]; omega)
theorem xb_half15 {post : Int32 → SX → Prop} (hS : hb_Sys P S) (hL : yb_L P S c v tX tY tZ tW tP) (ha : a < 3) (hs : hs_Seq (hs_K (hs_U a v) (hs_V a v)) (hs_W v) c N s) (hg : g = 1 ∨ g = -1) (hV : ∀ t, VV t = g * hs_V a v (s t)) (hN : N ≤ 32) (h1 : 1 ≤ N) (hP : ∀ (h : Nat) (st : Nat → Nat) (aH : Nat → Int32), hu_Stk (fun t => hs_K (hs_U a v) (hs_V a v) (s t)) VV (fun t => hs_W v (s t)) N h st → post (nI h) (fn, fb, nI c, fm, fk, fT, fB, aA, aB, aC, aL, tX, tY, tZ, tW, tP, mX, mY, mZ, mW, mP, aI, kX, kY, kZ, kW, aH, aD)) : ∀ (d n h : Nat) (st : Nat → Nat) (aH : Nat → Int32), n + d = N → h ≤ n → ((n = 0 ∧ h = 0) ∨ hu_Stk (fun t => hs_K (hs_U a v) (hs_V a v) (s t)) VV (fun t => hs_W v (s t)) n h st) → (∀ r, r < h → aH r = nI (s (st r))) → wX_halfOutline_15 post (nI a) (zi_L g) fn fb (nI c) fm fk fT fB (d + 1) (nI h) (hs_nx N s n) aA aB aC aL tX tY tZ tW tP mX mY mZ mW mP aI kX kY kZ kW aH aD := by
  have c32 := yb_L_32 hS hL
  intro d
  induction d with
  | zero =>
    intro n h st aH hn hh hst hH
    have e : n = N := by omega
    subst e
    have ex : hs_nx n s n = -1 := if_neg (Nat.lt_irrefl n)
    rw [ex, wX_halfOutline_15]
    refine br_t (by decide) ?_
    rcases hst with hst | hst
    · omega
    · exact hP h st aH hst
  | succ d ih =>
    intro n h st aH hn hh hst hH
    have nN : n < N := by omega
    have ex : hs_nx N s n = nI (s n) := if_pos nN
    have sn := (hs.1 n nN).1
    rw [ex, wX_halfOutline_15]
    refine br_f (nI_pos (by omega)) ?_
    rcases hst with ⟨e1, e2⟩ | hst
    · subst e1; subst e2
      refine ⟨1, ?_⟩
      rw [wX_halfOutline_20]
      refine br_t (by decide) ?_
      refine xb_half64 hS hL ha hs nN (by omega) (fun aH' g1 g2 => ih 1 1 (fun _ => 0) aH' (by omega) (by omega) (Or.inr (hu_start rfl)) (fun r hr => ?_))
      have : r = 0 := by omega
      rw [this]; exact g2
    · refine ⟨h + 1, ?_⟩
      exact xb_half20 hS hL ha hs hg hV nN hN hst (by omega) hH (fun h' st' aH' hh' hst' hH' => ih (n + 1) h' st' aH' (by omega) (by omega) (Or.inr hst') hH') h (hu_pop0 hst)
theorem xb_half {post : Int32 → SX → Prop} (hS : hb_Sys P S) (hL : yb_L P S c v tX tY tZ tW tP) (ha : a < 3) (hs : hs_Seq (hs_K (hs_U a v) (hs_V a v)) (hs_W v) c N s) (hg : g = 1 ∨ g = -1) (hV : ∀ t, VV t = g * hs_V a v (s t)) (hN : N ≤ 32) (h1 : 1 ≤ N) (hP : ∀ (h : Nat) (st : Nat → Nat) (aH : Nat → Int32), hu_Stk (fun t => hs_K (hs_U a v) (hs_V a v) (s t)) VV (fun t => hs_W v (s t)) N h st → post (nI h) (fn, fb, nI c, fm, fk, fT, fB, aA, aB, aC, aL, tX, tY, tZ, tW, tP, mX, mY, mZ, mW, mP, aI, kX, kY, kZ, kW, aH, aD)) : wpX_halfOutline post (fn, fb, nI c, fm, fk, fT, fB, aA, aB, aC, aL, tX, tY, tZ, tW, tP, mX, mY, mZ, mW, mP, aI, kX, kY, kZ, kW, aH, aD) (nI a) (zi_L g) := by
  unfold wpX_halfOutline
  refine xb_small hS hL ha hs (n := 0) (by omega) (Or.inl ⟨rfl, rfl⟩) ⟨N + 1, ?_⟩
  exact xb_half15 hS hL ha hs hg hV hN h1 hP N 0 0 (fun _ => 0) aH (by omega) (Nat.le_refl _) (Or.inl ⟨rfl, rfl⟩) (fun r hr => absurd hr (Nat.not_lt_zero r))
theorem hs_stk_le {X V W : Nat → Int} {N h : Nat} {st : Nat → Nat} (hst : hu_Stk X V W N h st) : (h = 1 ↔ N = 1) ∧ h ≤ N := by
  obtain ⟨a1, a2, a3, a4, a5, a6, -, -⟩ := hst
  have le : h ≤ N := hb_pig N h st a6 (fun i j hi hj e => by
    rcases Nat.lt_trichotomy i j with g | g | g
    · have := hu_mono' a5 g hj; omega
    · exact g
    · have := hu_mono' a5 g hi; omega)
  refine ⟨⟨fun e => ?_, fun e => by omega⟩, le⟩
  subst e
  have : st (1 - 1) = st 0 := rfl
  omega
theorem xb_outline {post : Int32 → SX → Prop} (hS : hb_Sys P S) (hL : yb_L P S c v tX tY tZ tW tP) (ha : a < 3) (hs : hs_Seq (hs_K (hs_U a v) (hs_V a v)) (hs_W v) c N s) (hz : c = 0 → post 0 (fn, fb, nI c, fm, fk, fT, fB, aA, aB, aC, aL, tX, tY, tZ, tW, tP, mX, mY, mZ, mW, mP, aI, kX, kY, kZ, kW, aH, aD)) (h : 0 < c → ∀ aH : Nat → Int32, post (nI (hs_ans (hs_U a v) (hs_V a v) (hs_W v) N s)) (fn, fb, nI c, fm, fk, fT, fB, aA, aB, aC, aL, tX, tY, tZ, tW, tP, mX, mY, mZ, mW, mP, aI, kX, kY, kZ, kW, aH, aD)) : wpX_outline post (fn, fb, nI c, fm, fk, fT, fB, aA, aB, aC, aL, tX, tY, tZ, tW, tP, mX, mY, mZ, mW, mP, aI, kX, kY, kZ, kW, aH, aD) (nI a) := by
  have c32 := yb_L_32 hS hL
  have hw : ∀ i, i < c → 0 < hs_W v i := fun i hi => (hL.1.1 i hi).1.1.1
  unfold wpX_outline
  refine ek_if (nI_eq (b := 0) (by omega) (by omega)) (fun e => hz e) (fun e => ?_)
  have N1 : 1 ≤ N := by
    obtain ⟨t, ht, _⟩ := hs.2.2 0 (by omega)
    omega
  have Nc : N ≤ c := hb_pig c N s (fun t ht => (hs.1 t ht).1) (fun i j hi hj e => hs_seq_inj hw hs hi hj (by rw [e]; exact rfl))
  refine xb_half (g := 1) (VV := fun t => hs_V a v (s t)) hS hL ha hs (Or.inl rfl) (fun t => (Int.one_mul _).symm) (by omega) N1 (fun h1 st1 aH1 stk1 => ?_)
  obtain ⟨i1, l1⟩ := hs_stk_le stk1
  have c1 := hu_stk_cnt (hs_ord hw hs) stk1
  refine ek_if (nI_eq (b := 1) (by omega) (by omega)) (fun e1 => ?_) (fun e1 => ?_)
  · have eN := i1.mp e1
    have := h (by omega) aH1
    unfold hs_ans at this
    rw [if_pos eN] at this
    exact this
  · refine xb_half (g := -1) (VV := fun t => - hs_V a v (s t)) hS hL ha hs (Or.inr rfl) (fun t => (Int.neg_one_mul _).symm) (by omega) N1 (fun h2 st2 aH2 stk2 => ?_)
    obtain ⟨i2, l2⟩ := hs_stk_le stk2
    have c2 := hu_stk_cnt (hs_ord hw hs) stk2
    have N2 : 2 ≤ N := by
      have : N ≠ 1 := fun z => e1 (i1.mpr z)
      omega
    have both := hu_both (X := fun t => hs_K (hs_U a v) (hs_V a v) (s t)) (V := fun t => hs_V a v (s t)) (W := fun t => hs_W v (s t)) N2
    rw [c1, c2] at both
    have := h (by omega) aH2
    unfold hs_ans at this
    rw [if_neg (by omega)] at this
    have es : (nI h1 + nI h2) - 2 = nI (h1 + h2 - 2) := by
      rw [nI_add]
      exact pk_sub (b := 2) (by omega)
    rw [es, show h1 + h2 - 2 = hu_cnt (fun t => hu_H (fun t => hs_K (hs_U a v) (hs_V a v) (s t)) (fun t => hs_V a v (s t)) (fun t => hs_W v (s t)) N t ∨ hu_H (fun t => hs_K (hs_U a v) (hs_V a v) (s t)) (fun t => - hs_V a v (s t)) (fun t => hs_W v (s t)) N t) N by omega]
    exact this
end
end
section
/-! answers: shadow, Y's side and the end -/
section
variable {gn gp gc : Int32} {qN qD pA pB pC pD yX yY yZ yW yP yF : Nat → Int32}
variable {P : Nat → hb_Q} {S : Nat → Prop} {c : Nat} {v : Nat → hb_Q} {a : Nat}
theorem yb_flat0 {post : Int32 → Prop} {k : Nat} (ha : a < 3) (hk : k < 40) (hq : hb_qt yX yY yZ yW k = v k) (h : ∀ r : Int32, r.toInt = hs_U a v k → post r) : wpY_flat post (gn, gp, gc, qN, qD, pA, pB, pC, pD, yX, yY, yZ, yW, yP, yF) (nI k) (nI a) 0 := by
  unfold wpY_flat
  refine br_t rfl (ek_if (nI_eq (b := 0) (by omega) (by omega)) (fun e => ⟨vp_in_nI hk (by omega), h _ ?_⟩) (fun e => ⟨vp_in_nI hk (by omega), h _ ?_⟩))
  · rw [nI_clamp (by omega)]; unfold hs_U hs_u; rw [if_pos e, ← hq]; rfl
  · rw [nI_clamp (by omega)]; unfold hs_U hs_u; rw [if_neg e, ← hq]; rfl
theorem yb_flat1 {post : Int32 → Prop} {k : Nat} (ha : a < 3) (hk : k < 40) (hq : hb_qt yX yY yZ yW k = v k) (h : ∀ r : Int32, r.toInt = hs_V a v k → post r) : wpY_flat post (gn, gp, gc, qN, qD, pA, pB, pC, pD, yX, yY, yZ, yW, yP, yF) (nI k) (nI a) 1 := by
  unfold wpY_flat
  refine br_f (by decide) (ek_if (nI_eq (b := 2) (by omega) (by omega)) (fun e => ⟨vp_in_nI hk (by omega), h _ ?_⟩) (fun e => ⟨vp_in_nI hk (by omega), h _ ?_⟩))
  · rw [nI_clamp (by omega)]; unfold hs_V hs_v; rw [if_pos e, ← hq]; rfl
  · rw [nI_clamp (by omega)]; unfold hs_V hs_v; rw [if_neg e, ← hq]; rfl
theorem yb_w64 {k : Nat} (hq : hb_qt yX yY yZ yW k = v k) : (yW k).toInt64 = zi_L (hs_W v k) := by
  rw [zi_64]; unfold hs_W; rw [← hq]; rfl
theorem yb_apart0 {post : Int64 → Prop} (hS : hb_Sys P S) (hL : yb_L P S c v yX yY yZ yW yP) (ha : a < 3) {j k : Nat} (hj : j < c) (hk : k < c) (h : post (zi_L (hs_df (hs_U a v) (hs_W v) j k))) : wpY_apart post (gn, gp, gc, qN, qD, pA, pB, pC, pD, yX, yY, yZ, yW, yP, yF) (nI j) (nI k) (nI a) 0 := by
  have c32 := yb_L_32 hS hL
  have qj := (hL.2 j hj).1
  have qk := (hL.2 k hk).1
  unfold wpY_apart
  refine yb_flat0 ha (by omega) qj (fun r1 e1 => ⟨vp_in_nI (by omega) (by omega), ?_⟩)
  refine yb_flat0 ha (by omega) qk (fun r2 e2 => ⟨vp_in_nI (by omega) (by omega), ?_⟩)
  rw [nI_clamp (by omega), nI_clamp (by omega), zi_64 r1, zi_64 r2, e1, e2, yb_w64 qj, yb_w64 qk, zl_mul, zl_mul, zl_sub]
  exact h
theorem yb_apart1 {post : Int64 → Prop} (hS : hb_Sys P S) (hL : yb_L P S c v yX yY yZ yW yP) (ha : a < 3) {j k : Nat} (hj : j < c) (hk : k < c) (h : post (zi_L (hs_df (hs_V a v) (hs_W v) j k))) : wpY_apart post (gn, gp, gc, qN, qD, pA, pB, pC, pD, yX, yY, yZ, yW, yP, yF) (nI j) (nI k) (nI a) 1 := by
  have c32 := yb_L_32 hS hL
  have qj := (hL.2 j hj).1
  have qk := (hL.2 k hk).1
  unfold wpY_apart
  refine yb_flat1 ha (by omega) qj (fun r1 e1 => ⟨vp_in_nI (by omega) (by omega), ?_⟩)
  refine yb_flat1 ha (by omega) qk (fun r2 e2 => ⟨vp_in_nI (by omega) (by omega), ?_⟩)
  rw [nI_clamp (by omega), nI_clamp (by omega), zi_64 r1, zi_64 r2, e1, e2, yb_w64 qj, yb_w64 qk, zl_mul, zl_mul, zl_sub]
  exact h
theorem yb_isSame {post : Int32 → Prop} (hS : hb_Sys P S) (hL : yb_L P S c v yX yY yZ yW yP) (ha : a < 3) {j k : Nat} (hj : j < c) (hk : k < c) (h1 : hs_eq (hs_K (hs_U a v) (hs_V a v)) (hs_W v) j k → post 1) (h0 : ¬ hs_eq (hs_K (hs_U a v) (hs_V a v)) (hs_W v) j k → post 0) : wpY_isSame post (gn, gp, gc, qN, qD, pA, pB, pC, pD, yX, yY, yZ, yW, yP, yF) (nI j) (nI k) (nI a) := by
  obtain ⟨bu, bv⟩ := hs_dfU (a := a) hS hL.1 hj hk
  have i2 := hs_eq_iff (U := hs_U a v) (hs_ok (a := a) hS hL.1) hj hk
  unfold wpY_isSame
  refine yb_apart0 hS hL ha hj hk ?_
  refine ek_if (zl_eq0 ⟨by omega, by omega⟩) (fun z => ?_) (fun z => h0 (fun e => z (i2.mp e).1))
  refine yb_apart1 hS hL ha hj hk ?_
  exact ek_if (zl_eq0 ⟨by omega, by omega⟩) (fun z2 => h1 (i2.mpr ⟨z, z2⟩)) (fun z2 => h0 (fun e => z2 (i2.mp e).2))
theorem yb_bounds23 {post : Int32 → Prop} (hS : hb_Sys P S) (hL : yb_L P S c v yX yY yZ yW yP) (ha : a < 3) {k q : Nat} (hk : k < c) (hq : q < c) (h1 : (∀ j, j < c → ¬ hs_eq (hs_K (hs_U a v) (hs_V a v)) (hs_W v) j k → hs_B (hs_U a v) (hs_V a v) (hs_W v) k q j) → post 1) (h0 : (¬ ∀ j, j < c → ¬ hs_eq (hs_K (hs_U a v) (hs_V a v)) (hs_W v) j k → hs_B (hs_U a v) (hs_V a v) (hs_W v) k q j) → post 0) : ∀ d j, j + d = c → (∀ i, i < j → ¬ hs_eq (hs_K (hs_U a v) (hs_V a v)) (hs_W v) i k → hs_B (hs_U a v) (hs_V a v) (hs_W v) k q i) → wY_bounds_23 post (nI k) (nI a) (zi_L (hs_df (hs_U a v) (hs_W v) q k)) (zi_L (hs_df (hs_V a v) (hs_W v) q k)) gn gp (nI c) qN qD pA pB pC pD yX yY yZ yW yP yF (d + 1) (nI j) := by
  have c32 := yb_L_32 hS hL
  obtain ⟨qu, qv⟩ := hs_dfU (a := a) hS hL.1 hq hk
  intro d
  induction d with
  | zero =>
    intro j hj hp
    have e : j = c := by omega
    subst e
    rw [wY_bounds_23]
    exact br_t (nI_le (Nat.le_refl _) (by omega)) (h1 hp)
  | succ d ih =>
    intro j hj hp
    have next : (¬ hs_eq (hs_K (hs_U a v) (hs_V a v)) (hs_W v) j k → hs_B (hs_U a v) (hs_V a v) (hs_W v) k q j) → wY_bounds_23 post (nI k) (nI a) (zi_L (hs_df (hs_U a v) (hs_W v) q k)) (zi_L (hs_df (hs_V a v) (hs_W v) q k)) gn gp (nI c) qN qD pA pB pC pD yX yY yZ yW yP yF (d + 1) (nI (j + 1)) := fun hn => ih (j + 1) (by omega) (fun i hi => by
      by_cases e : i = j
      · rw [e]; exact hn
      · exact hp i (by omega))
    rw [wY_bounds_23]
    refine br_f (nI_ge (by omega) (by omega)) ?_
    refine yb_isSame hS hL ha (by omega) hk (fun e => br_f (by decide) (nm_r (nI_1 j) (next (fun hn => absurd e hn)))) (fun ne => br_t rfl ?_)
    refine yb_apart0 hS hL ha (by omega) hk ?_
    refine yb_apart1 hS hL ha (by omega) hk ?_
    obtain ⟨ju, jv⟩ := hs_dfU (a := a) hS hL.1 (by omega : j < c) hk
    have m1 := hb_mulb qu jv
    have m2 := hb_mulb qv ju
    have m3 := hb_mulb qu ju
    have m4 := hb_mulb qv jv
    have no : ¬ hs_B (hs_U a v) (hs_V a v) (hs_W v) k q j → post 0 := fun hb => h0 (fun hh => hb (hh j (by omega) ne))
    have eT : zi_L (hs_df (hs_U a v) (hs_W v) q k) * zi_L (hs_df (hs_V a v) (hs_W v) j k) - zi_L (hs_df (hs_V a v) (hs_W v) q k) * zi_L (hs_df (hs_U a v) (hs_W v) j k) = zi_L (hs_T (hs_U a v) (hs_V a v) (hs_W v) k q j) := by
      rw [zl_mul, zl_mul, zl_sub]; rfl
    have eS : zi_L (hs_df (hs_U a v) (hs_W v) q k) * zi_L (hs_df (hs_U a v) (hs_W v) j k) + zi_L (hs_df (hs_V a v) (hs_W v) q k) * zi_L (hs_df (hs_V a v) (hs_W v) j k) = zi_L (hs_S (hs_U a v) (hs_V a v) (hs_W v) k q j) := by
      rw [zl_mul, zl_mul, zl_add]; rfl
    have bT : -100000000000000 < hs_T (hs_U a v) (hs_V a v) (hs_W v) k q j ∧ hs_T (hs_U a v) (hs_V a v) (hs_W v) k q j < 100000000000000 := by unfold hs_T; omega
    have bS : -100000000000000 < hs_S (hs_U a v) (hs_V a v) (hs_W v) k q j ∧ hs_S (hs_U a v) (hs_V a v) (hs_W v) k q j < 100000000000000 := by unfold hs_S; omega
    refine nm_r eT (ek_if (zl_lt0 ⟨by omega, by omega⟩) (fun t0 => no (fun hb => by unfold hs_B at hb; omega)) (fun t0 => ek_if (zl_eq0 ⟨by omega, by omega⟩) (fun t1 => ?_) (fun t1 => nm_r (nI_1 j) (next (fun _ => Or.inl (by omega))))))
    rw [eS]
    exact ek_if (zl_ge0 ⟨by omega, by omega⟩) (fun s0 => nm_r (nI_1 j) (next (fun _ => Or.inr ⟨t1, s0⟩))) (fun s0 => no (fun hb => by unfold hs_B at hb; omega))
theorem yb_bounds {post : Int32 → Prop} (hS : hb_Sys P S) (hL : yb_L P S c v yX yY yZ yW yP) (ha : a < 3) {k q : Nat} (hk : k < c) (hq : q < c) (h1 : (∀ j, j < c → ¬ hs_eq (hs_K (hs_U a v) (hs_V a v)) (hs_W v) j k → hs_B (hs_U a v) (hs_V a v) (hs_W v) k q j) → post 1) (h0 : (¬ ∀ j, j < c → ¬ hs_eq (hs_K (hs_U a v) (hs_V a v)) (hs_W v) j k → hs_B (hs_U a v) (hs_V a v) (hs_W v) k q j) → post 0) : wpY_bounds post (gn, gp, nI c, qN, qD, pA, pB, pC, pD, yX, yY, yZ, yW, yP, yF) (nI k) (nI q) (nI a) := by
  unfold wpY_bounds
  refine yb_apart0 hS hL ha hq hk ?_
  refine yb_apart1 hS hL ha hq hk ⟨c + 1, ?_⟩
  exact yb_bounds23 hS hL ha hk hq h1 h0 c 0 (by omega) (fun i hi => absurd hi (Nat.not_lt_zero i))
theorem yb_outer5 {post : Int32 → Prop} (hS : hb_Sys P S) (hL : yb_L P S c v yX yY yZ yW yP) (ha : a < 3) {k : Nat} (hk : k < c) (h1 : hs_O (hs_U a v) (hs_V a v) (hs_W v) c k → post 1) (h0 : ¬ hs_O (hs_U a v) (hs_V a v) (hs_W v) c k → post 0) : ∀ d q, q + d = c → (∀ i, i < q → ¬ hs_eq (hs_K (hs_U a v) (hs_V a v)) (hs_W v) i k → ¬ ∀ j, j < c → ¬ hs_eq (hs_K (hs_U a v) (hs_V a v)) (hs_W v) j k → hs_B (hs_U a v) (hs_V a v) (hs_W v) k i j) → ((∀ i, i < q → hs_eq (hs_K (hs_U a v) (hs_V a v)) (hs_W v) i k) → wY_isOuter_5 post (nI k) (nI a) gn gp (nI c) qN qD pA pB pC pD yX yY yZ yW yP yF (d + 1) 1 (nI q)) ∧ ((¬ ∀ i, i < c → hs_eq (hs_K (hs_U a v) (hs_V a v)) (hs_W v) i k) → wY_isOuter_5 post (nI k) (nI a) gn gp (nI c) qN qD pA pB pC pD yX yY yZ yW yP yF (d + 1) 0 (nI q)) := by
  have c32 := yb_L_32 hS hL
  intro d
  induction d with
  | zero =>
    intro q hq hn
    have e : q = c := by omega
    subst e
    refine ⟨fun hal => ?_, fun hal => ?_⟩
    · rw [wY_isOuter_5]
      exact br_t (nI_le (Nat.le_refl _) (by omega)) ⟨narrow_b1, h1 (Or.inl hal)⟩
    · rw [wY_isOuter_5]
      refine br_t (nI_le (Nat.le_refl _) (by omega)) ⟨narrow_b0, h0 (fun hO => ?_)⟩
      rcases hO with hO | ⟨i, hi, ni, hb⟩
      · exact hal hO
      · exact hn i hi ni hb
  | succ d ih =>
    intro q hq hn
    have keep : ∀ (hq' : ¬ hs_eq (hs_K (hs_U a v) (hs_V a v)) (hs_W v) q k → ¬ ∀ j, j < c → ¬ hs_eq (hs_K (hs_U a v) (hs_V a v)) (hs_W v) j k → hs_B (hs_U a v) (hs_V a v) (hs_W v) k q j), ∀ i, i < q + 1 → ¬ hs_eq (hs_K (hs_U a v) (hs_V a v)) (hs_W v) i k → ¬ ∀ j, j < c → ¬ hs_eq (hs_K (hs_U a v) (hs_V a v)) (hs_W v) j k → hs_B (hs_U a v) (hs_V a v) (hs_W v) k i j := fun hq' i hi => by
      by_cases e : i = q
      · rw [e]; exact hq'
      · exact hn i (by omega)
    refine ⟨fun hal => ?_, fun hal => ?_⟩
    · rw [wY_isOuter_5]
      refine br_f (nI_ge (by omega) (by omega)) ?_
      refine yb_isSame hS hL ha (by omega) hk (fun e => br_f (by decide) (nm_r (nI_1 q) ((ih (q + 1) (by omega) (keep (fun ne => absurd e ne))).1 (fun i hi => ?_)))) (fun ne => br_t rfl ?_)
      · by_cases ei : i = q
        · rw [ei]; exact e
        · exact hal i (by omega)
      · refine yb_bounds hS hL ha hk (by omega) (fun hb => br_f (by decide) (h1 (Or.inr ⟨q, by omega, ne, hb⟩))) (fun hb => br_t rfl (nm_r (nI_1 q) ((ih (q + 1) (by omega) (keep (fun _ => hb))).2 (fun hh => ne (hh q (by omega))))))
    · rw [wY_isOuter_5]
      refine br_f (nI_ge (by omega) (by omega)) ?_
      refine yb_isSame hS hL ha (by omega) hk (fun e => br_f (by decide) (nm_r (nI_1 q) ((ih (q + 1) (by omega) (keep (fun ne => absurd e ne))).2 hal))) (fun ne => br_t rfl ?_)
      refine yb_bounds hS hL ha hk (by omega) (fun hb => br_f (by decide) (h1 (Or.inr ⟨q, by omega, ne, hb⟩))) (fun hb => br_t rfl (nm_r (nI_1 q) ((ih (q + 1) (by omega) (keep (fun _ => hb))).2 hal)))
theorem yb_isOuter {post : Int32 → Prop} (hS : hb_Sys P S) (hL : yb_L P S c v yX yY yZ yW yP) (ha : a < 3) {k : Nat} (hk : k < c) (h1 : hs_O (hs_U a v) (hs_V a v) (hs_W v) c k → post 1) (h0 : ¬ hs_O (hs_U a v) (hs_V a v) (hs_W v) c k → post 0) : wpY_isOuter post (gn, gp, nI c, qN, qD, pA, pB, pC, pD, yX, yY, yZ, yW, yP, yF) (nI k) (nI a) :=
  ⟨c + 1, (yb_outer5 hS hL ha hk h1 h0 c 0 (by omega) (fun i hi => absurd hi (Nat.not_lt_zero i))).1 (fun i hi => absurd hi (Nat.not_lt_zero i))⟩
theorem yb_shadow35 {post : Int32 → SY → Prop} {J : Int32 → Int32 → Prop} (hS : hb_Sys P S) (hL : yb_L P S c v yX yY yZ yW yP) (ha : a < 3) {k e : Nat} (hk : k < c) (h1 : (hs_Fi (hs_U a v) (hs_V a v) (hs_W v) k ∧ hs_O (hs_U a v) (hs_V a v) (hs_W v) c k) → J (nI (e + 1)) (nI (k + 1))) (h0 : ¬ (hs_Fi (hs_U a v) (hs_V a v) (hs_W v) k ∧ hs_O (hs_U a v) (hs_V a v) (hs_W v) c k) → J (nI e) (nI (k + 1))) : ∀ d j, j + d = k → ((∀ i, i < j → ¬ hs_eq (hs_K (hs_U a v) (hs_V a v)) (hs_W v) i k) → wY_shadow_35 post J (nI a) (nI e) (nI k) gn gp (nI c) qN qD pA pB pC pD yX yY yZ yW yP yF (d + 1) 1 (nI j)) ∧ (¬ hs_Fi (hs_U a v) (hs_V a v) (hs_W v) k → wY_shadow_35 post J (nI a) (nI e) (nI k) gn gp (nI c) qN qD pA pB pC pD yX yY yZ yW yP yF (d + 1) 0 (nI j)) := by
  have c32 := yb_L_32 hS hL
  intro d
  induction d with
  | zero =>
    intro j hj
    have e : j = k := by omega
    subst e
    refine ⟨fun hf => ?_, fun hf => ?_⟩
    · rw [wY_shadow_35]
      refine br_t (nI_le (Nat.le_refl _) (by omega)) (br_f (by decide) ?_)
      refine yb_isOuter hS hL ha hk (fun hO => br_f (by decide) (nm_r (nI_1 _) (nm_r (nI_1 j) (h1 ⟨hf, hO⟩)))) (fun hO => br_t rfl (nm_r (nI_1 j) (h0 (fun hh => hO hh.2))))
    · rw [wY_shadow_35]
      exact br_t (nI_le (Nat.le_refl _) (by omega)) (br_t rfl (nm_r (nI_1 j) (h0 (fun hh => hf hh.1))))
  | succ d ih =>
    intro j hj
    obtain ⟨i1, i2⟩ := ih (j + 1) (by omega)
    refine ⟨fun hf => ?_, fun hf => ?_⟩
    · rw [wY_shadow_35]
      refine br_f (nI_ge (by omega) (by omega)) ?_
      refine yb_isSame hS hL ha (by omega) hk (fun e => br_f (by decide) (nm_r (nI_1 j) (i2 (fun hF => hF j (by omega) e)))) (fun ne => br_t rfl (nm_r (nI_1 j) (i1 (fun i hi => ?_))))
      by_cases ei : i = j
      · rw [ei]; exact ne
      · exact hf i (by omega)
    · rw [wY_shadow_35]
      refine br_f (nI_ge (by omega) (by omega)) ?_
      exact yb_isSame hS hL ha (by omega) hk (fun e => br_f (by decide) (nm_r (nI_1 j) (i2 hf))) (fun ne => br_t rfl (nm_r (nI_1 j) (i2 hf)))
theorem yb_shadow21 {post : Int32 → SY → Prop} (hS : hb_Sys P S) (hL : yb_L P S c v yX yY yZ yW yP) (ha : a < 3) (h : post (nI (hu_cnt (fun k => hs_Fi (hs_U a v) (hs_V a v) (hs_W v) k ∧ hs_O (hs_U a v) (hs_V a v) (hs_W v) c k) c)) (gn, gp, nI c, qN, qD, pA, pB, pC, pD, yX, yY, yZ, yW, yP, yF)) : ∀ d k, k + d = c → wY_shadow_21 post (nI a) gn gp (nI c) qN qD pA pB pC pD yX yY yZ yW yP yF (d + 1) (nI (hu_cnt (fun k => hs_Fi (hs_U a v) (hs_V a v) (hs_W v) k ∧ hs_O (hs_U a v) (hs_V a v) (hs_W v) c k) k)) (nI k) := by
  have c32 := yb_L_32 hS hL
  intro d
  induction d with
  | zero =>
    intro k hk
    have e : k = c := by omega
    subst e
    rw [wY_shadow_21]
    exact br_t (nI_le (Nat.le_refl _) (by omega)) h
  | succ d ih =>
    intro k hk
    have i1 := ih (k + 1) (by omega)
    rw [wY_shadow_21]
    refine br_f (nI_ge (by omega) (by omega)) ⟨k + 1, ?_⟩
    refine (yb_shadow35 hS hL ha (by omega) (fun hh => ?_) (fun hh => ?_) k 0 (by omega)).1 (fun i hi => absurd hi (Nat.not_lt_zero i))
    · rw [hu_cnt_t (p := fun k => hs_Fi (hs_U a v) (hs_V a v) (hs_W v) k ∧ hs_O (hs_U a v) (hs_V a v) (hs_W v) c k) hh] at i1; exact i1
    · rw [hu_cnt_f (p := fun k => hs_Fi (hs_U a v) (hs_V a v) (hs_W v) k ∧ hs_O (hs_U a v) (hs_V a v) (hs_W v) c k) hh] at i1; exact i1
end
theorem i_vc_shadow {k : Nat} {u : SX} {v : SY} (I : i_Rel k u v) (hk : k + 3 ≤ 1536) (v1 : Int32) : wpX_shadow (fun r u' => wpY_shadow (fun r' v' => r' = r ∧ i_Rel (k + 3) u' v') v v1) u v1 := by
  refine rl_el (Q := fun u v => wpX_shadow (fun r u' => wpY_shadow (fun r' v' => r' = r ∧ i_Rel (k + 3) u' v') v v1) u v1) ?_ I
  intro n P fn fb fc fm fk fT fB aA aB aC aL tX tY tZ tW tP mX mY mZ mW mP aI kX kY kZ kW aH aD gn gp gc qN qD pA pB pC pD yX yY yZ yW yP yF hX hY
  have t0 : (0 : Int32).toInt = 0 := rfl
  have t2 : (2 : Int32).toInt = 2 := rfl
  have bad : ¬ (0 ≤ v1.toInt ∧ v1.toInt ≤ 2) → wpY_shadow (fun r' v' => r' = (-1000000) ∧ i_Rel (k + 3) (fn, fb, fc, fm, fk, fT, fB, aA, aB, aC, aL, tX, tY, tZ, tW, tP, mX, mY, mZ, mW, mP, aI, kX, kY, kZ, kW, aH, aD) v') (gn, gp, gc, qN, qD, pA, pB, pC, pD, yX, yY, yZ, yW, yP, yF) v1 := fun hb => by
    unfold wpY_shadow
    refine yb_in (fun a b => ?_) (fun _ => br_t rfl ⟨rfl, rl_mk hX hY⟩)
    rw [t0] at a
    rw [t2] at b
    exact absurd ⟨a, b⟩ hb
  unfold wpX_shadow
  refine ek_if Int32.lt_iff_toInt_lt (fun h => bad (by omega)) (fun h1 => ?_)
  refine ek_if Int32.le_iff_toInt_le (fun h2 => ?_) (fun h => bad (by omega))
  rw [t0] at h1
  rw [t2] at h2
  obtain ⟨a, ea⟩ : ∃ a : Nat, v1.toInt = a := ⟨v1.toInt.toNat, by omega⟩
  have ev : v1 = nI a := by rw [zi_nI, ← ea]; exact zi_of v1
  subst ev
  have ha : a < 3 := by omega
  have hS := hb_S_sys hX.1
  refine xb_build hX (fun c fb fm tX tY tZ tW tP mX mY mZ mW mP aI hb hB hR => ?_)
  have hw : ∀ i, i < c → 0 < hs_W (hb_qt tX tY tZ tW) i := fun i hi => (hB.1.1.1 i hi).1.1.1
  obtain ⟨N, s, hs⟩ := hs_seq_ex (K := hs_K (hs_U a (hb_qt tX tY tZ tW)) (hs_V a (hb_qt tX tY tZ tW))) hw
  have y : ∀ (r : Nat) (aH : Nat → Int32), r = hu_cnt (fun k => hs_Fi (hs_U a (hb_qt tX tY tZ tW)) (hs_V a (hb_qt tX tY tZ tW)) (hs_W (hb_qt tX tY tZ tW)) k ∧ hs_O (hs_U a (hb_qt tX tY tZ tW)) (hs_V a (hb_qt tX tY tZ tW)) (hs_W (hb_qt tX tY tZ tW)) c k) c → wpY_shadow (fun r' v' => r' = nI r ∧ i_Rel (k + 3) (nI n, fb, nI c, fm, fk, fT, fB, aA, aB, aC, aL, tX, tY, tZ, tW, tP, mX, mY, mZ, mW, mP, aI, kX, kY, kZ, kW, aH, aD) v') (gn, gp, gc, qN, qD, pA, pB, pC, pD, yX, yY, yZ, yW, yP, yF) (nI a) := fun r aH er => by
    unfold wpY_shadow
    refine yb_in (fun _ _ => br_f (by decide) ?_) (fun hc => absurd hc (by rw [t0, t2]; omega))
    refine rl_find hX.1 hB hY (fun pA pB pC pD yX yY yZ yW yP hj he hL hR' => ⟨c + 1, ?_⟩)
    exact yb_shadow21 hS hL ha ⟨by rw [er], rl_mk hR hR'⟩ c 0 (by omega)
  refine xb_outline hS (yb_L_x hB.1) ha hs (fun e => ?_) (fun e aH => ?_)
  · exact y 0 aH (by subst e; rfl)
  · refine y _ aH ?_
    have N1 : 1 ≤ N := by
      obtain ⟨t, ht, _⟩ := hs.2.2 0 e
      omega
    exact (hs_count (hs_ok (a := a) hS hB.1.1) hs N1).symm
end

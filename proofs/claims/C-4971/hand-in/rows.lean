section
/-! pure rows to paste: stores, nI and lN arithmetic, masks, shifts, narrowing, branches by naturals (pk_le, pk_lt, pk_eq), loops (lp1 .. lp16: the measure of the state; rp1 ..: recursion), negatives. Take what you need -/
theorem pk_us {f : Nat → Int32} {k : Nat} {x : Int32} : upd f k x k = x := if_pos rfl
theorem pk_un {f : Nat → Int32} {k j : Nat} {x : Int32} (h : j ≠ k) : upd f k x j = f j := if_neg h
theorem pk_uLs {f : Nat → Int64} {k : Nat} {x : Int64} : vp_updL f k x k = x := if_pos rfl
theorem pk_uLn {f : Nat → Int64} {k j : Nat} {x : Int64} (h : j ≠ k) : vp_updL f k x j = f j := if_neg h
theorem pk_sub {a b : Nat} (h : b ≤ a) : nI a - nI b = nI (a - b) := by
  obtain ⟨c, rfl⟩ : ∃ c, a = c + b := ⟨a - b, by omega⟩
  rw [← nI_add, Int32.add_sub_cancel, Nat.add_sub_cancel]
theorem pk_m1 (n : Nat) : nI (n + 1) + (-1) = nI n := by
  rw [← nI_1, Int32.add_assoc, show (1 : Int32) + (-1) = 0 from rfl, Int32.add_zero]
theorem pk_mul (a b : Nat) : nI a * nI b = nI (a * b) := (Int32.ofNat_mul a b).symm
theorem pk_div {a d : Nat} (ha : a < 2 ^ 31) (h0 : 0 < d) (hd : d < 2 ^ 31) : nI a / nI d = nI (a / d) := by
  apply Int32.toInt_inj.mp
  rw [lg_idiv_nonneg (by rw [nI_toInt ha]; omega) (by rw [nI_toInt hd]; omega), nI_toInt ha, nI_toInt hd, nI_toInt (Nat.lt_of_le_of_lt (Nat.div_le_self a d) ha)]
  first | rfl | exact (Int.natCast_ediv _ _).symm
theorem pk_rem {a d : Nat} (ha : a < 2 ^ 31) (h0 : 0 < d) (hd : d < 2 ^ 31) : nI a - nI a / nI d * nI d = nI (a % d) := by
  rw [pk_div ha h0 hd, pk_mul, pk_sub (Nat.div_mul_le_self a d)]
  exact congrArg nI (by have := Nat.div_add_mod' a d; omega)
theorem pk_sub_toInt {a b : Nat} (ha : a < 2 ^ 30) (hb : b < 2 ^ 30) : (nI a - nI b).toInt = (a : Int) - b := by
  rw [Int32.toInt_sub, nI_toInt (by omega), nI_toInt (by omega)]
  exact Int.bmod_eq_of_le (by omega) (by omega)
theorem pk_sneg {a b : Nat} (hb : b < 2 ^ 30) (h : a < b) : nI a - nI b < 0 := by
  rw [Int32.lt_iff_toInt_lt, pk_sub_toInt (by omega) hb, show (0 : Int32).toInt = 0 from by decide]
  omega
theorem pk_ix (x : Int32) {n : Nat} (hn : n < 2 ^ 31) : x < 0 ∨ nI n ≤ x ∨ ∃ j : Nat, j < n ∧ x = nI j := by
  by_cases h : x < 0
  · exact Or.inl h
  · obtain ⟨j, hj, rfl⟩ := nI_of h
    by_cases h2 : j < n
    · exact Or.inr (Or.inr ⟨j, h2, rfl⟩)
    · exact Or.inr (Or.inl (nI_le (by omega) hj))
theorem pk_le {x y : Int32} {A B : Prop} (a b : Nat) (f : a ≤ b → A) (g : b < a → B) (hx : x = nI a := by rfl) (hy : y = nI b := by rfl) (ha : a < 2 ^ 31 := by omega) (hb : b < 2 ^ 31 := by omega) : (x ≤ y → A) ∧ (¬ x ≤ y → B) := by
  subst hx hy
  rw [nI_leI ha hb]
  exact ⟨f, fun z => g (by omega)⟩
theorem pk_lt {x y : Int32} {A B : Prop} (a b : Nat) (f : a < b → A) (g : b ≤ a → B) (hx : x = nI a := by rfl) (hy : y = nI b := by rfl) (ha : a < 2 ^ 31 := by omega) (hb : b < 2 ^ 31 := by omega) : (x < y → A) ∧ (¬ x < y → B) := by
  subst hx hy
  rw [nI_ltI ha hb]
  exact ⟨f, fun z => g (by omega)⟩
theorem pk_eq {x y : Int32} {A B : Prop} (a b : Nat) (f : a = b → A) (g : a ≠ b → B) (hx : x = nI a := by rfl) (hy : y = nI b := by rfl) (ha : a < 2 ^ 31 := by omega) (hb : b < 2 ^ 31 := by omega) : (x = y → A) ∧ (¬ x = y → B) := by
  subst hx hy
  rw [nI_eq ha hb]
  exact ⟨f, g⟩
theorem pk_in {x : Int32} (n N : Nat) (h : n < N) (hx : x = nI n := by rfl) (hN : N < 2 ^ 31 := by omega) : vp_in x N := by
  subst hx
  exact vp_in_nI h hN
theorem pk_cl {x : Int32} (n : Nat) (hx : x = nI n := by rfl) (h : n < 2 ^ 31 := by omega) : x.toNatClampNeg = n := by
  subst hx
  exact nI_clamp h
theorem pk_tn {n : Nat} (h : n < 2 ^ 32) : (nI n).toBitVec.toNat = n := Nat.mod_eq_of_lt h
theorem pk_and (x : Int32) {m : Int32} (k : Nat) (hm : m.toBitVec.toNat = 2 ^ k - 1) : x &&& m = nI (x.toBitVec.toNat % 2 ^ k) := by
  apply Int32.toBitVec_inj.mp
  apply BitVec.eq_of_toNat_eq
  rw [Int32.toBitVec_and, BitVec.toNat_and, hm, Nat.and_two_pow_sub_one_eq_mod]
  show _ = (BitVec.ofNat 32 _).toNat
  rw [BitVec.toNat_ofNat]
  exact (Nat.mod_eq_of_lt (Nat.lt_of_le_of_lt (Nat.mod_le _ _) x.toBitVec.isLt)).symm
theorem pk_andN {n : Nat} (h : n < 2 ^ 32) {m : Int32} (k : Nat) (hm : m.toBitVec.toNat = 2 ^ k - 1) : nI n &&& m = nI (n % 2 ^ k) := by
  rw [pk_and _ k hm, pk_tn h]
theorem pk_andE (x : Int32) {m : Int32} (k : Nat) (hm : m.toBitVec.toNat = 2 ^ k - 1) : ∃ j : Nat, j < 2 ^ k ∧ x &&& m = nI j := ⟨_, Nat.mod_lt _ (Nat.two_pow_pos k), pk_and x k hm⟩
theorem pk_andIn (x : Int32) {m : Int32} (k : Nat) (hm : m.toBitVec.toNat = 2 ^ k - 1) (hk : k ≤ 30) : vp_in (x &&& m) (2 ^ k) := by
  obtain ⟨j, hj, e⟩ := pk_andE x k hm
  rw [e]
  exact vp_in_nI hj (Nat.lt_of_le_of_lt (Nat.pow_le_pow_right (by decide) hk) (by decide))
theorem pk_shl (a s : Int32) (k : Nat) (hs : (s.toBitVec.smod 32).toNat = k) : (a <<< s).toBitVec.toNat = a.toBitVec.toNat * 2 ^ k % 2 ^ 32 := by
  show (a.toBitVec <<< (s.toBitVec.smod 32).toNat).toNat = _
  rw [hs, BitVec.toNat_shiftLeft, Nat.shiftLeft_eq]
theorem pk_shlN {n : Nat} (s : Int32) (k : Nat) (hs : (s.toBitVec.smod 32).toNat = k) (h : n * 2 ^ k < 2 ^ 32) : nI n <<< s = nI (n * 2 ^ k) := by
  apply Int32.toBitVec_inj.mp
  apply BitVec.eq_of_toNat_eq
  have hn : n < 2 ^ 32 := Nat.lt_of_le_of_lt (Nat.le_mul_of_pos_right n (Nat.two_pow_pos k)) h
  rw [pk_shl _ _ k hs, pk_tn hn, pk_tn h, Nat.mod_eq_of_lt h]
theorem pk_shr (a s : Int32) (k : Nat) (hs : (s.toBitVec.smod 32).toNat = k) : (a >>> s).toInt = a.toInt >>> k := by
  show (a.toBitVec.sshiftRight (s.toBitVec.smod 32).toNat).toInt = _
  rw [hs, BitVec.toInt_sshiftRight]
  rfl
theorem pk_shrN {n : Nat} (h : n < 2 ^ 31) (s : Int32) (k : Nat) (hs : (s.toBitVec.smod 32).toNat = k) : nI n >>> s = nI (n / 2 ^ k) := by
  apply Int32.toInt_inj.mp
  have h2 : n / 2 ^ k ≤ n := Nat.div_le_self _ _
  rw [pk_shr _ _ k hs, nI_toInt h, nI_toInt (by omega), Int.shiftRight_eq_div_pow]
  rfl
theorem pk_ushr (x s : Int32) (k : Nat) (hs : ((s.toUInt32 &&& Int32.toUInt32 31).toBitVec % 32).toNat = k) : (x.toUInt32 >>> (s.toUInt32 &&& Int32.toUInt32 31)).toInt32.toBitVec.toNat = x.toBitVec.toNat / 2 ^ k := by
  have e : (x.toUInt32 >>> (s.toUInt32 &&& Int32.toUInt32 31)).toInt32.toBitVec = x.toBitVec >>> k := by
    rw [← hs]
    exact UInt32.toBitVec_shiftRight _ _
  rw [e, BitVec.toNat_ushiftRight, Nat.shiftRight_eq_div_pow]
theorem pk_ushrN {n : Nat} (hn : n < 2 ^ 32) (s : Int32) (k : Nat) (hs : ((s.toUInt32 &&& Int32.toUInt32 31).toBitVec % 32).toNat = k) : ((nI n).toUInt32 >>> (s.toUInt32 &&& Int32.toUInt32 31)).toInt32 = nI (n / 2 ^ k) := by
  apply Int32.toBitVec_inj.mp
  apply BitVec.eq_of_toNat_eq
  rw [pk_ushr _ s k hs, pk_tn hn, pk_tn (Nat.lt_of_le_of_lt (Nat.div_le_self _ _) hn)]
theorem pk_nb (z : Int32) : narrow .byte (.int z.toInt8.toInt32) = .int z.toInt8.toInt32 := congrArg Value.int (by simp)
theorem pk_ns (z : Int32) : narrow .short (.int z.toInt16.toInt32) = .int z.toInt16.toInt32 := congrArg Value.int (by simp)
theorem pk_fb (r : Int32) : fits .byte (.int r.toInt8.toInt32) = true := by
  have ⟨a, b⟩ := lg_i2b_range r
  have h1 : (-128 : Int32).toInt = -128 := by decide
  have h2 : (127 : Int32).toInt = 127 := by decide
  simp only [fits, Bool.and_eq_true, decide_eq_true_eq, Int32.le_iff_toInt_le, h1, h2]
  omega
theorem pk_fs (r : Int32) : fits .short (.int r.toInt16.toInt32) = true := by
  have ⟨a, b⟩ := lg_i2s_range r
  have h1 : (-32768 : Int32).toInt = -32768 := by decide
  have h2 : (32767 : Int32).toInt = 32767 := by decide
  simp only [fits, Bool.and_eq_true, decide_eq_true_eq, Int32.le_iff_toInt_le, h1, h2]
  omega
theorem pk_charN {q : Nat} (hq : q < 65536) : narrow .char (.int (nI q)) = .int (nI q) ∧ fits .char (.int (nI q)) = true := by
  constructor
  · have e : (nI q).toUInt32.toUInt16.toUInt32.toInt32 = nI q := by
      apply Int32.toBitVec_inj.mp
      apply BitVec.eq_of_toNat_eq
      show (nI q).toUInt32.toUInt16.toUInt32.toNat = q % 2 ^ 32
      rw [UInt16.toNat_toUInt32, UInt32.toNat_toUInt16, show (nI q).toUInt32.toNat = q % 2 ^ 32 from rfl]
      omega
    exact congrArg Value.int e
  · have a : (0 : Int32) ≤ nI q := nI_pos' (by omega)
    have b : nI q ≤ 65535 := nI_le (b := 65535) (by omega) (by decide)
    show (decide ((0 : Int32) ≤ nI q) && decide (nI q ≤ 65535)) = true
    rw [decide_eq_true a, decide_eq_true b]
    rfl
theorem pk_char (x : Int32) : (x.toUInt32 % 65536).toInt32 = nI (x.toBitVec.toNat % 65536) := by
  apply Int32.toBitVec_inj.mp
  apply BitVec.eq_of_toNat_eq
  rw [pk_tn (by omega)]
  show (x.toUInt32 % 65536).toNat = _
  rw [UInt32.toNat_mod]
  rfl
theorem pk_nc (x : Int32) : narrow .char (.int (x.toUInt32 % 65536).toInt32) = .int (x.toUInt32 % 65536).toInt32 := by
  rw [pk_char]
  exact (pk_charN (Nat.mod_lt _ (by decide))).1
theorem pk_fc (x : Int32) : fits .char (.int (x.toUInt32 % 65536).toInt32) = true := by
  rw [pk_char]
  exact (pk_charN (Nat.mod_lt _ (by decide))).2
theorem pk_vb (z : Int32) : vp_nar .byte z.toInt8.toInt32 = z.toInt8.toInt32 := by rw [vp_nar_byte]; simp
theorem pk_vs (z : Int32) : vp_nar .short z.toInt16.toInt32 = z.toInt16.toInt32 := by rw [vp_nar_short]; simp
theorem pk_vc (z : Int32) : vp_nar .char (z.toUInt32 % 65536).toInt32 = (z.toUInt32 % 65536).toInt32 := Value.int.inj (pk_nc z)
theorem pk_lT {n : Nat} (h : n < 2 ^ 63) : (lN n).toInt = (n : Int) := lg_ofNat_toInt h
theorem pk_lLT {a b : Nat} (ha : a < 2 ^ 63) (hb : b < 2 ^ 63) : lN a < lN b ↔ a < b := by
  rw [Int64.lt_iff_toInt_lt, pk_lT ha, pk_lT hb]; omega
theorem pk_lLE {a b : Nat} (ha : a < 2 ^ 63) (hb : b < 2 ^ 63) : lN a ≤ lN b ↔ a ≤ b := by
  rw [Int64.le_iff_toInt_le, pk_lT ha, pk_lT hb]; omega
theorem pk_lEQ {a b : Nat} (ha : a < 2 ^ 63) (hb : b < 2 ^ 63) : lN a = lN b ↔ a = b := by
  rw [← Int64.toInt_inj, pk_lT ha, pk_lT hb]; omega
theorem pk_lOf {x : Int64} (h : ¬ x < 0) : ∃ k : Nat, k < 2 ^ 63 ∧ x = lN k := by
  rw [Int64.lt_iff_toInt_lt] at h
  have h0 : (0 : Int64).toInt = 0 := by decide
  have hx := Int64.toInt_lt x
  refine ⟨x.toInt.toNat, by omega, Int64.toInt_inj.mp ?_⟩
  rw [pk_lT (by omega)]
  omega
theorem pk_lDiv {a b : Nat} (ha : a < 2 ^ 63) (h0 : 0 < b) (hb : b < 2 ^ 63) : lN a / lN b = lN (a / b) := by
  apply Int64.toInt_inj.mp
  rw [lg_ldiv_nonneg (by rw [pk_lT ha]; omega) (by rw [pk_lT hb]; omega), pk_lT ha, pk_lT hb, pk_lT (Nat.lt_of_le_of_lt (Nat.div_le_self a b) ha)]
  rfl
theorem pk_lRem {a b : Nat} (ha : a < 2 ^ 63) (h0 : 0 < b) (hb : b < 2 ^ 63) : lN a - lN a / lN b * lN b = lN (a % b) := by
  rw [pk_lDiv ha h0 hb, lN_mul, lN_sub (Nat.div_mul_le_self a b)]
  exact congrArg lN (by have := Nat.div_add_mod' a b; omega)
theorem pk_loop {σ : Type} (W : Nat → Nat → σ → Prop) (I : Nat → σ → Prop) (e i0 : Nat) (s : σ) (hi : i0 ≤ e) (h0 : I i0 s) (hx : ∀ n s, I e s → W (n + 1) e s)
    (hs : ∀ n i s, i < e → I i s → (∀ s', I (i + 1) s' → W n (i + 1) s') → W (n + 1) i s) : ∃ n, W n i0 s :=
  ⟨e + 1, loop_i W I e hx hs (e + 1) i0 s hi (by omega) h0⟩
theorem pk_loopD {σ : Type} (W : Nat → Nat → σ → Prop) (I : Nat → σ → Prop) (hx : ∀ n s, I 0 s → W (n + 1) 0 s)
    (hs : ∀ n i s, I (i + 1) s → (∀ s', I i s' → W n i s') → W (n + 1) (i + 1) s) : ∀ (e : Nat) (s : σ), I e s → W (e + 1) e s := by
  intro e
  induction e with
  | zero => exact fun s h => hx 0 s h
  | succ e ih => exact fun s h => hs (e + 1) e s h (fun s' h' => ih s' h')
theorem lp1 {A1 : Type} (W : Nat → A1 → Prop) (I : A1 → Prop) (μ : A1 → Nat) (hs : ∀ (n : Nat) (a1 : A1), I a1 → (∀ (b1 : A1), I b1 → μ b1 < μ a1 → W n b1) → W (n + 1) a1) (a1 : A1) (h : I a1) : ∃ n, W n a1 :=
  loop_m (σ := A1) (fun n s => W n s) (fun s => I s) (fun s => μ s) (fun n s hI hk => hs n s hI (fun b1 h9 hm => hk b1 h9 hm)) a1 h
theorem lp2 {A1 A2 : Type} (W : Nat → A1 → A2 → Prop) (I : A1 → A2 → Prop) (μ : A1 → A2 → Nat) (hs : ∀ (n : Nat) (a1 : A1) (a2 : A2), I a1 a2 → (∀ (b1 : A1) (b2 : A2), I b1 b2 → μ b1 b2 < μ a1 a2 → W n b1 b2) → W (n + 1) a1 a2) (a1 : A1) (a2 : A2) (h : I a1 a2) : ∃ n, W n a1 a2 :=
  loop_m (σ := A1 × A2) (fun n s => W n s.1 s.2) (fun s => I s.1 s.2) (fun s => μ s.1 s.2) (fun n s hI hk => hs n s.1 s.2 hI (fun b1 b2 h9 hm => hk (b1, b2) h9 hm)) (a1, a2) h
theorem lp3 {A1 A2 A3 : Type} (W : Nat → A1 → A2 → A3 → Prop) (I : A1 → A2 → A3 → Prop) (μ : A1 → A2 → A3 → Nat) (hs : ∀ (n : Nat) (a1 : A1) (a2 : A2) (a3 : A3), I a1 a2 a3 → (∀ (b1 : A1) (b2 : A2) (b3 : A3), I b1 b2 b3 → μ b1 b2 b3 < μ a1 a2 a3 → W n b1 b2 b3) → W (n + 1) a1 a2 a3) (a1 : A1) (a2 : A2) (a3 : A3) (h : I a1 a2 a3) : ∃ n, W n a1 a2 a3 :=
  loop_m (σ := A1 × A2 × A3) (fun n s => W n s.1 s.2.1 s.2.2) (fun s => I s.1 s.2.1 s.2.2) (fun s => μ s.1 s.2.1 s.2.2) (fun n s hI hk => hs n s.1 s.2.1 s.2.2 hI (fun b1 b2 b3 h9 hm => hk (b1, b2, b3) h9 hm)) (a1, a2, a3) h
theorem lp4 {A1 A2 A3 A4 : Type} (W : Nat → A1 → A2 → A3 → A4 → Prop) (I : A1 → A2 → A3 → A4 → Prop) (μ : A1 → A2 → A3 → A4 → Nat) (hs : ∀ (n : Nat) (a1 : A1) (a2 : A2) (a3 : A3) (a4 : A4), I a1 a2 a3 a4 → (∀ (b1 : A1) (b2 : A2) (b3 : A3) (b4 : A4), I b1 b2 b3 b4 → μ b1 b2 b3 b4 < μ a1 a2 a3 a4 → W n b1 b2 b3 b4) → W (n + 1) a1 a2 a3 a4) (a1 : A1) (a2 : A2) (a3 : A3) (a4 : A4) (h : I a1 a2 a3 a4) : ∃ n, W n a1 a2 a3 a4 :=
  loop_m (σ := A1 × A2 × A3 × A4) (fun n s => W n s.1 s.2.1 s.2.2.1 s.2.2.2) (fun s => I s.1 s.2.1 s.2.2.1 s.2.2.2) (fun s => μ s.1 s.2.1 s.2.2.1 s.2.2.2) (fun n s hI hk => hs n s.1 s.2.1 s.2.2.1 s.2.2.2 hI (fun b1 b2 b3 b4 h9 hm => hk (b1, b2, b3, b4) h9 hm)) (a1, a2, a3, a4) h
theorem lp5 {A1 A2 A3 A4 A5 : Type} (W : Nat → A1 → A2 → A3 → A4 → A5 → Prop) (I : A1 → A2 → A3 → A4 → A5 → Prop) (μ : A1 → A2 → A3 → A4 → A5 → Nat) (hs : ∀ (n : Nat) (a1 : A1) (a2 : A2) (a3 : A3) (a4 : A4) (a5 : A5), I a1 a2 a3 a4 a5 → (∀ (b1 : A1) (b2 : A2) (b3 : A3) (b4 : A4) (b5 : A5), I b1 b2 b3 b4 b5 → μ b1 b2 b3 b4 b5 < μ a1 a2 a3 a4 a5 → W n b1 b2 b3 b4 b5) → W (n + 1) a1 a2 a3 a4 a5) (a1 : A1) (a2 : A2) (a3 : A3) (a4 : A4) (a5 : A5) (h : I a1 a2 a3 a4 a5) : ∃ n, W n a1 a2 a3 a4 a5 :=
  loop_m (σ := A1 × A2 × A3 × A4 × A5) (fun n s => W n s.1 s.2.1 s.2.2.1 s.2.2.2.1 s.2.2.2.2) (fun s => I s.1 s.2.1 s.2.2.1 s.2.2.2.1 s.2.2.2.2) (fun s => μ s.1 s.2.1 s.2.2.1 s.2.2.2.1 s.2.2.2.2) (fun n s hI hk => hs n s.1 s.2.1 s.2.2.1 s.2.2.2.1 s.2.2.2.2 hI (fun b1 b2 b3 b4 b5 h9 hm => hk (b1, b2, b3, b4, b5) h9 hm)) (a1, a2, a3, a4, a5) h
theorem lp6 {A1 A2 A3 A4 A5 A6 : Type} (W : Nat → A1 → A2 → A3 → A4 → A5 → A6 → Prop) (I : A1 → A2 → A3 → A4 → A5 → A6 → Prop) (μ : A1 → A2 → A3 → A4 → A5 → A6 → Nat) (hs : ∀ (n : Nat) (a1 : A1) (a2 : A2) (a3 : A3) (a4 : A4) (a5 : A5) (a6 : A6), I a1 a2 a3 a4 a5 a6 → (∀ (b1 : A1) (b2 : A2) (b3 : A3) (b4 : A4) (b5 : A5) (b6 : A6), I b1 b2 b3 b4 b5 b6 → μ b1 b2 b3 b4 b5 b6 < μ a1 a2 a3 a4 a5 a6 → W n b1 b2 b3 b4 b5 b6) → W (n + 1) a1 a2 a3 a4 a5 a6) (a1 : A1) (a2 : A2) (a3 : A3) (a4 : A4) (a5 : A5) (a6 : A6) (h : I a1 a2 a3 a4 a5 a6) : ∃ n, W n a1 a2 a3 a4 a5 a6 :=
  loop_m (σ := A1 × A2 × A3 × A4 × A5 × A6) (fun n s => W n s.1 s.2.1 s.2.2.1 s.2.2.2.1 s.2.2.2.2.1 s.2.2.2.2.2) (fun s => I s.1 s.2.1 s.2.2.1 s.2.2.2.1 s.2.2.2.2.1 s.2.2.2.2.2) (fun s => μ s.1 s.2.1 s.2.2.1 s.2.2.2.1 s.2.2.2.2.1 s.2.2.2.2.2) (fun n s hI hk => hs n s.1 s.2.1 s.2.2.1 s.2.2.2.1 s.2.2.2.2.1 s.2.2.2.2.2 hI (fun b1 b2 b3 b4 b5 b6 h9 hm => hk (b1, b2, b3, b4, b5, b6) h9 hm)) (a1, a2, a3, a4, a5, a6) h
theorem lp7 {A1 A2 A3 A4 A5 A6 A7 : Type} (W : Nat → A1 → A2 → A3 → A4 → A5 → A6 → A7 → Prop) (I : A1 → A2 → A3 → A4 → A5 → A6 → A7 → Prop) (μ : A1 → A2 → A3 → A4 → A5 → A6 → A7 → Nat) (hs : ∀ (n : Nat) (a1 : A1) (a2 : A2) (a3 : A3) (a4 : A4) (a5 : A5) (a6 : A6) (a7 : A7), I a1 a2 a3 a4 a5 a6 a7 → (∀ (b1 : A1) (b2 : A2) (b3 : A3) (b4 : A4) (b5 : A5) (b6 : A6) (b7 : A7), I b1 b2 b3 b4 b5 b6 b7 → μ b1 b2 b3 b4 b5 b6 b7 < μ a1 a2 a3 a4 a5 a6 a7 → W n b1 b2 b3 b4 b5 b6 b7) → W (n + 1) a1 a2 a3 a4 a5 a6 a7) (a1 : A1) (a2 : A2) (a3 : A3) (a4 : A4) (a5 : A5) (a6 : A6) (a7 : A7) (h : I a1 a2 a3 a4 a5 a6 a7) : ∃ n, W n a1 a2 a3 a4 a5 a6 a7 :=
  loop_m (σ := A1 × A2 × A3 × A4 × A5 × A6 × A7) (fun n s => W n s.1 s.2.1 s.2.2.1 s.2.2.2.1 s.2.2.2.2.1 s.2.2.2.2.2.1 s.2.2.2.2.2.2) (fun s => I s.1 s.2.1 s.2.2.1 s.2.2.2.1 s.2.2.2.2.1 s.2.2.2.2.2.1 s.2.2.2.2.2.2) (fun s => μ s.1 s.2.1 s.2.2.1 s.2.2.2.1 s.2.2.2.2.1 s.2.2.2.2.2.1 s.2.2.2.2.2.2) (fun n s hI hk => hs n s.1 s.2.1 s.2.2.1 s.2.2.2.1 s.2.2.2.2.1 s.2.2.2.2.2.1 s.2.2.2.2.2.2 hI (fun b1 b2 b3 b4 b5 b6 b7 h9 hm => hk (b1, b2, b3, b4, b5, b6, b7) h9 hm)) (a1, a2, a3, a4, a5, a6, a7) h
theorem lp8 {A1 A2 A3 A4 A5 A6 A7 A8 : Type} (W : Nat → A1 → A2 → A3 → A4 → A5 → A6 → A7 → A8 → Prop) (I : A1 → A2 → A3 → A4 → A5 → A6 → A7 → A8 → Prop) (μ : A1 → A2 → A3 → A4 → A5 → A6 → A7 → A8 → Nat) (hs : ∀ (n : Nat) (a1 : A1) (a2 : A2) (a3 : A3) (a4 : A4) (a5 : A5) (a6 : A6) (a7 : A7) (a8 : A8), I a1 a2 a3 a4 a5 a6 a7 a8 → (∀ (b1 : A1) (b2 : A2) (b3 : A3) (b4 : A4) (b5 : A5) (b6 : A6) (b7 : A7) (b8 : A8), I b1 b2 b3 b4 b5 b6 b7 b8 → μ b1 b2 b3 b4 b5 b6 b7 b8 < μ a1 a2 a3 a4 a5 a6 a7 a8 → W n b1 b2 b3 b4 b5 b6 b7 b8) → W (n + 1) a1 a2 a3 a4 a5 a6 a7 a8) (a1 : A1) (a2 : A2) (a3 : A3) (a4 : A4) (a5 : A5) (a6 : A6) (a7 : A7) (a8 : A8) (h : I a1 a2 a3 a4 a5 a6 a7 a8) : ∃ n, W n a1 a2 a3 a4 a5 a6 a7 a8 :=
  loop_m (σ := A1 × A2 × A3 × A4 × A5 × A6 × A7 × A8) (fun n s => W n s.1 s.2.1 s.2.2.1 s.2.2.2.1 s.2.2.2.2.1 s.2.2.2.2.2.1 s.2.2.2.2.2.2.1 s.2.2.2.2.2.2.2) (fun s => I s.1 s.2.1 s.2.2.1 s.2.2.2.1 s.2.2.2.2.1 s.2.2.2.2.2.1 s.2.2.2.2.2.2.1 s.2.2.2.2.2.2.2) (fun s => μ s.1 s.2.1 s.2.2.1 s.2.2.2.1 s.2.2.2.2.1 s.2.2.2.2.2.1 s.2.2.2.2.2.2.1 s.2.2.2.2.2.2.2) (fun n s hI hk => hs n s.1 s.2.1 s.2.2.1 s.2.2.2.1 s.2.2.2.2.1 s.2.2.2.2.2.1 s.2.2.2.2.2.2.1 s.2.2.2.2.2.2.2 hI (fun b1 b2 b3 b4 b5 b6 b7 b8 h9 hm => hk (b1, b2, b3, b4, b5, b6, b7, b8) h9 hm)) (a1, a2, a3, a4, a5, a6, a7, a8) h
theorem lp9 {A1 A2 A3 A4 A5 A6 A7 A8 A9 : Type} (W : Nat → A1 → A2 → A3 → A4 → A5 → A6 → A7 → A8 → A9 → Prop) (I : A1 → A2 → A3 → A4 → A5 → A6 → A7 → A8 → A9 → Prop) (μ : A1 → A2 → A3 → A4 → A5 → A6 → A7 → A8 → A9 → Nat) (hs : ∀ (n : Nat) (a1 : A1) (a2 : A2) (a3 : A3) (a4 : A4) (a5 : A5) (a6 : A6) (a7 : A7) (a8 : A8) (a9 : A9), I a1 a2 a3 a4 a5 a6 a7 a8 a9 → (∀ (b1 : A1) (b2 : A2) (b3 : A3) (b4 : A4) (b5 : A5) (b6 : A6) (b7 : A7) (b8 : A8) (b9 : A9), I b1 b2 b3 b4 b5 b6 b7 b8 b9 → μ b1 b2 b3 b4 b5 b6 b7 b8 b9 < μ a1 a2 a3 a4 a5 a6 a7 a8 a9 → W n b1 b2 b3 b4 b5 b6 b7 b8 b9) → W (n + 1) a1 a2 a3 a4 a5 a6 a7 a8 a9) (a1 : A1) (a2 : A2) (a3 : A3) (a4 : A4) (a5 : A5) (a6 : A6) (a7 : A7) (a8 : A8) (a9 : A9) (h : I a1 a2 a3 a4 a5 a6 a7 a8 a9) : ∃ n, W n a1 a2 a3 a4 a5 a6 a7 a8 a9 :=
  loop_m (σ := A1 × A2 × A3 × A4 × A5 × A6 × A7 × A8 × A9) (fun n s => W n s.1 s.2.1 s.2.2.1 s.2.2.2.1 s.2.2.2.2.1 s.2.2.2.2.2.1 s.2.2.2.2.2.2.1 s.2.2.2.2.2.2.2.1 s.2.2.2.2.2.2.2.2) (fun s => I s.1 s.2.1 s.2.2.1 s.2.2.2.1 s.2.2.2.2.1 s.2.2.2.2.2.1 s.2.2.2.2.2.2.1 s.2.2.2.2.2.2.2.1 s.2.2.2.2.2.2.2.2) (fun s => μ s.1 s.2.1 s.2.2.1 s.2.2.2.1 s.2.2.2.2.1 s.2.2.2.2.2.1 s.2.2.2.2.2.2.1 s.2.2.2.2.2.2.2.1 s.2.2.2.2.2.2.2.2) (fun n s hI hk => hs n s.1 s.2.1 s.2.2.1 s.2.2.2.1 s.2.2.2.2.1 s.2.2.2.2.2.1 s.2.2.2.2.2.2.1 s.2.2.2.2.2.2.2.1 s.2.2.2.2.2.2.2.2 hI (fun b1 b2 b3 b4 b5 b6 b7 b8 b9 h9 hm => hk (b1, b2, b3, b4, b5, b6, b7, b8, b9) h9 hm)) (a1, a2, a3, a4, a5, a6, a7, a8, a9) h
theorem lp10 {A1 A2 A3 A4 A5 A6 A7 A8 A9 A10 : Type} (W : Nat → A1 → A2 → A3 → A4 → A5 → A6 → A7 → A8 → A9 → A10 → Prop) (I : A1 → A2 → A3 → A4 → A5 → A6 → A7 → A8 → A9 → A10 → Prop) (μ : A1 → A2 → A3 → A4 → A5 → A6 → A7 → A8 → A9 → A10 → Nat) (hs : ∀ (n : Nat) (a1 : A1) (a2 : A2) (a3 : A3) (a4 : A4) (a5 : A5) (a6 : A6) (a7 : A7) (a8 : A8) (a9 : A9) (a10 : A10), I a1 a2 a3 a4 a5 a6 a7 a8 a9 a10 → (∀ (b1 : A1) (b2 : A2) (b3 : A3) (b4 : A4) (b5 : A5) (b6 : A6) (b7 : A7) (b8 : A8) (b9 : A9) (b10 : A10), I b1 b2 b3 b4 b5 b6 b7 b8 b9 b10 → μ b1 b2 b3 b4 b5 b6 b7 b8 b9 b10 < μ a1 a2 a3 a4 a5 a6 a7 a8 a9 a10 → W n b1 b2 b3 b4 b5 b6 b7 b8 b9 b10) → W (n + 1) a1 a2 a3 a4 a5 a6 a7 a8 a9 a10) (a1 : A1) (a2 : A2) (a3 : A3) (a4 : A4) (a5 : A5) (a6 : A6) (a7 : A7) (a8 : A8) (a9 : A9) (a10 : A10) (h : I a1 a2 a3 a4 a5 a6 a7 a8 a9 a10) : ∃ n, W n a1 a2 a3 a4 a5 a6 a7 a8 a9 a10 :=
  loop_m (σ := A1 × A2 × A3 × A4 × A5 × A6 × A7 × A8 × A9 × A10) (fun n s => W n s.1 s.2.1 s.2.2.1 s.2.2.2.1 s.2.2.2.2.1 s.2.2.2.2.2.1 s.2.2.2.2.2.2.1 s.2.2.2.2.2.2.2.1 s.2.2.2.2.2.2.2.2.1 s.2.2.2.2.2.2.2.2.2) (fun s => I s.1 s.2.1 s.2.2.1 s.2.2.2.1 s.2.2.2.2.1 s.2.2.2.2.2.1 s.2.2.2.2.2.2.1 s.2.2.2.2.2.2.2.1 s.2.2.2.2.2.2.2.2.1 s.2.2.2.2.2.2.2.2.2) (fun s => μ s.1 s.2.1 s.2.2.1 s.2.2.2.1 s.2.2.2.2.1 s.2.2.2.2.2.1 s.2.2.2.2.2.2.1 s.2.2.2.2.2.2.2.1 s.2.2.2.2.2.2.2.2.1 s.2.2.2.2.2.2.2.2.2) (fun n s hI hk => hs n s.1 s.2.1 s.2.2.1 s.2.2.2.1 s.2.2.2.2.1 s.2.2.2.2.2.1 s.2.2.2.2.2.2.1 s.2.2.2.2.2.2.2.1 s.2.2.2.2.2.2.2.2.1 s.2.2.2.2.2.2.2.2.2 hI (fun b1 b2 b3 b4 b5 b6 b7 b8 b9 b10 h9 hm => hk (b1, b2, b3, b4, b5, b6, b7, b8, b9, b10) h9 hm)) (a1, a2, a3, a4, a5, a6, a7, a8, a9, a10) h
theorem lp11 {A1 A2 A3 A4 A5 A6 A7 A8 A9 A10 A11 : Type} (W : Nat → A1 → A2 → A3 → A4 → A5 → A6 → A7 → A8 → A9 → A10 → A11 → Prop) (I : A1 → A2 → A3 → A4 → A5 → A6 → A7 → A8 → A9 → A10 → A11 → Prop) (μ : A1 → A2 → A3 → A4 → A5 → A6 → A7 → A8 → A9 → A10 → A11 → Nat) (hs : ∀ (n : Nat) (a1 : A1) (a2 : A2) (a3 : A3) (a4 : A4) (a5 : A5) (a6 : A6) (a7 : A7) (a8 : A8) (a9 : A9) (a10 : A10) (a11 : A11), I a1 a2 a3 a4 a5 a6 a7 a8 a9 a10 a11 → (∀ (b1 : A1) (b2 : A2) (b3 : A3) (b4 : A4) (b5 : A5) (b6 : A6) (b7 : A7) (b8 : A8) (b9 : A9) (b10 : A10) (b11 : A11), I b1 b2 b3 b4 b5 b6 b7 b8 b9 b10 b11 → μ b1 b2 b3 b4 b5 b6 b7 b8 b9 b10 b11 < μ a1 a2 a3 a4 a5 a6 a7 a8 a9 a10 a11 → W n b1 b2 b3 b4 b5 b6 b7 b8 b9 b10 b11) → W (n + 1) a1 a2 a3 a4 a5 a6 a7 a8 a9 a10 a11) (a1 : A1) (a2 : A2) (a3 : A3) (a4 : A4) (a5 : A5) (a6 : A6) (a7 : A7) (a8 : A8) (a9 : A9) (a10 : A10) (a11 : A11) (h : I a1 a2 a3 a4 a5 a6 a7 a8 a9 a10 a11) : ∃ n, W n a1 a2 a3 a4 a5 a6 a7 a8 a9 a10 a11 :=
  loop_m (σ := A1 × A2 × A3 × A4 × A5 × A6 × A7 × A8 × A9 × A10 × A11) (fun n s => W n s.1 s.2.1 s.2.2.1 s.2.2.2.1 s.2.2.2.2.1 s.2.2.2.2.2.1 s.2.2.2.2.2.2.1 s.2.2.2.2.2.2.2.1 s.2.2.2.2.2.2.2.2.1 s.2.2.2.2.2.2.2.2.2.1 s.2.2.2.2.2.2.2.2.2.2) (fun s => I s.1 s.2.1 s.2.2.1 s.2.2.2.1 s.2.2.2.2.1 s.2.2.2.2.2.1 s.2.2.2.2.2.2.1 s.2.2.2.2.2.2.2.1 s.2.2.2.2.2.2.2.2.1 s.2.2.2.2.2.2.2.2.2.1 s.2.2.2.2.2.2.2.2.2.2) (fun s => μ s.1 s.2.1 s.2.2.1 s.2.2.2.1 s.2.2.2.2.1 s.2.2.2.2.2.1 s.2.2.2.2.2.2.1 s.2.2.2.2.2.2.2.1 s.2.2.2.2.2.2.2.2.1 s.2.2.2.2.2.2.2.2.2.1 s.2.2.2.2.2.2.2.2.2.2) (fun n s hI hk => hs n s.1 s.2.1 s.2.2.1 s.2.2.2.1 s.2.2.2.2.1 s.2.2.2.2.2.1 s.2.2.2.2.2.2.1 s.2.2.2.2.2.2.2.1 s.2.2.2.2.2.2.2.2.1 s.2.2.2.2.2.2.2.2.2.1 s.2.2.2.2.2.2.2.2.2.2 hI (fun b1 b2 b3 b4 b5 b6 b7 b8 b9 b10 b11 h9 hm => hk (b1, b2, b3, b4, b5, b6, b7, b8, b9, b10, b11) h9 hm)) (a1, a2, a3, a4, a5, a6, a7, a8, a9, a10, a11) h
theorem lp12 {A1 A2 A3 A4 A5 A6 A7 A8 A9 A10 A11 A12 : Type} (W : Nat → A1 → A2 → A3 → A4 → A5 → A6 → A7 → A8 → A9 → A10 → A11 → A12 → Prop) (I : A1 → A2 → A3 → A4 → A5 → A6 → A7 → A8 → A9 → A10 → A11 → A12 → Prop) (μ : A1 → A2 → A3 → A4 → A5 → A6 → A7 → A8 → A9 → A10 → A11 → A12 → Nat) (hs : ∀ (n : Nat) (a1 : A1) (a2 : A2) (a3 : A3) (a4 : A4) (a5 : A5) (a6 : A6) (a7 : A7) (a8 : A8) (a9 : A9) (a10 : A10) (a11 : A11) (a12 : A12), I a1 a2 a3 a4 a5 a6 a7 a8 a9 a10 a11 a12 → (∀ (b1 : A1) (b2 : A2) (b3 : A3) (b4 : A4) (b5 : A5) (b6 : A6) (b7 : A7) (b8 : A8) (b9 : A9) (b10 : A10) (b11 : A11) (b12 : A12), I b1 b2 b3 b4 b5 b6 b7 b8 b9 b10 b11 b12 → μ b1 b2 b3 b4 b5 b6 b7 b8 b9 b10 b11 b12 < μ a1 a2 a3 a4 a5 a6 a7 a8 a9 a10 a11 a12 → W n b1 b2 b3 b4 b5 b6 b7 b8 b9 b10 b11 b12) → W (n + 1) a1 a2 a3 a4 a5 a6 a7 a8 a9 a10 a11 a12) (a1 : A1) (a2 : A2) (a3 : A3) (a4 : A4) (a5 : A5) (a6 : A6) (a7 : A7) (a8 : A8) (a9 : A9) (a10 : A10) (a11 : A11) (a12 : A12) (h : I a1 a2 a3 a4 a5 a6 a7 a8 a9 a10 a11 a12) : ∃ n, W n a1 a2 a3 a4 a5 a6 a7 a8 a9 a10 a11 a12 :=
  loop_m (σ := A1 × A2 × A3 × A4 × A5 × A6 × A7 × A8 × A9 × A10 × A11 × A12) (fun n s => W n s.1 s.2.1 s.2.2.1 s.2.2.2.1 s.2.2.2.2.1 s.2.2.2.2.2.1 s.2.2.2.2.2.2.1 s.2.2.2.2.2.2.2.1 s.2.2.2.2.2.2.2.2.1 s.2.2.2.2.2.2.2.2.2.1 s.2.2.2.2.2.2.2.2.2.2.1 s.2.2.2.2.2.2.2.2.2.2.2) (fun s => I s.1 s.2.1 s.2.2.1 s.2.2.2.1 s.2.2.2.2.1 s.2.2.2.2.2.1 s.2.2.2.2.2.2.1 s.2.2.2.2.2.2.2.1 s.2.2.2.2.2.2.2.2.1 s.2.2.2.2.2.2.2.2.2.1 s.2.2.2.2.2.2.2.2.2.2.1 s.2.2.2.2.2.2.2.2.2.2.2) (fun s => μ s.1 s.2.1 s.2.2.1 s.2.2.2.1 s.2.2.2.2.1 s.2.2.2.2.2.1 s.2.2.2.2.2.2.1 s.2.2.2.2.2.2.2.1 s.2.2.2.2.2.2.2.2.1 s.2.2.2.2.2.2.2.2.2.1 s.2.2.2.2.2.2.2.2.2.2.1 s.2.2.2.2.2.2.2.2.2.2.2) (fun n s hI hk => hs n s.1 s.2.1 s.2.2.1 s.2.2.2.1 s.2.2.2.2.1 s.2.2.2.2.2.1 s.2.2.2.2.2.2.1 s.2.2.2.2.2.2.2.1 s.2.2.2.2.2.2.2.2.1 s.2.2.2.2.2.2.2.2.2.1 s.2.2.2.2.2.2.2.2.2.2.1 s.2.2.2.2.2.2.2.2.2.2.2 hI (fun b1 b2 b3 b4 b5 b6 b7 b8 b9 b10 b11 b12 h9 hm => hk (b1, b2, b3, b4, b5, b6, b7, b8, b9, b10, b11, b12) h9 hm)) (a1, a2, a3, a4, a5, a6, a7, a8, a9, a10, a11, a12) h
theorem lp13 {A1 A2 A3 A4 A5 A6 A7 A8 A9 A10 A11 A12 A13 : Type} (W : Nat → A1 → A2 → A3 → A4 → A5 → A6 → A7 → A8 → A9 → A10 → A11 → A12 → A13 → Prop) (I : A1 → A2 → A3 → A4 → A5 → A6 → A7 → A8 → A9 → A10 → A11 → A12 → A13 → Prop) (μ : A1 → A2 → A3 → A4 → A5 → A6 → A7 → A8 → A9 → A10 → A11 → A12 → A13 → Nat) (hs : ∀ (n : Nat) (a1 : A1) (a2 : A2) (a3 : A3) (a4 : A4) (a5 : A5) (a6 : A6) (a7 : A7) (a8 : A8) (a9 : A9) (a10 : A10) (a11 : A11) (a12 : A12) (a13 : A13), I a1 a2 a3 a4 a5 a6 a7 a8 a9 a10 a11 a12 a13 → (∀ (b1 : A1) (b2 : A2) (b3 : A3) (b4 : A4) (b5 : A5) (b6 : A6) (b7 : A7) (b8 : A8) (b9 : A9) (b10 : A10) (b11 : A11) (b12 : A12) (b13 : A13), I b1 b2 b3 b4 b5 b6 b7 b8 b9 b10 b11 b12 b13 → μ b1 b2 b3 b4 b5 b6 b7 b8 b9 b10 b11 b12 b13 < μ a1 a2 a3 a4 a5 a6 a7 a8 a9 a10 a11 a12 a13 → W n b1 b2 b3 b4 b5 b6 b7 b8 b9 b10 b11 b12 b13) → W (n + 1) a1 a2 a3 a4 a5 a6 a7 a8 a9 a10 a11 a12 a13) (a1 : A1) (a2 : A2) (a3 : A3) (a4 : A4) (a5 : A5) (a6 : A6) (a7 : A7) (a8 : A8) (a9 : A9) (a10 : A10) (a11 : A11) (a12 : A12) (a13 : A13) (h : I a1 a2 a3 a4 a5 a6 a7 a8 a9 a10 a11 a12 a13) : ∃ n, W n a1 a2 a3 a4 a5 a6 a7 a8 a9 a10 a11 a12 a13 :=
  loop_m (σ := A1 × A2 × A3 × A4 × A5 × A6 × A7 × A8 × A9 × A10 × A11 × A12 × A13) (fun n s => W n s.1 s.2.1 s.2.2.1 s.2.2.2.1 s.2.2.2.2.1 s.2.2.2.2.2.1 s.2.2.2.2.2.2.1 s.2.2.2.2.2.2.2.1 s.2.2.2.2.2.2.2.2.1 s.2.2.2.2.2.2.2.2.2.1 s.2.2.2.2.2.2.2.2.2.2.1 s.2.2.2.2.2.2.2.2.2.2.2.1 s.2.2.2.2.2.2.2.2.2.2.2.2) (fun s => I s.1 s.2.1 s.2.2.1 s.2.2.2.1 s.2.2.2.2.1 s.2.2.2.2.2.1 s.2.2.2.2.2.2.1 s.2.2.2.2.2.2.2.1 s.2.2.2.2.2.2.2.2.1 s.2.2.2.2.2.2.2.2.2.1 s.2.2.2.2.2.2.2.2.2.2.1 s.2.2.2.2.2.2.2.2.2.2.2.1 s.2.2.2.2.2.2.2.2.2.2.2.2) (fun s => μ s.1 s.2.1 s.2.2.1 s.2.2.2.1 s.2.2.2.2.1 s.2.2.2.2.2.1 s.2.2.2.2.2.2.1 s.2.2.2.2.2.2.2.1 s.2.2.2.2.2.2.2.2.1 s.2.2.2.2.2.2.2.2.2.1 s.2.2.2.2.2.2.2.2.2.2.1 s.2.2.2.2.2.2.2.2.2.2.2.1 s.2.2.2.2.2.2.2.2.2.2.2.2) (fun n s hI hk => hs n s.1 s.2.1 s.2.2.1 s.2.2.2.1 s.2.2.2.2.1 s.2.2.2.2.2.1 s.2.2.2.2.2.2.1 s.2.2.2.2.2.2.2.1 s.2.2.2.2.2.2.2.2.1 s.2.2.2.2.2.2.2.2.2.1 s.2.2.2.2.2.2.2.2.2.2.1 s.2.2.2.2.2.2.2.2.2.2.2.1 s.2.2.2.2.2.2.2.2.2.2.2.2 hI (fun b1 b2 b3 b4 b5 b6 b7 b8 b9 b10 b11 b12 b13 h9 hm => hk (b1, b2, b3, b4, b5, b6, b7, b8, b9, b10, b11, b12, b13) h9 hm)) (a1, a2, a3, a4, a5, a6, a7, a8, a9, a10, a11, a12, a13) h
theorem lp14 {A1 A2 A3 A4 A5 A6 A7 A8 A9 A10 A11 A12 A13 A14 : Type} (W : Nat → A1 → A2 → A3 → A4 → A5 → A6 → A7 → A8 → A9 → A10 → A11 → A12 → A13 → A14 → Prop) (I : A1 → A2 → A3 → A4 → A5 → A6 → A7 → A8 → A9 → A10 → A11 → A12 → A13 → A14 → Prop) (μ : A1 → A2 → A3 → A4 → A5 → A6 → A7 → A8 → A9 → A10 → A11 → A12 → A13 → A14 → Nat) (hs : ∀ (n : Nat) (a1 : A1) (a2 : A2) (a3 : A3) (a4 : A4) (a5 : A5) (a6 : A6) (a7 : A7) (a8 : A8) (a9 : A9) (a10 : A10) (a11 : A11) (a12 : A12) (a13 : A13) (a14 : A14), I a1 a2 a3 a4 a5 a6 a7 a8 a9 a10 a11 a12 a13 a14 → (∀ (b1 : A1) (b2 : A2) (b3 : A3) (b4 : A4) (b5 : A5) (b6 : A6) (b7 : A7) (b8 : A8) (b9 : A9) (b10 : A10) (b11 : A11) (b12 : A12) (b13 : A13) (b14 : A14), I b1 b2 b3 b4 b5 b6 b7 b8 b9 b10 b11 b12 b13 b14 → μ b1 b2 b3 b4 b5 b6 b7 b8 b9 b10 b11 b12 b13 b14 < μ a1 a2 a3 a4 a5 a6 a7 a8 a9 a10 a11 a12 a13 a14 → W n b1 b2 b3 b4 b5 b6 b7 b8 b9 b10 b11 b12 b13 b14) → W (n + 1) a1 a2 a3 a4 a5 a6 a7 a8 a9 a10 a11 a12 a13 a14) (a1 : A1) (a2 : A2) (a3 : A3) (a4 : A4) (a5 : A5) (a6 : A6) (a7 : A7) (a8 : A8) (a9 : A9) (a10 : A10) (a11 : A11) (a12 : A12) (a13 : A13) (a14 : A14) (h : I a1 a2 a3 a4 a5 a6 a7 a8 a9 a10 a11 a12 a13 a14) : ∃ n, W n a1 a2 a3 a4 a5 a6 a7 a8 a9 a10 a11 a12 a13 a14 :=
  loop_m (σ := A1 × A2 × A3 × A4 × A5 × A6 × A7 × A8 × A9 × A10 × A11 × A12 × A13 × A14) (fun n s => W n s.1 s.2.1 s.2.2.1 s.2.2.2.1 s.2.2.2.2.1 s.2.2.2.2.2.1 s.2.2.2.2.2.2.1 s.2.2.2.2.2.2.2.1 s.2.2.2.2.2.2.2.2.1 s.2.2.2.2.2.2.2.2.2.1 s.2.2.2.2.2.2.2.2.2.2.1 s.2.2.2.2.2.2.2.2.2.2.2.1 s.2.2.2.2.2.2.2.2.2.2.2.2.1 s.2.2.2.2.2.2.2.2.2.2.2.2.2) (fun s => I s.1 s.2.1 s.2.2.1 s.2.2.2.1 s.2.2.2.2.1 s.2.2.2.2.2.1 s.2.2.2.2.2.2.1 s.2.2.2.2.2.2.2.1 s.2.2.2.2.2.2.2.2.1 s.2.2.2.2.2.2.2.2.2.1 s.2.2.2.2.2.2.2.2.2.2.1 s.2.2.2.2.2.2.2.2.2.2.2.1 s.2.2.2.2.2.2.2.2.2.2.2.2.1 s.2.2.2.2.2.2.2.2.2.2.2.2.2) (fun s => μ s.1 s.2.1 s.2.2.1 s.2.2.2.1 s.2.2.2.2.1 s.2.2.2.2.2.1 s.2.2.2.2.2.2.1 s.2.2.2.2.2.2.2.1 s.2.2.2.2.2.2.2.2.1 s.2.2.2.2.2.2.2.2.2.1 s.2.2.2.2.2.2.2.2.2.2.1 s.2.2.2.2.2.2.2.2.2.2.2.1 s.2.2.2.2.2.2.2.2.2.2.2.2.1 s.2.2.2.2.2.2.2.2.2.2.2.2.2) (fun n s hI hk => hs n s.1 s.2.1 s.2.2.1 s.2.2.2.1 s.2.2.2.2.1 s.2.2.2.2.2.1 s.2.2.2.2.2.2.1 s.2.2.2.2.2.2.2.1 s.2.2.2.2.2.2.2.2.1 s.2.2.2.2.2.2.2.2.2.1 s.2.2.2.2.2.2.2.2.2.2.1 s.2.2.2.2.2.2.2.2.2.2.2.1 s.2.2.2.2.2.2.2.2.2.2.2.2.1 s.2.2.2.2.2.2.2.2.2.2.2.2.2 hI (fun b1 b2 b3 b4 b5 b6 b7 b8 b9 b10 b11 b12 b13 b14 h9 hm => hk (b1, b2, b3, b4, b5, b6, b7, b8, b9, b10, b11, b12, b13, b14) h9 hm)) (a1, a2, a3, a4, a5, a6, a7, a8, a9, a10, a11, a12, a13, a14) h
theorem lp15 {A1 A2 A3 A4 A5 A6 A7 A8 A9 A10 A11 A12 A13 A14 A15 : Type} (W : Nat → A1 → A2 → A3 → A4 → A5 → A6 → A7 → A8 → A9 → A10 → A11 → A12 → A13 → A14 → A15 → Prop) (I : A1 → A2 → A3 → A4 → A5 → A6 → A7 → A8 → A9 → A10 → A11 → A12 → A13 → A14 → A15 → Prop) (μ : A1 → A2 → A3 → A4 → A5 → A6 → A7 → A8 → A9 → A10 → A11 → A12 → A13 → A14 → A15 → Nat) (hs : ∀ (n : Nat) (a1 : A1) (a2 : A2) (a3 : A3) (a4 : A4) (a5 : A5) (a6 : A6) (a7 : A7) (a8 : A8) (a9 : A9) (a10 : A10) (a11 : A11) (a12 : A12) (a13 : A13) (a14 : A14) (a15 : A15), I a1 a2 a3 a4 a5 a6 a7 a8 a9 a10 a11 a12 a13 a14 a15 → (∀ (b1 : A1) (b2 : A2) (b3 : A3) (b4 : A4) (b5 : A5) (b6 : A6) (b7 : A7) (b8 : A8) (b9 : A9) (b10 : A10) (b11 : A11) (b12 : A12) (b13 : A13) (b14 : A14) (b15 : A15), I b1 b2 b3 b4 b5 b6 b7 b8 b9 b10 b11 b12 b13 b14 b15 → μ b1 b2 b3 b4 b5 b6 b7 b8 b9 b10 b11 b12 b13 b14 b15 < μ a1 a2 a3 a4 a5 a6 a7 a8 a9 a10 a11 a12 a13 a14 a15 → W n b1 b2 b3 b4 b5 b6 b7 b8 b9 b10 b11 b12 b13 b14 b15) → W (n + 1) a1 a2 a3 a4 a5 a6 a7 a8 a9 a10 a11 a12 a13 a14 a15) (a1 : A1) (a2 : A2) (a3 : A3) (a4 : A4) (a5 : A5) (a6 : A6) (a7 : A7) (a8 : A8) (a9 : A9) (a10 : A10) (a11 : A11) (a12 : A12) (a13 : A13) (a14 : A14) (a15 : A15) (h : I a1 a2 a3 a4 a5 a6 a7 a8 a9 a10 a11 a12 a13 a14 a15) : ∃ n, W n a1 a2 a3 a4 a5 a6 a7 a8 a9 a10 a11 a12 a13 a14 a15 :=
  loop_m (σ := A1 × A2 × A3 × A4 × A5 × A6 × A7 × A8 × A9 × A10 × A11 × A12 × A13 × A14 × A15) (fun n s => W n s.1 s.2.1 s.2.2.1 s.2.2.2.1 s.2.2.2.2.1 s.2.2.2.2.2.1 s.2.2.2.2.2.2.1 s.2.2.2.2.2.2.2.1 s.2.2.2.2.2.2.2.2.1 s.2.2.2.2.2.2.2.2.2.1 s.2.2.2.2.2.2.2.2.2.2.1 s.2.2.2.2.2.2.2.2.2.2.2.1 s.2.2.2.2.2.2.2.2.2.2.2.2.1 s.2.2.2.2.2.2.2.2.2.2.2.2.2.1 s.2.2.2.2.2.2.2.2.2.2.2.2.2.2) (fun s => I s.1 s.2.1 s.2.2.1 s.2.2.2.1 s.2.2.2.2.1 s.2.2.2.2.2.1 s.2.2.2.2.2.2.1 s.2.2.2.2.2.2.2.1 s.2.2.2.2.2.2.2.2.1 s.2.2.2.2.2.2.2.2.2.1 s.2.2.2.2.2.2.2.2.2.2.1 s.2.2.2.2.2.2.2.2.2.2.2.1 s.2.2.2.2.2.2.2.2.2.2.2.2.1 s.2.2.2.2.2.2.2.2.2.2.2.2.2.1 s.2.2.2.2.2.2.2.2.2.2.2.2.2.2) (fun s => μ s.1 s.2.1 s.2.2.1 s.2.2.2.1 s.2.2.2.2.1 s.2.2.2.2.2.1 s.2.2.2.2.2.2.1 s.2.2.2.2.2.2.2.1 s.2.2.2.2.2.2.2.2.1 s.2.2.2.2.2.2.2.2.2.1 s.2.2.2.2.2.2.2.2.2.2.1 s.2.2.2.2.2.2.2.2.2.2.2.1 s.2.2.2.2.2.2.2.2.2.2.2.2.1 s.2.2.2.2.2.2.2.2.2.2.2.2.2.1 s.2.2.2.2.2.2.2.2.2.2.2.2.2.2) (fun n s hI hk => hs n s.1 s.2.1 s.2.2.1 s.2.2.2.1 s.2.2.2.2.1 s.2.2.2.2.2.1 s.2.2.2.2.2.2.1 s.2.2.2.2.2.2.2.1 s.2.2.2.2.2.2.2.2.1 s.2.2.2.2.2.2.2.2.2.1 s.2.2.2.2.2.2.2.2.2.2.1 s.2.2.2.2.2.2.2.2.2.2.2.1 s.2.2.2.2.2.2.2.2.2.2.2.2.1 s.2.2.2.2.2.2.2.2.2.2.2.2.2.1 s.2.2.2.2.2.2.2.2.2.2.2.2.2.2 hI (fun b1 b2 b3 b4 b5 b6 b7 b8 b9 b10 b11 b12 b13 b14 b15 h9 hm => hk (b1, b2, b3, b4, b5, b6, b7, b8, b9, b10, b11, b12, b13, b14, b15) h9 hm)) (a1, a2, a3, a4, a5, a6, a7, a8, a9, a10, a11, a12, a13, a14, a15) h
theorem lp16 {A1 A2 A3 A4 A5 A6 A7 A8 A9 A10 A11 A12 A13 A14 A15 A16 : Type} (W : Nat → A1 → A2 → A3 → A4 → A5 → A6 → A7 → A8 → A9 → A10 → A11 → A12 → A13 → A14 → A15 → A16 → Prop) (I : A1 → A2 → A3 → A4 → A5 → A6 → A7 → A8 → A9 → A10 → A11 → A12 → A13 → A14 → A15 → A16 → Prop) (μ : A1 → A2 → A3 → A4 → A5 → A6 → A7 → A8 → A9 → A10 → A11 → A12 → A13 → A14 → A15 → A16 → Nat) (hs : ∀ (n : Nat) (a1 : A1) (a2 : A2) (a3 : A3) (a4 : A4) (a5 : A5) (a6 : A6) (a7 : A7) (a8 : A8) (a9 : A9) (a10 : A10) (a11 : A11) (a12 : A12) (a13 : A13) (a14 : A14) (a15 : A15) (a16 : A16), I a1 a2 a3 a4 a5 a6 a7 a8 a9 a10 a11 a12 a13 a14 a15 a16 → (∀ (b1 : A1) (b2 : A2) (b3 : A3) (b4 : A4) (b5 : A5) (b6 : A6) (b7 : A7) (b8 : A8) (b9 : A9) (b10 : A10) (b11 : A11) (b12 : A12) (b13 : A13) (b14 : A14) (b15 : A15) (b16 : A16), I b1 b2 b3 b4 b5 b6 b7 b8 b9 b10 b11 b12 b13 b14 b15 b16 → μ b1 b2 b3 b4 b5 b6 b7 b8 b9 b10 b11 b12 b13 b14 b15 b16 < μ a1 a2 a3 a4 a5 a6 a7 a8 a9 a10 a11 a12 a13 a14 a15 a16 → W n b1 b2 b3 b4 b5 b6 b7 b8 b9 b10 b11 b12 b13 b14 b15 b16) → W (n + 1) a1 a2 a3 a4 a5 a6 a7 a8 a9 a10 a11 a12 a13 a14 a15 a16) (a1 : A1) (a2 : A2) (a3 : A3) (a4 : A4) (a5 : A5) (a6 : A6) (a7 : A7) (a8 : A8) (a9 : A9) (a10 : A10) (a11 : A11) (a12 : A12) (a13 : A13) (a14 : A14) (a15 : A15) (a16 : A16) (h : I a1 a2 a3 a4 a5 a6 a7 a8 a9 a10 a11 a12 a13 a14 a15 a16) : ∃ n, W n a1 a2 a3 a4 a5 a6 a7 a8 a9 a10 a11 a12 a13 a14 a15 a16 :=
  loop_m (σ := A1 × A2 × A3 × A4 × A5 × A6 × A7 × A8 × A9 × A10 × A11 × A12 × A13 × A14 × A15 × A16) (fun n s => W n s.1 s.2.1 s.2.2.1 s.2.2.2.1 s.2.2.2.2.1 s.2.2.2.2.2.1 s.2.2.2.2.2.2.1 s.2.2.2.2.2.2.2.1 s.2.2.2.2.2.2.2.2.1 s.2.2.2.2.2.2.2.2.2.1 s.2.2.2.2.2.2.2.2.2.2.1 s.2.2.2.2.2.2.2.2.2.2.2.1 s.2.2.2.2.2.2.2.2.2.2.2.2.1 s.2.2.2.2.2.2.2.2.2.2.2.2.2.1 s.2.2.2.2.2.2.2.2.2.2.2.2.2.2.1 s.2.2.2.2.2.2.2.2.2.2.2.2.2.2.2) (fun s => I s.1 s.2.1 s.2.2.1 s.2.2.2.1 s.2.2.2.2.1 s.2.2.2.2.2.1 s.2.2.2.2.2.2.1 s.2.2.2.2.2.2.2.1 s.2.2.2.2.2.2.2.2.1 s.2.2.2.2.2.2.2.2.2.1 s.2.2.2.2.2.2.2.2.2.2.1 s.2.2.2.2.2.2.2.2.2.2.2.1 s.2.2.2.2.2.2.2.2.2.2.2.2.1 s.2.2.2.2.2.2.2.2.2.2.2.2.2.1 s.2.2.2.2.2.2.2.2.2.2.2.2.2.2.1 s.2.2.2.2.2.2.2.2.2.2.2.2.2.2.2) (fun s => μ s.1 s.2.1 s.2.2.1 s.2.2.2.1 s.2.2.2.2.1 s.2.2.2.2.2.1 s.2.2.2.2.2.2.1 s.2.2.2.2.2.2.2.1 s.2.2.2.2.2.2.2.2.1 s.2.2.2.2.2.2.2.2.2.1 s.2.2.2.2.2.2.2.2.2.2.1 s.2.2.2.2.2.2.2.2.2.2.2.1 s.2.2.2.2.2.2.2.2.2.2.2.2.1 s.2.2.2.2.2.2.2.2.2.2.2.2.2.1 s.2.2.2.2.2.2.2.2.2.2.2.2.2.2.1 s.2.2.2.2.2.2.2.2.2.2.2.2.2.2.2) (fun n s hI hk => hs n s.1 s.2.1 s.2.2.1 s.2.2.2.1 s.2.2.2.2.1 s.2.2.2.2.2.1 s.2.2.2.2.2.2.1 s.2.2.2.2.2.2.2.1 s.2.2.2.2.2.2.2.2.1 s.2.2.2.2.2.2.2.2.2.1 s.2.2.2.2.2.2.2.2.2.2.1 s.2.2.2.2.2.2.2.2.2.2.2.1 s.2.2.2.2.2.2.2.2.2.2.2.2.1 s.2.2.2.2.2.2.2.2.2.2.2.2.2.1 s.2.2.2.2.2.2.2.2.2.2.2.2.2.2.1 s.2.2.2.2.2.2.2.2.2.2.2.2.2.2.2 hI (fun b1 b2 b3 b4 b5 b6 b7 b8 b9 b10 b11 b12 b13 b14 b15 b16 h9 hm => hk (b1, b2, b3, b4, b5, b6, b7, b8, b9, b10, b11, b12, b13, b14, b15, b16) h9 hm)) (a1, a2, a3, a4, a5, a6, a7, a8, a9, a10, a11, a12, a13, a14, a15, a16) h
theorem pk_least (P : Nat → Prop) (h : ∃ k, P k) : ∃ k, P k ∧ ∀ j, j < k → ¬ P j := by
  obtain ⟨k, hk⟩ := h
  induction k using Nat.strongRecOn with
  | ind k ih =>
    by_cases e : ∃ j, j < k ∧ P j
    · obtain ⟨j, hj, pj⟩ := e
      exact ih j hj pj
    · exact ⟨k, hk, fun j hj pj => e ⟨j, hj, pj⟩⟩
theorem rp1 {ρ A1 : Type} (W : Nat → (ρ → Prop) → A1 → Prop) (ok : A1 → Prop) (μ : A1 → Nat) (val : A1 → ρ)
    (hs : ∀ (d : Nat) (post : ρ → Prop) (a1 : A1), ok a1 → post (val a1) → (∀ (post' : ρ → Prop) (b1 : A1), ok b1 → μ b1 < μ a1 → post' (val b1) → W d post' b1) → W (d + 1) post a1) :
    ∀ (d : Nat) (post : ρ → Prop) (a1 : A1), ok a1 → μ a1 < d → post (val a1) → W d post a1 := by
  intro d
  induction d with
  | zero => intro post a1 _ h; omega
  | succ d ih =>
    intro post a1 ho hm hp
    exact hs d post a1 ho hp (fun post' b1 ho' hm' hp' => ih post' b1 ho' (by omega) hp')
theorem rp2 {ρ A1 A2 : Type} (W : Nat → (ρ → Prop) → A1 → A2 → Prop) (ok : A1 → A2 → Prop) (μ : A1 → A2 → Nat) (val : A1 → A2 → ρ)
    (hs : ∀ (d : Nat) (post : ρ → Prop) (a1 : A1) (a2 : A2), ok a1 a2 → post (val a1 a2) → (∀ (post' : ρ → Prop) (b1 : A1) (b2 : A2), ok b1 b2 → μ b1 b2 < μ a1 a2 → post' (val b1 b2) → W d post' b1 b2) → W (d + 1) post a1 a2) :
    ∀ (d : Nat) (post : ρ → Prop) (a1 : A1) (a2 : A2), ok a1 a2 → μ a1 a2 < d → post (val a1 a2) → W d post a1 a2 := by
  intro d
  induction d with
  | zero => intro post a1 a2 _ h; omega
  | succ d ih =>
    intro post a1 a2 ho hm hp
    exact hs d post a1 a2 ho hp (fun post' b1 b2 ho' hm' hp' => ih post' b1 b2 ho' (by omega) hp')
theorem rp3 {ρ A1 A2 A3 : Type} (W : Nat → (ρ → Prop) → A1 → A2 → A3 → Prop) (ok : A1 → A2 → A3 → Prop) (μ : A1 → A2 → A3 → Nat) (val : A1 → A2 → A3 → ρ)
    (hs : ∀ (d : Nat) (post : ρ → Prop) (a1 : A1) (a2 : A2) (a3 : A3), ok a1 a2 a3 → post (val a1 a2 a3) → (∀ (post' : ρ → Prop) (b1 : A1) (b2 : A2) (b3 : A3), ok b1 b2 b3 → μ b1 b2 b3 < μ a1 a2 a3 → post' (val b1 b2 b3) → W d post' b1 b2 b3) → W (d + 1) post a1 a2 a3) :
    ∀ (d : Nat) (post : ρ → Prop) (a1 : A1) (a2 : A2) (a3 : A3), ok a1 a2 a3 → μ a1 a2 a3 < d → post (val a1 a2 a3) → W d post a1 a2 a3 := by
  intro d
  induction d with
  | zero => intro post a1 a2 a3 _ h; omega
  | succ d ih =>
    intro post a1 a2 a3 ho hm hp
    exact hs d post a1 a2 a3 ho hp (fun post' b1 b2 b3 ho' hm' hp' => ih post' b1 b2 b3 ho' (by omega) hp')
theorem rp4 {ρ A1 A2 A3 A4 : Type} (W : Nat → (ρ → Prop) → A1 → A2 → A3 → A4 → Prop) (ok : A1 → A2 → A3 → A4 → Prop) (μ : A1 → A2 → A3 → A4 → Nat) (val : A1 → A2 → A3 → A4 → ρ)
    (hs : ∀ (d : Nat) (post : ρ → Prop) (a1 : A1) (a2 : A2) (a3 : A3) (a4 : A4), ok a1 a2 a3 a4 → post (val a1 a2 a3 a4) → (∀ (post' : ρ → Prop) (b1 : A1) (b2 : A2) (b3 : A3) (b4 : A4), ok b1 b2 b3 b4 → μ b1 b2 b3 b4 < μ a1 a2 a3 a4 → post' (val b1 b2 b3 b4) → W d post' b1 b2 b3 b4) → W (d + 1) post a1 a2 a3 a4) :
    ∀ (d : Nat) (post : ρ → Prop) (a1 : A1) (a2 : A2) (a3 : A3) (a4 : A4), ok a1 a2 a3 a4 → μ a1 a2 a3 a4 < d → post (val a1 a2 a3 a4) → W d post a1 a2 a3 a4 := by
  intro d
  induction d with
  | zero => intro post a1 a2 a3 a4 _ h; omega
  | succ d ih =>
    intro post a1 a2 a3 a4 ho hm hp
    exact hs d post a1 a2 a3 a4 ho hp (fun post' b1 b2 b3 b4 ho' hm' hp' => ih post' b1 b2 b3 b4 ho' (by omega) hp')
theorem rp5 {ρ A1 A2 A3 A4 A5 : Type} (W : Nat → (ρ → Prop) → A1 → A2 → A3 → A4 → A5 → Prop) (ok : A1 → A2 → A3 → A4 → A5 → Prop) (μ : A1 → A2 → A3 → A4 → A5 → Nat) (val : A1 → A2 → A3 → A4 → A5 → ρ)
    (hs : ∀ (d : Nat) (post : ρ → Prop) (a1 : A1) (a2 : A2) (a3 : A3) (a4 : A4) (a5 : A5), ok a1 a2 a3 a4 a5 → post (val a1 a2 a3 a4 a5) → (∀ (post' : ρ → Prop) (b1 : A1) (b2 : A2) (b3 : A3) (b4 : A4) (b5 : A5), ok b1 b2 b3 b4 b5 → μ b1 b2 b3 b4 b5 < μ a1 a2 a3 a4 a5 → post' (val b1 b2 b3 b4 b5) → W d post' b1 b2 b3 b4 b5) → W (d + 1) post a1 a2 a3 a4 a5) :
    ∀ (d : Nat) (post : ρ → Prop) (a1 : A1) (a2 : A2) (a3 : A3) (a4 : A4) (a5 : A5), ok a1 a2 a3 a4 a5 → μ a1 a2 a3 a4 a5 < d → post (val a1 a2 a3 a4 a5) → W d post a1 a2 a3 a4 a5 := by
  intro d
  induction d with
  | zero => intro post a1 a2 a3 a4 a5 _ h; omega
  | succ d ih =>
    intro post a1 a2 a3 a4 a5 ho hm hp
    exact hs d post a1 a2 a3 a4 a5 ho hp (fun post' b1 b2 b3 b4 b5 ho' hm' hp' => ih post' b1 b2 b3 b4 b5 ho' (by omega) hp')
theorem rp6 {ρ A1 A2 A3 A4 A5 A6 : Type} (W : Nat → (ρ → Prop) → A1 → A2 → A3 → A4 → A5 → A6 → Prop) (ok : A1 → A2 → A3 → A4 → A5 → A6 → Prop) (μ : A1 → A2 → A3 → A4 → A5 → A6 → Nat) (val : A1 → A2 → A3 → A4 → A5 → A6 → ρ)
    (hs : ∀ (d : Nat) (post : ρ → Prop) (a1 : A1) (a2 : A2) (a3 : A3) (a4 : A4) (a5 : A5) (a6 : A6), ok a1 a2 a3 a4 a5 a6 → post (val a1 a2 a3 a4 a5 a6) → (∀ (post' : ρ → Prop) (b1 : A1) (b2 : A2) (b3 : A3) (b4 : A4) (b5 : A5) (b6 : A6), ok b1 b2 b3 b4 b5 b6 → μ b1 b2 b3 b4 b5 b6 < μ a1 a2 a3 a4 a5 a6 → post' (val b1 b2 b3 b4 b5 b6) → W d post' b1 b2 b3 b4 b5 b6) → W (d + 1) post a1 a2 a3 a4 a5 a6) :
    ∀ (d : Nat) (post : ρ → Prop) (a1 : A1) (a2 : A2) (a3 : A3) (a4 : A4) (a5 : A5) (a6 : A6), ok a1 a2 a3 a4 a5 a6 → μ a1 a2 a3 a4 a5 a6 < d → post (val a1 a2 a3 a4 a5 a6) → W d post a1 a2 a3 a4 a5 a6 := by
  intro d
  induction d with
  | zero => intro post a1 a2 a3 a4 a5 a6 _ h; omega
  | succ d ih =>
    intro post a1 a2 a3 a4 a5 a6 ho hm hp
    exact hs d post a1 a2 a3 a4 a5 a6 ho hp (fun post' b1 b2 b3 b4 b5 b6 ho' hm' hp' => ih post' b1 b2 b3 b4 b5 b6 ho' (by omega) hp')
theorem rec_p {σ ρ : Type} (W : Nat → (ρ → Prop) → σ → Prop) (ok : σ → Prop) (μ : σ → Nat) (val : σ → ρ)
    (hs : ∀ d s post, ok s → post (val s) → (∀ s' post', ok s' → μ s' < μ s → post' (val s') → W d post' s') → W (d + 1) post s) :
    ∀ d s post, ok s → μ s < d → post (val s) → W d post s := by
  intro d
  induction d with
  | zero => intro s post _ h; omega
  | succ d ih =>
    intro s post ho hm hp
    exact hs d s post ho hp (fun s' post' ho' hm' hp' => ih s' post' ho' (by omega) hp')
theorem rec_q {σ ρ : Type} (W : Nat → (ρ → Prop) → σ → Prop) (ok : σ → Prop) (μ : σ → Nat) (Q : σ → ρ → Prop)
    (hs : ∀ d s post, ok s → (∀ r, Q s r → post r) → (∀ s' post', ok s' → μ s' < μ s → (∀ r, Q s' r → post' r) → W d post' s') → W (d + 1) post s) :
    ∀ d s post, ok s → μ s < d → (∀ r, Q s r → post r) → W d post s := by
  intro d
  induction d with
  | zero => intro s post _ h; omega
  | succ d ih =>
    intro s post ho hm hp
    exact hs d s post ho hp (fun s' post' ho' hm' hp' => ih s' post' ho' (by omega) hp')
def bx_sum (f : Nat → Int32) : Nat → Int32
  | 0 => 0
  | n + 1 => bx_sum f n + f n
theorem ek_u {A : Prop} {B : Nat → Prop} {k N : Nat} (hk : k < N) (h : B k) : (some k = none → A) ∧ (∀ y : Nat, some k = some y → (y < N ∧ B y)) :=
  ⟨fun z => absurd z (Option.some_ne_none k), fun _ e => (by cases e; exact ⟨hk, h⟩)⟩
theorem ek_nu {A : Prop} {B : Nat → Prop} (h : A) : ((none : Option Nat) = none → A) ∧ (∀ y : Nat, (none : Option Nat) = some y → B y) :=
  ⟨fun _ => h, fun _ e => (by cases e)⟩
theorem ek_if {c d A B : Prop} (e : c ↔ d) (f : d → A) (g : ¬ d → B) : (c → A) ∧ (¬ c → B) :=
  ⟨fun z => f (e.mp z), fun z => g (fun y => z (e.mpr y))⟩
theorem ek_v {α : Sort _} {P : α → Prop} {a b : α} (e : a = b) (h : P b) : P a := e ▸ h
theorem co_some {x : Option Nat} {A : Prop} {B : Nat → Prop} (i : Nat) (h : B i) (hx : x = some i := by rfl) : (x = none → A) ∧ (∀ y : Nat, x = some y → B y) := by
  subst hx
  exact ⟨fun e => (nomatch e), fun y e => Option.some.inj e ▸ h⟩
theorem co_none {x : Option Nat} {A : Prop} {B : Nat → Prop} (h : A) (hx : x = none := by rfl) : (x = none → A) ∧ (∀ y : Nat, x = some y → B y) := by
  subst hx
  exact ⟨fun _ => h, fun y e => (nomatch e)⟩
theorem co_any {x : Option Nat} {A : Prop} {B : Nat → Prop} (hn : x = none → A) (hs : ∀ i : Nat, x = some i → B i) : (x = none → A) ∧ (∀ y : Nat, x = some y → B y) := ⟨hn, hs⟩
theorem co_2 {P : Nat → Prop} (h0 : P 0) (h1 : P 1) {i : Nat} (hi : i < 2) : P i :=
  match i, hi with
  | 0, _ => h0
  | 1, _ => h1
theorem co_3 {P : Nat → Prop} (h0 : P 0) (h1 : P 1) (h2 : P 2) {i : Nat} (hi : i < 3) : P i :=
  match i, hi with
  | 0, _ => h0
  | 1, _ => h1
  | 2, _ => h2
theorem co_4 {P : Nat → Prop} (h0 : P 0) (h1 : P 1) (h2 : P 2) (h3 : P 3) {i : Nat} (hi : i < 4) : P i :=
  match i, hi with
  | 0, _ => h0
  | 1, _ => h1
  | 2, _ => h2
  | 3, _ => h3
theorem co_dec {N : Nat} {P : Nat → Prop} [DecidablePred P] (h : (List.range N).all (fun i => decide (P i)) = true) {i : Nat} (hi : i < N) : P i := by
  have := List.all_eq_true.mp h i (List.mem_range.mpr hi)
  exact of_decide_eq_true this
theorem co_tab {α : Type} {l : List α} {d : α} {P : α → Prop} (h : ∀ a, a ∈ l → P a) {i : Nat} (hi : i < l.length) : P (l.getD i d) := by
  rw [List.getD_eq_getElem?_getD, List.getElem?_eq_getElem hi]
  exact h _ (List.getElem_mem hi)
theorem pk_mu {x : Int32} {L : Nat} (h0 : ¬ x < 0) (h : ¬ nI L ≤ x) (hL : L < 2 ^ 31) : ∃ j : Nat, j < L ∧ x = nI j ∧ x + 1 = nI (j + 1) ∧ x.toNatClampNeg = j ∧ L - (x + 1).toNatClampNeg < L - x.toNatClampNeg := by
  obtain ⟨j, hj, rfl⟩ := nI_of h0
  have hl : j < L := Nat.not_le.mp fun q => h (nI_le q hj)
  refine ⟨j, hl, rfl, nI_1 j, nI_clamp hj, ?_⟩
  rw [nI_1, nI_clamp (by omega), nI_clamp hj]
  omega
theorem op_s {α : Type} {r : Option α} {A : Prop} {B : α → Prop} {y : α} (h : r = some y) (b : B y) : (r = none → A) ∧ ∀ z, r = some z → B z :=
  ⟨fun e => (by rw [h] at e; cases e), fun z e => (by rw [h] at e; cases e; exact b)⟩
def l_holds {α : Type} (a : Nat → Option Nat) (LP : List Nat) (p : Nat → α) (c : Nat) (b : Nat → α) : Prop :=
  ∀ j, j < c → ∃ y, a j = some y ∧ y ∈ LP ∧ p y = b j
theorem l_holds_0 {α : Type} {a : Nat → Option Nat} {LP : List Nat} {p b : Nat → α} : l_holds a LP p 0 b := fun j h => absurd h (Nat.not_lt_zero j)
theorem l_in_new (LP : List Nat) (q : Nat) : q ∈ LP ++ [q] := List.mem_append.mpr (Or.inr (List.mem_singleton.mpr rfl))
def l_sum (b : Nat → Int32) : Nat → Int32
  | 0 => 0
  | k + 1 => l_sum b k + b k
theorem sb_shr0 (x : Int32) : x >>> ((0 : Int32) &&& 31) = x := by
  rw [show ((0 : Int32) &&& 31) = 0 by decide]
  simp
theorem sb_shl0 (x : Int32) : x <<< ((0 : Int32) &&& 31) = x := by
  rw [show ((0 : Int32) &&& 31) = 0 by decide]
  simp
theorem sb_cl0 : (0 : Int32).toNatClampNeg = 0 := by decide
theorem sb_m1 {p : Nat} (h : 0 < p) : nI p + (-1) = nI (p - 1) := by
  obtain ⟨q, rfl⟩ : ∃ q, p = q + 1 := ⟨p - 1, by omega⟩
  exact pk_m1 q
def sb_b (c : Nat) : Int32 := (nI c).toInt8.toInt32
theorem sb_byte : ∀ c, c < 256 → sb_b c &&& 255 = nI c ∧ ((nI c).toUInt32 % 65536).toInt32 = nI c ∧ nI c ≤ 255 := by decide +kernel
def sb_Fit (a : Nat → Int32) : Prop := ∀ j, fits .byte (.int (a j)) = true
def sb_Lat (t : Nat → Nat) (n : Nat) (a : Nat → Int32) : Prop := ∀ j, j < n → t j < 256 ∧ a j = sb_b (t j)
theorem sb_fitB (c : Nat) : fits .byte (.int (sb_b c)) = true := pk_fb _
theorem sb_fit0 : sb_Fit (fun _ => 0) := fun _ => by
  show fits .byte (.int 0) = true
  decide
theorem sb_fitU {a : Nat → Int32} {k : Nat} {x : Int32} (h : sb_Fit a) (hx : fits .byte (.int x) = true) : sb_Fit (upd a k x) := by
  intro j
  by_cases e : j = k
  · subst e
    rw [pk_us]
    exact hx
  · rw [pk_un e]
    exact h j
def sb_cat (t : Nat → Nat) (n : Nat) (s : Nat → Nat) : Nat → Nat := fun j => if j < n then t j else s (j - n)
theorem sb_cat_lo {t s : Nat → Nat} {n j : Nat} (h : j < n) : sb_cat t n s j = t j := if_pos h
theorem sb_cat_hi {t s : Nat → Nat} {n j : Nat} : sb_cat t n s (n + j) = s j := by
  show (if n + j < n then t (n + j) else s (n + j - n)) = s j
  rw [if_neg (by omega), Nat.add_sub_cancel_left]
theorem sb_latPut {t s : Nat → Nat} {n w : Nat} {a a' : Nat → Int32} (h : sb_Lat t n a) (hk : ∀ j, j < n → a' j = a j) (hs : ∀ i, i < w → s i < 256 ∧ a' (n + i) = sb_b (s i)) : sb_Lat (sb_cat t n s) (n + w) a' := by
  intro j hj
  by_cases e : j < n
  · rw [sb_cat_lo e, hk j e]
    exact h j e
  · obtain ⟨i, rfl⟩ : ∃ i, j = n + i := ⟨j - n, by omega⟩
    rw [sb_cat_hi]
    exact hs i (by omega)
theorem sb_latKeep {t : Nat → Nat} {n : Nat} {a a' : Nat → Int32} (h : sb_Lat t n a) (hk : ∀ j, j < n → a' j = a j) : sb_Lat t n a' := fun j hj => by
  rw [hk j hj]
  exact h j hj
def sb_cap (q m : Nat) : Nat := if q ≤ m then m else if 2 * m + 2 < q then q else 2 * m + 2
def sb_Room (q m mc ms : Nat) : Prop := q ≤ m ∨ (1 ≤ mc ∧ sb_cap q m ≤ ms ∧ sb_cap q m ≤ 65536)
theorem sb_cap_ge (q m : Nat) : q ≤ sb_cap q m := by
  unfold sb_cap
  split
  · omega
  · split <;> omega
theorem sb_cap_gem (q m : Nat) : m ≤ sb_cap q m := by
  unfold sb_cap
  split
  · omega
  · split <;> omega
theorem sb_cap_le {q m mc ms : Nat} (hm : m ≤ 65536) (hr : sb_Room q m mc ms) : sb_cap q m ≤ 65536 := by
  rcases hr with h | h
  · rw [sb_cap, if_pos h]
    exact hm
  · exact h.2.2
theorem sb_at {P : Int32 → Prop} {x y : Int32} (e : x = y) (h : P y) : P x := e ▸ h
def sb_dg (w : Nat) : Nat := if w < 10 then 1 else if w < 100 then 2 else if w < 1000 then 3 else if w < 10000 then 4 else if w < 100000 then 5 else if w < 1000000 then 6 else if w < 10000000 then 7 else if w < 100000000 then 8 else if w < 1000000000 then 9 else 10
def sb_dec (v : Nat) : Nat → Nat := fun i => 48 + v / 10 ^ (sb_dg v - 1 - i) % 10
theorem sb_dg_in (w : Nat) : 1 ≤ sb_dg w ∧ sb_dg w ≤ 10 := by
  unfold sb_dg
  constructor <;> (repeat' split) <;> omega
theorem sb_dg100 {w : Nat} (h : 100 ≤ w) (hw : w < 2 ^ 31) : sb_dg w = sb_dg (w / 100) + 2 := by
  rw [sb_dg, sb_dg, if_neg (show ¬ w < 10 by omega), if_neg (show ¬ w < 100 by omega)]
  by_cases h3 : w < 1000
  · rw [if_pos h3, if_pos (show w / 100 < 10 by omega)]
  rw [if_neg h3, if_neg (show ¬ w / 100 < 10 by omega)]
  by_cases h4 : w < 10000
  · rw [if_pos h4, if_pos (show w / 100 < 100 by omega)]
  rw [if_neg h4, if_neg (show ¬ w / 100 < 100 by omega)]
  by_cases h5 : w < 100000
  · rw [if_pos h5, if_pos (show w / 100 < 1000 by omega)]
  rw [if_neg h5, if_neg (show ¬ w / 100 < 1000 by omega)]
  by_cases h6 : w < 1000000
  · rw [if_pos h6, if_pos (show w / 100 < 10000 by omega)]
  rw [if_neg h6, if_neg (show ¬ w / 100 < 10000 by omega)]
  by_cases h7 : w < 10000000
  · rw [if_pos h7, if_pos (show w / 100 < 100000 by omega)]
  rw [if_neg h7, if_neg (show ¬ w / 100 < 100000 by omega)]
  by_cases h8 : w < 100000000
  · rw [if_pos h8, if_pos (show w / 100 < 1000000 by omega)]
  rw [if_neg h8, if_neg (show ¬ w / 100 < 1000000 by omega)]
  by_cases h9 : w < 1000000000
  · rw [if_pos h9, if_pos (show w / 100 < 10000000 by omega)]
  rw [if_neg h9, if_neg (show ¬ w / 100 < 10000000 by omega)]
  rw [if_pos (show w / 100 < 100000000 by omega)]
theorem sb_negT {w : Nat} (h : w < 2 ^ 31) : (-nI w).toInt = -(w : Int) := by
  rw [Int32.toInt_neg, nI_toInt h]
  exact Int.bmod_eq_of_le (by omega) (by omega)
theorem sb_nle {a b : Nat} (ha : a < 2 ^ 31) (hb : b < 2 ^ 31) : -nI a ≤ -nI b ↔ b ≤ a := by
  rw [Int32.le_iff_toInt_le, sb_negT ha, sb_negT hb]
  omega
theorem sb_nlt {a b : Nat} (ha : a < 2 ^ 31) (hb : b < 2 ^ 31) : -nI a < -nI b ↔ b < a := by
  rw [Int32.lt_iff_toInt_lt, sb_negT ha, sb_negT hb]
  omega
theorem sb_cmp {A B : Prop} {x : Int32} (v c : Nat) (f : c ≤ v → A) (g : v < c → B) (hv : v < 2 ^ 31) (hx : x = -nI c := by rfl) (hc : c < 2 ^ 31 := by omega) : (-nI v ≤ x → A) ∧ (¬ -nI v ≤ x → B) := by
  subst hx
  rw [sb_nle hv hc]
  exact ⟨f, fun z => g (by omega)⟩
theorem sb_ndiv {w : Nat} (hw : w < 2 ^ 31) : (-nI w) / 100 = -nI (w / 100) := by
  apply Int32.toInt_inj.mp
  have h100 : (100 : Int32).toInt = 100 := by decide
  rw [Int32.toInt_div, sb_negT hw, h100, sb_negT (by omega), Int.neg_tdiv, Int.tdiv_eq_ediv_of_nonneg (by omega), Int.bmod_eq_of_le (by omega) (by omega)]
  omega
theorem sb_nrem {w : Nat} (hw : w < 2 ^ 31) : (-nI (w / 100)) * 100 - (-nI w) = nI (w % 100) := by
  have h := pk_rem (a := w) (d := 100) hw (by decide) (by decide)
  rw [pk_div hw (by decide) (by decide)] at h
  rw [← h]
  show (-nI (w / 100)) * nI 100 - (-nI w) = nI w - nI (w / 100) * nI 100
  rw [Int32.neg_mul, Int32.sub_neg, Int32.add_comm, ← Int32.sub_eq_add_neg]
end
section
/-! base: cells filled one by one, a counted loop, places -/
/-- the first n cells hold f, the others are as they were -/
def mt_fl {α : Type} (n : Nat) (f a : Nat → α) : Nat → α := fun j => if j < n then f j else a j
theorem mt_fl0 {α : Type} (f a : Nat → α) : mt_fl 0 f a = a := by
  funext j
  exact if_neg (Nat.not_lt_zero j)
theorem mt_flge {α : Type} {n j : Nat} {f a : Nat → α} (h : n ≤ j) : mt_fl n f a j = a j := if_neg (Nat.not_lt.mpr h)
theorem mt_fllt {α : Type} {n j : Nat} {f a : Nat → α} (h : j < n) : mt_fl n f a j = f j := if_pos h
theorem mt_flu {n : Nat} {f a : Nat → Int32} {x : Int32} (hx : x = f n) : upd (mt_fl n f a) n x = mt_fl (n + 1) f a := by
  funext j
  by_cases h : j = n
  · rw [h, pk_us, mt_fllt (Nat.lt_succ_self n), hx]
  · rw [pk_un h]
    by_cases h2 : j < n
    · rw [mt_fllt h2, mt_fllt (Nat.lt_succ_of_lt h2)]
    · rw [mt_flge (by omega), mt_flge (by omega)]
theorem mt_fluL {n : Nat} {f a : Nat → Int64} {x : Int64} (hx : x = f n) : vp_updL (mt_fl n f a) n x = mt_fl (n + 1) f a := by
  funext j
  by_cases h : j = n
  · rw [h, pk_uLs, mt_fllt (Nat.lt_succ_self n), hx]
  · rw [pk_uLn h]
    by_cases h2 : j < n
    · rw [mt_fllt h2, mt_fllt (Nat.lt_succ_of_lt h2)]
    · rw [mt_flge (by omega), mt_flge (by omega)]
/-- a counted loop from i0 to e, its state given by the counter -/
theorem mt_loopN (W : Nat → Nat → Prop) (e : Nat) (hx : ∀ n, W (n + 1) e) (hs : ∀ n i, i < e → W n (i + 1) → W (n + 1) i) : ∀ d i, i + d = e → W (d + 1) i := by
  intro d
  induction d with
  | zero =>
    intro i hi
    have : i = e := by omega
    rw [this]
    exact hx 0
  | succ d ih =>
    intro i hi
    exact hs (d + 1) i (by omega) (ih (i + 1) (by omega))
theorem mt_loop (W : Nat → Nat → Prop) (i0 e : Nat) (h0 : i0 ≤ e) (hx : ∀ n, W (n + 1) e) (hs : ∀ n i, i < e → W n (i + 1) → W (n + 1) i) : ∃ n, W n i0 :=
  ⟨e - i0 + 1, mt_loopN W e hx hs (e - i0) i0 (by omega)⟩
theorem mt_ge {i e : Nat} (h : i < e) (he : e < 1000000) : ¬ nI e ≤ nI i := nI_ge h (by omega)
theorem mt_le (e : Nat) (he : e < 1000000) : nI e ≤ nI e := nI_le (Nat.le_refl e) (by omega)
theorem mt_vin {i e : Nat} (h : i < e) (he : e < 1000000) : vp_in (nI i) e := vp_in_nI h (by omega)
theorem mt_cl {i : Nat} (h : i < 1000000) : (nI i).toNatClampNeg = i := nI_clamp (by omega)
theorem mt_ix (i k : Nat) : nI i * 4 + nI k = nI (i * 4 + k) := by
  rw [show (4 : Int32) = nI 4 from rfl, pk_mul, nI_add]
theorem mt_ix5 (i : Nat) : nI i * 5 = nI (i * 5) := by
  rw [show (5 : Int32) = nI 5 from rfl, pk_mul]
theorem mt_ix16 (i k : Nat) : nI i * 16 + nI k = nI (i * 16 + k) := by
  rw [show (16 : Int32) = nI 16 from rfl, pk_mul, nI_add]
theorem mt_rem5 {i : Nat} (h : i < 1000000) : nI i - nI i / 5 * 5 = nI (i % 5) := by
  rw [show (5 : Int32) = nI 5 from rfl]
  exact pk_rem (by omega) (by decide) (by decide)
theorem mt_rem5z {i : Nat} (h : i < 1000000) : nI i - nI i / 5 * 5 = 0 ↔ i % 5 = 0 := by
  rw [mt_rem5 h, ← nI_0]
  exact nI_eq (by omega) (by omega)
theorem mt_rem4 {i : Nat} (h : i < 1000000) : nI i - nI i / 4 * 4 = nI (i % 4) := by
  rw [show (4 : Int32) = nI 4 from rfl]
  exact pk_rem (by omega) (by decide) (by decide)
theorem mt_div4 {i : Nat} (h : i < 1000000) : nI i / 4 = nI (i / 4) := by
  rw [show (4 : Int32) = nI 4 from rfl]
  exact pk_div (by omega) (by decide) (by decide)
theorem mt_up (i : Nat) : nI i + 1 = nI (i + 1) := nI_1 i
/-- from here on a value is within b -/
def mt_Bd (b : Int) (x : Int32) : Prop := -b ≤ x.toInt ∧ x.toInt ≤ b
theorem mt_bm {x : Int} (h1 : -2147483648 ≤ x) (h2 : x < 2147483648) : x.bmod (2 ^ 32) = x := Int.bmod_eq_of_le (by omega) (by omega)
theorem mt_addI {x y : Int32} {b c : Int} (hx : mt_Bd b x) (hy : mt_Bd c y) (h : b + c < 2147483648) : (x + y).toInt = x.toInt + y.toInt := by
  have h1 := hx.1
  have h2 := hx.2
  have h3 := hy.1
  have h4 := hy.2
  rw [Int32.toInt_add]
  exact mt_bm (by omega) (by omega)
theorem mt_subI {x y : Int32} {b c : Int} (hx : mt_Bd b x) (hy : mt_Bd c y) (h : b + c < 2147483648) : (x - y).toInt = x.toInt - y.toInt := by
  have h1 := hx.1
  have h2 := hx.2
  have h3 := hy.1
  have h4 := hy.2
  rw [Int32.toInt_sub]
  exact mt_bm (by omega) (by omega)
theorem mt_negI {x : Int32} {b : Int} (hx : mt_Bd b x) (h : b < 2147483648) : (-x).toInt = -x.toInt := by
  have h1 := hx.1
  have h2 := hx.2
  rw [Int32.toInt_neg]
  exact mt_bm (by omega) (by omega)
theorem mt_absmul {x y b c : Int} (h1 : -b ≤ x) (h2 : x ≤ b) (h3 : -c ≤ y) (h4 : y ≤ c) : -(b * c) ≤ x * y ∧ x * y ≤ b * c := by
  have e1 : 0 ≤ (b - x) * (c + y) := Int.mul_nonneg (by omega) (by omega)
  have e2 : 0 ≤ (b + x) * (c - y) := Int.mul_nonneg (by omega) (by omega)
  have e3 : 0 ≤ (b - x) * (c - y) := Int.mul_nonneg (by omega) (by omega)
  have e4 : 0 ≤ (b + x) * (c + y) := Int.mul_nonneg (by omega) (by omega)
  have f1 : (b - x) * (c + y) = b * c + b * y - x * c - x * y := by grind
  have f2 : (b + x) * (c - y) = b * c - b * y + x * c - x * y := by grind
  have f3 : (b - x) * (c - y) = b * c - b * y - x * c + x * y := by grind
  have f4 : (b + x) * (c + y) = b * c + b * y + x * c + x * y := by grind
  rw [f1] at e1
  rw [f2] at e2
  rw [f3] at e3
  rw [f4] at e4
  generalize b * c = m at *
  generalize x * y = n at *
  generalize b * y = o at *
  generalize x * c = p at *
  constructor <;> omega
theorem mt_mulI {x y : Int32} {b c : Int} (hx : mt_Bd b x) (hy : mt_Bd c y) (h : b * c < 2147483648) : (x * y).toInt = x.toInt * y.toInt := by
  have k := mt_absmul hx.1 hx.2 hy.1 hy.2
  rw [Int32.toInt_mul]
  exact mt_bm (by omega) (by omega)
theorem mt_Bdadd {x y : Int32} {b c : Int} (hx : mt_Bd b x) (hy : mt_Bd c y) (h : b + c < 2147483648) : mt_Bd (b + c) (x + y) := by
  have h1 := hx.1
  have h2 := hx.2
  have h3 := hy.1
  have h4 := hy.2
  unfold mt_Bd
  rw [mt_addI hx hy h]
  omega
theorem mt_Bdsub {x y : Int32} {b c : Int} (hx : mt_Bd b x) (hy : mt_Bd c y) (h : b + c < 2147483648) : mt_Bd (b + c) (x - y) := by
  have h1 := hx.1
  have h2 := hx.2
  have h3 := hy.1
  have h4 := hy.2
  unfold mt_Bd
  rw [mt_subI hx hy h]
  omega
theorem mt_Bdneg {x : Int32} {b : Int} (hx : mt_Bd b x) (h : b < 2147483648) : mt_Bd b (-x) := by
  have h1 := hx.1
  have h2 := hx.2
  unfold mt_Bd
  rw [mt_negI hx h]
  omega
theorem mt_Bdmul {x y : Int32} {b c : Int} (hx : mt_Bd b x) (hy : mt_Bd c y) (h : b * c < 2147483648) : mt_Bd (b * c) (x * y) := by
  have k := mt_absmul hx.1 hx.2 hy.1 hy.2
  unfold mt_Bd
  rw [mt_mulI hx hy h]
  exact k
theorem mt_Bdw {x : Int32} {b c : Int} (hx : mt_Bd b x) (h : b ≤ c) : mt_Bd c x := ⟨by have := hx.1; omega, by have := hx.2; omega⟩
theorem mt_z0 : (0 : Int32).toInt = 0 := by decide
theorem mt_mulz {x y : Int32} {b c : Int} (hx : mt_Bd b x) (hy : mt_Bd c y) (h : b * c < 2147483648) (hz : x * y = 0) : x = 0 ∨ y = 0 := by
  have e := mt_mulI hx hy h
  rw [hz, mt_z0] at e
  rcases Int.mul_eq_zero.mp e.symm with h | h
  · exact Or.inl (Int32.toInt_inj.mp (by rw [h, mt_z0]))
  · exact Or.inr (Int32.toInt_inj.mp (by rw [h, mt_z0]))
/-- exact division -/
theorem mt_div {x y n : Int32} {b c : Int} (hn : mt_Bd c n) (hn0 : 0 < n.toInt) (hy : mt_Bd b y) (h : c * b < 2147483648) (e : x = n * y) : x / n = y := by
  have k := mt_mulI hn hy h
  have kb := (mt_Bdmul hn hy h)
  have h1 := y.le_toInt
  have h2 := y.toInt_lt
  apply Int32.toInt_inj.mp
  rw [e, Int32.toInt_div, k, Int.mul_tdiv_cancel_left _ (by omega)]
  exact mt_bm (by omega) (by omega)
/-- bad places, on both sides alike -/
theorem mt_ge43 {x : Int32} (h : nI 4 ≤ x) : (3 : Int32) < x := by
  rw [Int32.le_iff_toInt_le, show (nI 4).toInt = 4 from by decide] at h
  rw [Int32.lt_iff_toInt_lt, show (3 : Int32).toInt = 3 from by decide]
  omega
theorem mt_ge40 {x : Int32} (h : nI 4 ≤ x) : ¬ x < 0 := by
  rw [Int32.le_iff_toInt_le, show (nI 4).toInt = 4 from by decide] at h
  rw [Int32.lt_iff_toInt_lt, show (0 : Int32).toInt = 0 from by decide]
  omega
theorem mt_nlt0 {i : Nat} (h : i < 1000000) : ¬ nI i < 0 := nI_pos (by omega)
theorem mt_lt {i e : Nat} (h : i < e) (he : e < 1000000) : nI i < nI e := nI_lt h (by omega)
def mt_BadL (v1 v2 : Int32) : Prop := (∀ post : Int32 → Prop, post 1 → wpX_bad post v1 v2) ∧ (∀ (post : Int32 → Prop) (a b c d e : Nat → Int32), post 1 → wpY_badPlace post (a, b, c, d, e) v1 v2)
def mt_OkL (v1 v2 : Int32) : Prop := (∀ post : Int32 → Prop, post 0 → wpX_bad post v1 v2) ∧ (∀ (post : Int32 → Prop) (a b c d e : Nat → Int32), post 0 → wpY_badPlace post (a, b, c, d, e) v1 v2)
theorem mt_bad (v1 v2 : Int32) : (∃ i k : Nat, i < 4 ∧ k < 4 ∧ v1 = nI i ∧ v2 = nI k ∧ mt_OkL v1 v2) ∨ mt_BadL v1 v2 := by
  rcases pk_ix v1 (n := 4) (by decide) with h | h | ⟨i, hi, rfl⟩
  · exact Or.inr ⟨fun post hp => br_t h hp, fun post a b c d e hp => br_t h hp⟩
  · exact Or.inr ⟨fun post hp => br_f (mt_ge40 h) (br_t h hp), fun post a b c d e hp => br_f (mt_ge40 h) (br_t (mt_ge43 h) hp)⟩
  · have a1 : ¬ nI i < 0 := mt_nlt0 (by omega)
    have a2 : ¬ (4 : Int32) ≤ nI i := mt_ge (e := 4) hi (by decide)
    have a3 : ¬ (3 : Int32) < nI i := nI_nlt (a := 3) (b := i) (by omega) (by decide)
    rcases pk_ix v2 (n := 4) (by decide) with h | h | ⟨k, hk, rfl⟩
    · exact Or.inr ⟨fun post hp => br_f a1 (br_f a2 (br_t h hp)), fun post a b c d e hp => br_f a1 (br_f a3 (br_t h hp))⟩
    · have b1 : ¬ v2 < 4 := by
        rw [Int32.le_iff_toInt_le, show (nI 4).toInt = 4 from by decide] at h
        rw [Int32.lt_iff_toInt_lt, show (4 : Int32).toInt = 4 from by decide]
        omega
      have b2 : ¬ v2 ≤ 3 := by
        rw [Int32.le_iff_toInt_le, show (nI 4).toInt = 4 from by decide] at h
        rw [Int32.le_iff_toInt_le, show (3 : Int32).toInt = 3 from by decide]
        omega
      exact Or.inr ⟨fun post hp => br_f a1 (br_f a2 (br_f (mt_ge40 h) (br_f b1 hp))), fun post a b c d e hp => br_f a1 (br_f a3 (br_f (mt_ge40 h) (br_f b2 hp)))⟩
    · have b0 : ¬ nI k < 0 := mt_nlt0 (by omega)
      have b1 : nI k < 4 := nI_lt (b := 4) hk (by decide)
      have b2 : nI k ≤ 3 := nI_le (b := 3) (by omega) (by decide)
      exact Or.inl ⟨i, k, hi, hk, rfl, rfl, fun post hp => br_f a1 (br_f a2 (br_f b0 (br_t b1 hp))), fun post a b c d e hp => br_f a1 (br_f a3 (br_f b0 (br_t b2 hp)))⟩
theorem mt_nt {x : Bool} (h : ¬ x = true) : x = false := by cases x; rfl; exact absurd rfl h
end
section
/-! the table: swap, flip, relabel, negate on both sides -/
def mt_sw (i k : Nat) (t : Nat → Int32) : Nat → Int32 := upd (upd t i (t k)) k (t i)
/-- f 0, f 1, .. in turn -/
def mt_it {α : Type} (f : Nat → α → α) : Nat → α → α
  | 0, a => a
  | n + 1, a => f n (mt_it f n a)
theorem mt_swB {b : Int} {i k : Nat} {t : Nat → Int32} (h : ∀ j, mt_Bd b (t j)) : ∀ j, mt_Bd b (mt_sw i k t j) := by
  intro j
  show mt_Bd b (if j = k then t i else if j = i then t k else t j)
  split
  · exact h i
  · split
    · exact h k
    · exact h j
theorem mt_itB {b : Int} {f : Nat → (Nat → Int32) → (Nat → Int32)} (hf : ∀ i t, (∀ j, mt_Bd b (t j)) → ∀ j, mt_Bd b (f i t j)) : ∀ n (t : Nat → Int32), (∀ j, mt_Bd b (t j)) → ∀ j, mt_Bd b (mt_it f n t j) := by
  intro n
  induction n with
  | zero => intro t h; exact h
  | succ n ih => intro t h; exact hf n _ (ih t h)
section
variable {rd : Int32} {t c s m p q : Nat → Int32} {w : Nat → Int64}
theorem mt_xswap {post : SX → Prop} {i k : Nat} (hi : i < 16) (hk : k < 16) (H : post (rd, mt_sw i k t, c, s, m, p, q, w)) : wpX_swap post (rd, t, c, s, m, p, q, w) (nI i) (nI k) := by
  have h1 : vp_in (nI i) 16 := mt_vin hi (by decide)
  have h2 : vp_in (nI k) 16 := mt_vin hk (by decide)
  unfold wpX_swap
  dsimp only
  rw [mt_cl (i := i) (by omega), mt_cl (i := k) (by omega)]
  exact ⟨h1, nm_e ⟨h2, h1, nm_e ⟨h2, nm_e H⟩⟩⟩
theorem mt_xneg {post : SX → Prop} (H : post (0, mt_fl 16 (fun j => -t j) t, c, s, m, p, q, w)) : wpX_negate post (rd, t, c, s, m, p, q, w) := by
  have L := mt_loop (fun n i => wX_negate_2 post rd n (nI i) (mt_fl i (fun j => -t j) t) c s m p q w) 0 16 (by decide) (fun n => br_t (mt_le 16 (by decide)) H) (by
    intro n i hi h
    have hv : vp_in (nI i) 16 := mt_vin hi (by decide)
    refine br_f (mt_ge hi (by decide)) ⟨hv, hv, ?_⟩
    rw [mt_cl (i := i) (by omega)]
    refine nm_r (e' := mt_fl (i + 1) (fun j => -t j) t) ?_ (nm_r (mt_up i) h)
    exact mt_flu (by rw [mt_flge (Nat.le_refl i)]))
  simp only [mt_fl0] at L
  exact L
/-- the six swaps of the component's flip -/
def mt_fX (t : Nat → Int32) : Nat → Int32 := mt_sw 11 14 (mt_sw 7 13 (mt_sw 6 9 (mt_sw 3 12 (mt_sw 2 8 (mt_sw 1 4 t)))))
theorem mt_xflS {post : SX → Prop} {J2 : Int32 → Int32 → (Nat → Int32) → (Nat → Int32) → (Nat → Int32) → (Nat → Int32) → (Nat → Int32) → (Nat → Int32) → (Nat → Int64) → Prop} {n i k : Nat} (hi : i < 4) (hk : k < 4) (H : wX_flip_11 post J2 (nI i) n (nI (k + 1)) rd (mt_sw (i * 4 + k) (k * 4 + i) t) c s m p q w) : wX_flip_11 post J2 (nI i) (n + 1) (nI k) rd t c s m p q w := by
  refine br_f (mt_ge (e := 4) hk (by decide)) ?_
  rw [mt_ix, mt_ix]
  refine mt_xswap (by omega) (by omega) ?_
  exact nm_r (mt_up k) H
theorem mt_xflE {post : SX → Prop} {J2 : Int32 → Int32 → (Nat → Int32) → (Nat → Int32) → (Nat → Int32) → (Nat → Int32) → (Nat → Int32) → (Nat → Int32) → (Nat → Int64) → Prop} {n i : Nat} (H : J2 (nI (i + 1)) rd t c s m p q w) : wX_flip_11 post J2 (nI i) (n + 1) (nI 4) rd t c s m p q w :=
  br_t (mt_le 4 (by decide)) (nm_r (mt_up i) H)
theorem mt_xflO {post : SX → Prop} {n i : Nat} (k : Nat) (hi : i < 4) (H : wX_flip_11 post (wX_flip_2 post n) (nI i) k (nI (i + 1)) rd t c s m p q w) : wX_flip_2 post (n + 1) (nI i) rd t c s m p q w :=
  br_f (mt_ge (e := 4) hi (by decide)) (nm_r (mt_up i) ⟨k, H⟩)
theorem mt_xflip {post : SX → Prop} (H : post (0, mt_fX t, c, s, m, p, q, w)) : wpX_flip post (rd, t, c, s, m, p, q, w) := by
  have F : wX_flip_2 post 1 (nI 4) rd (mt_fX t) c s m p q w := br_t (mt_le 4 (by decide)) H
  have G3 : wX_flip_2 post 2 (nI 3) rd (mt_fX t) c s m p q w := mt_xflO 1 (by decide) (mt_xflE F)
  have G2 : wX_flip_2 post 3 (nI 2) rd (mt_sw 7 13 (mt_sw 6 9 (mt_sw 3 12 (mt_sw 2 8 (mt_sw 1 4 t))))) c s m p q w :=
    mt_xflO 2 (by decide) (mt_xflS (k := 3) (by decide) (by decide) (mt_xflE G3))
  have G1 : wX_flip_2 post 4 (nI 1) rd (mt_sw 3 12 (mt_sw 2 8 (mt_sw 1 4 t))) c s m p q w :=
    mt_xflO 3 (by decide) (mt_xflS (k := 2) (by decide) (by decide) (mt_xflS (k := 3) (by decide) (by decide) (mt_xflE G2)))
  have G0 : wX_flip_2 post 5 (nI 0) rd t c s m p q w :=
    mt_xflO 4 (by decide) (mt_xflS (k := 1) (by decide) (by decide) (mt_xflS (k := 2) (by decide) (by decide) (mt_xflS (k := 3) (by decide) (by decide) (mt_xflE G1))))
  exact ⟨5, G0⟩
/-- relabel: four swaps along rows, four along columns -/
def mt_rl (a b : Nat) (t : Nat → Int32) : Nat → Int32 := mt_it (fun k => mt_sw (k * 4 + a) (k * 4 + b)) 4 (mt_it (fun k => mt_sw (a * 4 + k) (b * 4 + k)) 4 t)
theorem mt_xrelabel {post : Int32 → SX → Prop} {a b : Nat} (ha : a < 4) (hb : b < 4) (O : mt_OkL (nI a) (nI b)) (H : post 0 (0, mt_rl a b t, c, s, m, p, q, w)) : wpX_relabel post (rd, t, c, s, m, p, q, w) (nI a) (nI b) := by
  unfold wpX_relabel
  dsimp only
  refine O.1 _ (br_t rfl ?_)
  have L2 := mt_loop (fun n i => wX_relabel_39 post (nI a) (nI b) n (nI i) rd (mt_it (fun k => mt_sw (k * 4 + a) (k * 4 + b)) i (mt_it (fun k => mt_sw (a * 4 + k) (b * 4 + k)) 4 t)) c s m p q w) 0 4 (by decide) (fun n => br_t (mt_le 4 (by decide)) H) (by
    intro n i hi h
    refine br_f (mt_ge hi (by decide)) ?_
    rw [mt_ix, mt_ix]
    refine mt_xswap (by omega) (by omega) ?_
    exact nm_r (mt_up i) h)
  exact mt_loop (fun n i => wX_relabel_12 post (nI a) (nI b) n (nI i) rd (mt_it (fun k => mt_sw (a * 4 + k) (b * 4 + k)) i t) c s m p q w) 0 4 (by decide) (fun n => br_t (mt_le 4 (by decide)) L2) (by
    intro n i hi h
    refine br_f (mt_ge hi (by decide)) ?_
    rw [mt_ix, mt_ix]
    refine mt_xswap (by omega) (by omega) ?_
    exact nm_r (mt_up i) h)
end
section
variable {t pw wk pr W : Nat → Int32}
theorem mt_yswap {post : SY → Prop} {i k : Nat} (hi : i < 16) (hk : k < 16) (H : post (mt_sw i k t, pw, wk, pr, W)) : wpY_exchange post (t, pw, wk, pr, W) (nI i) (nI k) := by
  have h1 : vp_in (nI i) 16 := mt_vin hi (by decide)
  have h2 : vp_in (nI k) 16 := mt_vin hk (by decide)
  unfold wpY_exchange
  dsimp only
  rw [mt_cl (i := i) (by omega), mt_cl (i := k) (by omega)]
  exact ⟨h1, nm_e ⟨h2, h1, nm_e ⟨h2, nm_e H⟩⟩⟩
theorem mt_yneg {post : SY → Prop} (H : post (mt_fl 16 (fun j => -t j) t, pw, wk, pr, W)) : wpY_negate post (t, pw, wk, pr, W) := by
  have L := mt_loop (fun n i => wY_negate_2 post n (nI i) (mt_fl i (fun j => -t j) t) pw wk pr W) 0 16 (by decide) (fun n => br_t (mt_le 16 (by decide)) H) (by
    intro n i hi h
    have hv : vp_in (nI i) 16 := mt_vin hi (by decide)
    refine br_f (mt_ge hi (by decide)) ⟨hv, hv, ?_⟩
    rw [mt_cl (i := i) (by omega)]
    refine nm_r (e' := mt_fl (i + 1) (fun j => -t j) t) ?_ (nm_r (mt_up i) h)
    exact mt_flu (by rw [mt_flge (Nat.le_refl i)]))
  simp only [mt_fl0] at L
  exact L
/-- the six swaps of the reference's flip -/
def mt_fY (t : Nat → Int32) : Nat → Int32 := mt_sw 14 11 (mt_sw 13 7 (mt_sw 12 3 (mt_sw 9 6 (mt_sw 8 2 (mt_sw 4 1 t)))))
theorem mt_yflS {post : SY → Prop} {J2 : Int32 → (Nat → Int32) → (Nat → Int32) → (Nat → Int32) → (Nat → Int32) → (Nat → Int32) → Prop} {n i k : Nat} (hi : i < 4) (hk : k < i) (H : wY_flip_9 post J2 (nI i) n (nI (k + 1)) (mt_sw (i * 4 + k) (k * 4 + i) t) pw wk pr W) : wY_flip_9 post J2 (nI i) (n + 1) (nI k) t pw wk pr W := by
  refine br_f (mt_ge hk (by omega)) ?_
  rw [mt_ix, mt_ix]
  refine mt_yswap (by omega) (by omega) ?_
  exact nm_r (mt_up k) H
theorem mt_yflE {post : SY → Prop} {J2 : Int32 → (Nat → Int32) → (Nat → Int32) → (Nat → Int32) → (Nat → Int32) → (Nat → Int32) → Prop} {n i : Nat} (hi : i < 4) (H : J2 (nI (i + 1)) t pw wk pr W) : wY_flip_9 post J2 (nI i) (n + 1) (nI i) t pw wk pr W :=
  br_t (mt_le i (by omega)) (nm_r (mt_up i) H)
theorem mt_yflO {post : SY → Prop} {n i : Nat} (k : Nat) (hi : i < 4) (H : wY_flip_9 post (wY_flip_2 post n) (nI i) k (nI 0) t pw wk pr W) : wY_flip_2 post (n + 1) (nI i) t pw wk pr W :=
  br_f (mt_ge (e := 4) hi (by decide)) ⟨k, H⟩
theorem mt_yflip {post : SY → Prop} (H : post (mt_fY t, pw, wk, pr, W)) : wpY_flip post (t, pw, wk, pr, W) := by
  have F : wY_flip_2 post 1 (nI 4) (mt_fY t) pw wk pr W := br_t (mt_le 4 (by decide)) H
  have G3 : wY_flip_2 post 2 (nI 3) (mt_sw 9 6 (mt_sw 8 2 (mt_sw 4 1 t))) pw wk pr W :=
    mt_yflO 4 (by decide) (mt_yflS (k := 0) (by decide) (by decide) (mt_yflS (k := 1) (by decide) (by decide) (mt_yflS (k := 2) (by decide) (by decide) (mt_yflE (by decide) F))))
  have G2 : wY_flip_2 post 3 (nI 2) (mt_sw 4 1 t) pw wk pr W :=
    mt_yflO 3 (by decide) (mt_yflS (k := 0) (by decide) (by decide) (mt_yflS (k := 1) (by decide) (by decide) (mt_yflE (by decide) G3)))
  have G1 : wY_flip_2 post 4 (nI 1) t pw wk pr W :=
    mt_yflO 2 (by decide) (mt_yflS (k := 0) (by decide) (by decide) (mt_yflE (by decide) G2))
  have G0 : wY_flip_2 post 5 (nI 0) t pw wk pr W := mt_yflO 1 (by decide) (mt_yflE (by decide) G1)
  exact ⟨5, G0⟩
theorem mt_yrelabel {post : Int32 → SY → Prop} {a b : Nat} (ha : a < 4) (hb : b < 4) (O : mt_OkL (nI a) (nI b)) (H : post 0 (mt_rl a b t, pw, wk, pr, W)) : wpY_relabel post (t, pw, wk, pr, W) (nI a) (nI b) := by
  unfold wpY_relabel
  dsimp only
  refine O.2 _ _ _ _ _ _ (br_t rfl ?_)
  have L2 := mt_loop (fun n i => wY_relabel_40 post (nI a) (nI b) n (nI i) (mt_it (fun k => mt_sw (k * 4 + a) (k * 4 + b)) i (mt_it (fun k => mt_sw (a * 4 + k) (b * 4 + k)) 4 t)) pw wk pr W) 0 4 (by decide) (fun n => br_t (mt_le 4 (by decide)) H) (by
    intro n i hi h
    refine br_f (mt_ge hi (by decide)) ?_
    rw [mt_ix, mt_ix]
    refine mt_yswap (by omega) (by omega) ?_
    exact nm_r (mt_up i) h)
  exact mt_loop (fun n i => wY_relabel_13 post (nI a) (nI b) n (nI i) (mt_it (fun k => mt_sw (a * 4 + k) (b * 4 + k)) i t) pw wk pr W) 0 4 (by decide) (fun n => br_t (mt_le 4 (by decide)) L2) (by
    intro n i hi h
    refine br_f (mt_ge hi (by decide)) ?_
    rw [mt_ix, mt_ix]
    refine mt_yswap (by omega) (by omega) ?_
    exact nm_r (mt_up i) h)
end
theorem mt_fXY (t : Nat → Int32) : mt_fX t = mt_fY t := by
  funext j
  by_cases h : j < 16
  · have h2 : j = 0 ∨ j = 1 ∨ j = 2 ∨ j = 3 ∨ j = 4 ∨ j = 5 ∨ j = 6 ∨ j = 7 ∨ j = 8 ∨ j = 9 ∨ j = 10 ∨ j = 11 ∨ j = 12 ∨ j = 13 ∨ j = 14 ∨ j = 15 := by omega
    rcases h2 with e | e | e | e | e | e | e | e | e | e | e | e | e | e | e | e <;> subst e <;> rfl
  · have n1 : ∀ i k (g : Nat → Int32), i < 16 → k < 16 → mt_sw i k g j = g j := by
      intro i k g hi hk
      show upd (upd g i (g k)) k (g i) j = g j
      rw [pk_un (by omega), pk_un (by omega)]
    unfold mt_fX mt_fY
    rw [n1 _ _ _ (by decide) (by decide), n1 _ _ _ (by decide) (by decide), n1 _ _ _ (by decide) (by decide), n1 _ _ _ (by decide) (by decide), n1 _ _ _ (by decide) (by decide), n1 _ _ _ (by decide) (by decide),
      n1 _ _ _ (by decide) (by decide), n1 _ _ _ (by decide) (by decide), n1 _ _ _ (by decide) (by decide), n1 _ _ _ (by decide) (by decide), n1 _ _ _ (by decide) (by decide), n1 _ _ _ (by decide) (by decide)]
theorem mt_fXB {b : Int} {t : Nat → Int32} (h : ∀ j, mt_Bd b (t j)) : ∀ j, mt_Bd b (mt_fX t j) :=
  mt_swB (mt_swB (mt_swB (mt_swB (mt_swB (mt_swB h)))))
theorem mt_rlB {b : Int} {x y : Nat} {t : Nat → Int32} (h : ∀ j, mt_Bd b (t j)) : ∀ j, mt_Bd b (mt_rl x y t j) :=
  mt_itB (fun i t h => mt_swB h) 4 _ (mt_itB (fun i t h => mt_swB h) 4 t h)
theorem mt_ngB {b : Int} (hb : b < 2147483648) {t : Nat → Int32} (h : ∀ j, mt_Bd b (t j)) : ∀ j, mt_Bd b (mt_fl 16 (fun j => -t j) t j) := by
  intro j
  by_cases hj : j < 16
  · rw [mt_fllt hj]; exact mt_Bdneg (h j) hb
  · rw [mt_flge (by omega)]; exact h j
end
section
/-! the reference's ways: the table, the constructor, columns, signs, keeps, minors -/
def mt_wl : List Nat := [27, 30, 39, 45, 54, 57, 75, 78, 99, 108, 114, 120, 135, 141, 147, 156, 177, 180, 198, 201, 210, 216, 225, 228]
def mt_wy (i : Nat) : Nat := mt_wl.getD i 0
def mt_W : Nat → Int32 := mt_fl 24 (fun j => nI (mt_wy j)) (fun _ => 0)
def mt_cn (x : Nat) : Nat := (mt_wl.filter (fun y => decide (y < x))).length
def mt_is (x : Int32) : Int32 := ((((1 : Int32) <<< (((x >>> ((2 * (0 : Int32)) &&& 31)) &&& 3) &&& 31)) ||| ((1 : Int32) <<< (((x >>> ((2 * (1 : Int32)) &&& 31)) &&& 3) &&& 31))) ||| ((1 : Int32) <<< (((x >>> ((2 * (2 : Int32)) &&& 31)) &&& 3) &&& 31))) ||| ((1 : Int32) <<< (((x >>> ((2 * (3 : Int32)) &&& 31)) &&& 3) &&& 31))
theorem mt_cnA : ∀ x, x < 256 → (mt_is (nI x) = 15 → mt_cn x < 24 ∧ mt_wy (mt_cn x) = x ∧ mt_cn (x + 1) = mt_cn x + 1) := by decide +kernel
theorem mt_cnB : ∀ x, x < 256 → (¬ mt_is (nI x) = 15 → mt_cn (x + 1) = mt_cn x) := by decide +kernel
theorem mt_cn0 : mt_cn 0 = 0 := by decide +kernel
theorem mt_cn256 : mt_cn 256 = 24 := by decide +kernel
theorem mt_yisWay {post : Int32 → Prop} {t pw wk pr W : Nat → Int32} {x : Int32} (h1 : mt_is x = 15 → post 1) (h0 : ¬ mt_is x = 15 → post 0) : wpY_isWay post (t, pw, wk, pr, W) x := by
  unfold wpY_isWay wpY_column
  dsimp only
  exact nm_e (br_c h1 h0)
theorem mt_yinit {post : SY → Prop} (H : post ((fun _ => 0), (fun _ => 0), (fun _ => 0), (fun _ => 0), mt_W)) : wpY_init post := by
  have L := mt_loop (fun n x => wY_init_47 post n (nI (mt_cn x)) (nI x) (fun _ => 0) (fun _ => 0) (fun _ => 0) (fun _ => 0) (mt_fl (mt_cn x) (fun j => nI (mt_wy j)) (fun _ => 0))) 0 256 (by decide) (fun n => br_t (mt_le 256 (by decide)) (by rw [mt_cn256]; exact H)) (by
    intro n x hx h
    refine br_f (mt_ge hx (by decide)) (mt_yisWay (fun e => ?_) (fun e => ?_))
    · have k := mt_cnA x hx e
      rw [k.2.2] at h
      have hv : vp_in (nI (mt_cn x)) 24 := mt_vin k.1 (by decide)
      refine br_f (by decide) (br_f (mt_ge k.1 (by decide)) ⟨hv, ?_⟩)
      rw [mt_cl (i := mt_cn x) (by have := k.1; omega)]
      refine nm_r (e' := mt_fl (mt_cn x + 1) (fun j => nI (mt_wy j)) (fun _ => 0)) ?_ (nm_r (mt_up _) (nm_r (mt_up x) h))
      exact mt_flu (by rw [k.2.1])
    · rw [mt_cnB x hx e] at h
      exact br_t rfl (nm_r (mt_up x) h))
  rw [mt_cn0, mt_fl0] at L
  exact L
theorem mt_Wat {i : Nat} (h : i < 24) : mt_W i = nI (mt_wy i) := mt_fllt h
theorem mt_wylt : ∀ i, i < 24 → mt_wy i < 256 := by decide +kernel
/-- the column that way w takes in row i -/
def mt_co (w i : Nat) : Nat := w / 4 ^ i % 4
theorem mt_colt (w i : Nat) : mt_co w i < 4 := Nat.mod_lt _ (by decide)
theorem mt_col : ∀ w, w < 256 → ∀ i, i < 4 → ((nI w >>> ((2 * nI i) &&& 31)) &&& 3) = nI (mt_co w i) := by decide +kernel
theorem mt_bit : ∀ r, r < 16 → ∀ i, i < 4 → (((nI r >>> (nI i &&& 31)) &&& 1) = 1 ↔ r.testBit i = true) := by decide +kernel
theorem mt_ycol {post : Int32 → Prop} {t pw wk pr W : Nat → Int32} {w i : Nat} (hw : w < 256) (hi : i < 4) (H : post (nI (mt_co w i))) : wpY_column post (t, pw, wk, pr, W) (nI w) (nI i) := by
  unfold wpY_column
  dsimp only
  rw [mt_col w hw i hi]
  exact H
/-- signs -/
def mt_sb (w r i j : Nat) : Bool := r.testBit i && r.testBit j && decide (mt_co w j < mt_co w i)
def mt_sgs (w r i j : Nat) (s : Int32) : Int32 := if mt_sb w r i j = true then -s else s
def mt_sg (w r : Nat) : Int32 := mt_sgs w r 2 3 (mt_sgs w r 1 3 (mt_sgs w r 1 2 (mt_sgs w r 0 3 (mt_sgs w r 0 2 (mt_sgs w r 0 1 1)))))
def mt_sgB (w r : Nat) : Bool := mt_sb w r 0 1 ^^ mt_sb w r 0 2 ^^ mt_sb w r 0 3 ^^ mt_sb w r 1 2 ^^ mt_sb w r 1 3 ^^ mt_sb w r 2 3
theorem mt_sgE : ∀ i, i < 24 → ∀ r, r < 16 → mt_sg (mt_wy i) r = if mt_sgB (mt_wy i) r = true then -1 else 1 := by decide +kernel
section
variable {t pw wk pr W : Nat → Int32}
theorem mt_ysgS {post : Int32 → Prop} {J5 : Int32 → Int32 → Prop} {w r n i j : Nat} {s : Int32} (hw : w < 256) (hr : r < 16) (hi : i < 4) (hj : j < 4) (H : wY_signWithin_17 post J5 (nI w) (nI r) (nI i) t pw wk pr W n (mt_sgs w r i j s) (nI (j + 1))) : wY_signWithin_17 post J5 (nI w) (nI r) (nI i) t pw wk pr W (n + 1) s (nI j) := by
  refine br_f (mt_ge (e := 4) hj (by decide)) ?_
  by_cases b1 : r.testBit i = true
  · refine br_t ((mt_bit r hr i hi).mpr b1) ?_
    by_cases b2 : r.testBit j = true
    · refine br_t ((mt_bit r hr j hj).mpr b2) ?_
      refine br_f (by decide) ?_
      refine mt_ycol hw hi (mt_ycol hw hj ?_)
      have c1 := mt_colt w i
      have c2 := mt_colt w j
      by_cases b3 : mt_co w j < mt_co w i
      · have e : mt_sgs w r i j s = -s := if_pos (by rw [mt_sb, b1, b2, decide_eq_true b3]; rfl)
        rw [e] at H
        exact br_f (nI_ge b3 (by omega)) (nm_e (nm_r (mt_up j) H))
      · have e : mt_sgs w r i j s = s := if_neg (by rw [mt_sb, b1, b2, decide_eq_false b3]; decide)
        rw [e] at H
        exact br_t (nI_le (by omega) (by omega)) (nm_r (mt_up j) H)
    · have e : mt_sgs w r i j s = s := if_neg (by rw [mt_sb, mt_nt b2, Bool.and_false, Bool.false_and]; decide)
      rw [e] at H
      refine br_f (fun z => b2 ((mt_bit r hr j hj).mp z)) ?_
      exact br_t rfl (nm_r (mt_up j) H)
  · have e : mt_sgs w r i j s = s := if_neg (by rw [mt_sb, mt_nt b1, Bool.false_and, Bool.false_and]; decide)
    rw [e] at H
    refine br_f (fun z => b1 ((mt_bit r hr i hi).mp z)) ?_
    exact br_t rfl (nm_r (mt_up j) H)
theorem mt_ysgE {post : Int32 → Prop} {J5 : Int32 → Int32 → Prop} {w r n i : Nat} {s : Int32} (H : J5 s (nI (i + 1))) : wY_signWithin_17 post J5 (nI w) (nI r) (nI i) t pw wk pr W (n + 1) s (nI 4) :=
  br_t (mt_le 4 (by decide)) (nm_r (mt_up i) H)
theorem mt_ysgO {post : Int32 → Prop} {w r n i : Nat} {s : Int32} (k : Nat) (hi : i < 4) (H : wY_signWithin_17 post (wY_signWithin_5 post (nI w) (nI r) t pw wk pr W n) (nI w) (nI r) (nI i) t pw wk pr W k s (nI (i + 1))) : wY_signWithin_5 post (nI w) (nI r) t pw wk pr W (n + 1) s (nI i) :=
  br_f (mt_ge (e := 4) hi (by decide)) (nm_r (mt_up i) ⟨k, H⟩)
theorem mt_ysign {post : Int32 → Prop} {w r : Nat} (hw : w < 256) (hr : r < 16) (H : post (mt_sg w r)) : wpY_signWithin post (t, pw, wk, pr, W) (nI w) (nI r) := by
  have F : wY_signWithin_5 post (nI w) (nI r) t pw wk pr W 1 (mt_sg w r) (nI 4) := br_t (mt_le 4 (by decide)) H
  have G3 : wY_signWithin_5 post (nI w) (nI r) t pw wk pr W 2 (mt_sg w r) (nI 3) := mt_ysgO 1 (by decide) (mt_ysgE F)
  have G2 : wY_signWithin_5 post (nI w) (nI r) t pw wk pr W 3 (mt_sgs w r 1 3 (mt_sgs w r 1 2 (mt_sgs w r 0 3 (mt_sgs w r 0 2 (mt_sgs w r 0 1 1))))) (nI 2) :=
    mt_ysgO 2 (by decide) (mt_ysgS (j := 3) hw hr (by decide) (by decide) (mt_ysgE G3))
  have G1 : wY_signWithin_5 post (nI w) (nI r) t pw wk pr W 4 (mt_sgs w r 0 3 (mt_sgs w r 0 2 (mt_sgs w r 0 1 1))) (nI 1) :=
    mt_ysgO 3 (by decide) (mt_ysgS (j := 2) hw hr (by decide) (by decide) (mt_ysgS (j := 3) hw hr (by decide) (by decide) (mt_ysgE G2)))
  have G0 : wY_signWithin_5 post (nI w) (nI r) t pw wk pr W 5 1 (nI 0) :=
    mt_ysgO 4 (by decide) (mt_ysgS (j := 1) hw hr (by decide) (by decide) (mt_ysgS (j := 2) hw hr (by decide) (by decide) (mt_ysgS (j := 3) hw hr (by decide) (by decide) (mt_ysgE G1))))
  exact ⟨5, G0⟩
/-- keeps: d rows are left, the next is row, the last free column -/
def mt_kp (w r c : Nat) : Nat → Nat → Int32 → Bool
  | 0, _, _ => true
  | d + 1, row, last => if r.testBit row = c.testBit (mt_co w row) then (if r.testBit row = true then mt_kp w r c d (row + 1) last else if last ≤ nI (mt_co w row) then mt_kp w r c d (row + 1) (nI (mt_co w row)) else false) else false
def mt_k (w r c : Nat) : Bool := mt_kp w r c 4 0 (-1)
theorem mt_kp1 {w r c d row : Nat} {last : Int32} (b1 : r.testBit row = true) (b2 : c.testBit (mt_co w row) = true) : mt_kp w r c (d + 1) row last = mt_kp w r c d (row + 1) last := by
  rw [mt_kp, b1, b2, if_pos rfl, if_pos rfl]
theorem mt_kp2 {w r c d row : Nat} {last : Int32} (b1 : r.testBit row = true) (b2 : c.testBit (mt_co w row) = false) : mt_kp w r c (d + 1) row last = false := by
  rw [mt_kp, b1, b2, if_neg (by decide)]
theorem mt_kp3 {w r c d row : Nat} {last : Int32} (b1 : r.testBit row = false) (b2 : c.testBit (mt_co w row) = true) : mt_kp w r c (d + 1) row last = false := by
  rw [mt_kp, b1, b2, if_neg (by decide)]
theorem mt_kp4 {w r c d row : Nat} {last : Int32} (b1 : r.testBit row = false) (b2 : c.testBit (mt_co w row) = false) (b3 : last ≤ nI (mt_co w row)) : mt_kp w r c (d + 1) row last = mt_kp w r c d (row + 1) (nI (mt_co w row)) := by
  rw [mt_kp, b1, b2, if_pos rfl, if_neg (by decide), if_pos b3]
theorem mt_kp5 {w r c d row : Nat} {last : Int32} (b1 : r.testBit row = false) (b2 : c.testBit (mt_co w row) = false) (b3 : ¬ last ≤ nI (mt_co w row)) : mt_kp w r c (d + 1) row last = false := by
  rw [mt_kp, b1, b2, if_pos rfl, if_neg (by decide), if_neg b3]
theorem mt_ykpL {post : Int32 → Prop} {w r c : Nat} (hw : w < 256) (hr : r < 16) (hc : c < 16) : ∀ (d row : Nat) (last : Int32), row + d = 4 → post (if mt_kp w r c d row last = true then 1 else 0) → wY_keeps_6 post (nI w) (nI r) (nI c) t pw wk pr W (d + 1) last (nI row) := by
  intro d
  induction d with
  | zero =>
    intro row last h H
    have e : row = 4 := by omega
    subst e
    rw [mt_kp, if_pos rfl] at H
    exact br_t (mt_le 4 (by decide)) H
  | succ d ih =>
    intro row last h H
    have hrow : row < 4 := by omega
    have hco := mt_colt w row
    refine br_f (mt_ge (e := 4) hrow (by decide)) (mt_ycol hw hrow ?_)
    by_cases b1 : r.testBit row = true
    · refine br_t ((mt_bit r hr row hrow).mpr b1) ?_
      by_cases b2 : c.testBit (mt_co w row) = true
      · rw [mt_kp1 b1 b2] at H
        refine br_t ((mt_bit c hc _ hco).mpr b2) ?_
        refine br_t rfl (br_f (by decide) ?_)
        exact br_f (by decide) (nm_r (mt_up row) (ih (row + 1) last (by omega) H))
      · rw [mt_kp2 b1 (mt_nt b2)] at H
        refine br_f (fun z => b2 ((mt_bit c hc _ hco).mp z)) ?_
        exact br_f (by decide) H
    · refine br_f (fun z => b1 ((mt_bit r hr row hrow).mp z)) ?_
      by_cases b2 : c.testBit (mt_co w row) = true
      · rw [mt_kp3 (mt_nt b1) b2] at H
        refine br_t ((mt_bit c hc _ hco).mpr b2) ?_
        exact br_f (by decide) H
      · refine br_f (fun z => b2 ((mt_bit c hc _ hco).mp z)) ?_
        refine br_t rfl (br_t rfl ?_)
        by_cases b3 : last ≤ nI (mt_co w row)
        · rw [mt_kp4 (mt_nt b1) (mt_nt b2) b3] at H
          exact br_t b3 (br_t rfl (nm_r (mt_up row) (ih (row + 1) _ (by omega) H)))
        · rw [mt_kp5 (mt_nt b1) (mt_nt b2) b3] at H
          exact br_f b3 H
theorem mt_ykeeps {post : Int32 → Prop} {w r c : Nat} (hw : w < 256) (hr : r < 16) (hc : c < 16) (H : post (if mt_k w r c = true then 1 else 0)) : wpY_keeps post (t, pw, wk, pr, W) (nI w) (nI r) (nI c) :=
  ⟨5, mt_ykpL hw hr hc 4 0 (-1) rfl H⟩
/-- a minor's product: d rows are left, the next is row -/
def mt_mp (g : Nat → Int32) (w r : Nat) : Nat → Nat → Int32 → Int32
  | 0, _, p => p
  | d + 1, row, p => mt_mp g w r d (row + 1) (if r.testBit row = true then p * g (row * 4 + mt_co w row) else p)
def mt_mn (g : Nat → Int32) (r c : Nat) : Nat → Nat → Int32 → Int32
  | 0, _, s => s
  | d + 1, i, s => mt_mn g r c d (i + 1) (if mt_k (mt_wy i) r c = true then s + mt_mp g (mt_wy i) r 4 0 (mt_sg (mt_wy i) r) else s)
def mt_minor (g : Nat → Int32) (r c : Nat) : Int32 := mt_mn g r c 24 0 0
theorem mt_ympL {post : Int32 → Prop} {J5 : Int32 → Int32 → Prop} {w r c i : Nat} {s : Int32} (hw : w < 256) (hr : r < 16) : ∀ (d row : Nat) (p : Int32), row + d = 4 → J5 (s + mt_mp wk w r d row p) (nI (i + 1)) → wY_minor_44 post J5 (nI r) (nI c) s (nI i) (nI w) t pw wk pr W (d + 1) p (nI row) := by
  intro d
  induction d with
  | zero =>
    intro row p h H
    have e : row = 4 := by omega
    subst e
    exact br_t (mt_le 4 (by decide)) (nm_e (nm_r (mt_up i) H))
  | succ d ih =>
    intro row p h H
    have hrow : row < 4 := by omega
    have hco := mt_colt w row
    refine br_f (mt_ge (e := 4) hrow (by decide)) ?_
    rw [mt_mp] at H
    by_cases b1 : r.testBit row = true
    · rw [if_pos b1] at H
      refine br_t ((mt_bit r hr row hrow).mpr b1) (mt_ycol hw hrow ?_)
      rw [mt_ix, mt_cl (by omega)]
      exact ⟨mt_vin (by omega) (by decide), nm_e (nm_r (mt_up row) (ih (row + 1) _ (by omega) H))⟩
    · rw [if_neg b1] at H
      exact br_f (fun z => b1 ((mt_bit r hr row hrow).mp z)) (nm_r (mt_up row) (ih (row + 1) _ (by omega) H))
theorem mt_ymnL {post : Int32 → Prop} {r c : Nat} (hr : r < 16) (hc : c < 16) : ∀ (d i : Nat) (s : Int32), i + d = 24 → post (mt_mn wk r c d i s) → wY_minor_5 post (nI r) (nI c) t pw wk pr mt_W (d + 1) s (nI i) := by
  intro d
  induction d with
  | zero =>
    intro i s h H
    have e : i = 24 := by omega
    subst e
    exact br_t (mt_le 24 (by decide)) H
  | succ d ih =>
    intro i s h H
    have hi : i < 24 := by omega
    refine br_f (mt_ge (e := 24) hi (by decide)) ⟨mt_vin hi (by decide), ?_⟩
    rw [mt_mn] at H
    refine nm_r (e' := nI (mt_wy i)) (by rw [mt_cl (by omega), mt_Wat hi]) ?_
    refine mt_ykeeps (mt_wylt i hi) hr hc ?_
    by_cases b : mt_k (mt_wy i) r c = true
    · rw [if_pos b] at H
      rw [if_pos b]
      refine br_f (by decide) ?_
      refine mt_ysign (mt_wylt i hi) hr ?_
      exact ⟨5, mt_ympL (mt_wylt i hi) hr 4 0 _ rfl (ih (i + 1) _ (by omega) H)⟩
    · rw [if_neg b] at H
      rw [if_neg b]
      exact br_t rfl (nm_r (mt_up i) (ih (i + 1) _ (by omega) H))
theorem mt_yminor {post : Int32 → Prop} {r c : Nat} (hr : r < 16) (hc : c < 16) (H : post (mt_minor wk r c)) : wpY_minor post (t, pw, wk, pr, mt_W) (nI r) (nI c) :=
  ⟨25, mt_ymnL hr hc 24 0 0 rfl H⟩
end
/-- a minor as a list of signed products -/
def mt_il (w r : Nat) : Nat → Nat → List Nat
  | 0, _ => []
  | d + 1, row => if r.testBit row = true then (row * 4 + mt_co w row) :: mt_il w r d (row + 1) else mt_il w r d (row + 1)
def mt_ms (r c : Nat) : Nat → Nat → List (Bool × List Nat)
  | 0, _ => []
  | d + 1, i => if mt_k (mt_wy i) r c = true then (mt_sgB (mt_wy i) r, mt_il (mt_wy i) r 4 0) :: mt_ms r c d (i + 1) else mt_ms r c d (i + 1)
def mt_pe (g : Nat → Int32) : Int32 → List Nat → Int32
  | p, [] => p
  | p, j :: l => mt_pe g (p * g j) l
def mt_ev (g : Nat → Int32) : Int32 → List (Bool × List Nat) → Int32
  | s, [] => s
  | s, x :: l => mt_ev g (s + mt_pe g (if x.1 = true then -1 else 1) x.2) l
theorem mt_mpE (g : Nat → Int32) (w r : Nat) : ∀ (d row : Nat) (p : Int32), mt_mp g w r d row p = mt_pe g p (mt_il w r d row) := by
  intro d
  induction d with
  | zero => intro row p; rfl
  | succ d ih =>
    intro row p
    rw [mt_mp, mt_il, ih]
    by_cases b : r.testBit row = true
    · rw [if_pos b, if_pos b, mt_pe]
    · rw [if_neg b, if_neg b]
theorem mt_mnE (g : Nat → Int32) (r c : Nat) (hr : r < 16) : ∀ (d i : Nat) (s : Int32), i + d = 24 → mt_mn g r c d i s = mt_ev g s (mt_ms r c d i) := by
  intro d
  induction d with
  | zero => intro i s _; rfl
  | succ d ih =>
    intro i s h
    rw [mt_mn, mt_ms, ih _ _ (by omega)]
    by_cases b : mt_k (mt_wy i) r c = true
    · rw [if_pos b, if_pos b, mt_ev, mt_mpE, mt_sgE i (by omega) r hr]
    · rw [if_neg b, if_neg b]
theorem mt_minorE (g : Nat → Int32) {r c : Nat} (hr : r < 16) {l : List (Bool × List Nat)} (h : mt_ms r c 24 0 = l) : mt_minor g r c = mt_ev g 0 l := by
  rw [← h]
  exact mt_mnE g r c hr 24 0 0 rfl
end
section
/-! the reference: times, coefficient, load, multiply, raise -/
def mt_dv (d : Bool) : Int32 := if d = true then 1 else 0
def mt_tp (a : Int32) (d : Bool) (P : Nat → Int32) (k : Nat) : Int32 := (if d = true then (if k = 0 then 0 else P (k - 1)) else 0) - a * P k
/-- the product of x - a or -a over the first rows of a way: its coefficients -/
def mt_pp (t : Nat → Int32) (w : Nat) : Nat → Nat → Int32
  | 0 => fun k => if k = 0 then mt_sg w 15 else 0
  | row + 1 => mt_tp (t (row * 4 + mt_co w row)) (decide (mt_co w row = row)) (mt_pp t w row)
def mt_pc (t : Nat → Int32) (w k : Nat) : Int32 := mt_pp t w 4 k
def mt_cs (t : Nat → Int32) (k : Nat) : Nat → Nat → Int32 → Int32
  | 0, _, s => s
  | d + 1, i, s => mt_cs t k d (i + 1) (s + mt_pc t (mt_wy i) k)
def mt_cf (t : Nat → Int32) (k : Nat) : Int32 := mt_cs t k 24 0 0
section
variable {t pw wk pr W : Nat → Int32}
theorem mt_y26 {post : SY → Prop} {J2 : Int32 → (Nat → Int32) → (Nat → Int32) → (Nat → Int32) → (Nat → Int32) → (Nat → Int32) → Prop} {a x2 z0 : Int32} {k : Nat} (hk : k < 5) (H : J2 (nI k + (-1)) t pw wk (upd pr k (z0 - a * pr k)) W) : wY_times_26 post J2 a x2 (nI k) z0 t pw wk pr W := by
  have hv : vp_in (nI k) 5 := mt_vin hk (by decide)
  unfold wY_times_26
  rw [mt_cl (i := k) (by omega)]
  exact ⟨hv, hv, nm_e (nm_e H)⟩
theorem mt_ytL {post : SY → Prop} {a : Int32} {d : Bool} {P : Nat → Int32} (H : ∀ pr' : Nat → Int32, (∀ j, j < 5 → pr' j = mt_tp a d P j) → post (t, pw, wk, pr', W)) : ∀ (k : Nat) (pr : Nat → Int32), k ≤ 5 → (∀ j, j < k → pr j = P j) → (∀ j, k ≤ j → j < 5 → pr j = mt_tp a d P j) → wY_times_2 post a (mt_dv d) (k + 1) (nI k + (-1)) t pw wk pr W := by
  intro k
  induction k with
  | zero =>
    intro pr _ _ h2
    exact br_t (by decide) (H pr (fun j hj => h2 j (Nat.zero_le j) hj))
  | succ k ih =>
    intro pr hk h1 h2
    rw [pk_m1]
    refine br_f (mt_nlt0 (by omega)) ?_
    have hv : vp_in (nI k) 5 := mt_vin (by omega) (by decide)
    have N : ∀ x, x = mt_tp a d P k → wY_times_2 post a (mt_dv d) (k + 1) (nI k + (-1)) t pw wk (upd pr k x) W := by
      intro x hx
      refine ih _ (by omega) ?_ ?_
      · intro j hj
        rw [pk_un (by omega)]
        exact h1 j (by omega)
      · intro j hj hj5
        by_cases e : j = k
        · rw [e, pk_us, hx]
        · rw [pk_un e]
          exact h2 j (by omega) hj5
    cases d with
    | false =>
      refine br_t rfl ?_
      unfold wY_times_25
      exact mt_y26 (by omega) (N _ (by rw [h1 k (by omega)]; rfl))
    | true =>
      refine br_f (by decide) ?_
      cases k with
      | zero =>
        refine br_t (by decide) ?_
        unfold wY_times_25
        exact mt_y26 (k := 0) (by omega) (N _ (by rw [h1 0 (by omega)]; rfl))
      | succ k =>
        refine br_f (nI_nle (by omega) (by omega)) ?_
        rw [nI_pred, mt_cl (i := k) (by omega)]
        exact ⟨mt_vin (by omega) (by decide), mt_y26 (by omega) (N _ (by rw [h1 (k + 1) (by omega), h1 k (by omega)]; rfl))⟩
theorem mt_ytimes {post : SY → Prop} {a : Int32} {P : Nat → Int32} (d : Bool) (h : ∀ j, j < 5 → pr j = P j) (H : ∀ pr' : Nat → Int32, (∀ j, j < 5 → pr' j = mt_tp a d P j) → post (t, pw, wk, pr', W)) : wpY_times post (t, pw, wk, pr, W) a (mt_dv d) :=
  ⟨6, mt_ytL H 5 pr (by decide) h (fun j h1 h2 => absurd h2 (by omega))⟩
theorem mt_y69 {post : Int32 → SY → Prop} {J15 : Int32 → Int32 → (Nat → Int32) → (Nat → Int32) → (Nat → Int32) → (Nat → Int32) → (Nat → Int32) → Prop} {k w i : Nat} {s : Int32} (hk : k < 5) (hw : w < 256) (H : ∀ pr' : Nat → Int32, J15 (s + mt_pc t w k) (nI (i + 1)) t pw wk pr' W) : ∀ (d row : Nat) (pr : Nat → Int32), row + d = 4 → (∀ j, j < 5 → pr j = mt_pp t w row j) → wY_coefficient_69 post J15 (nI k) s (nI i) (nI w) (d + 1) (nI row) t pw wk pr W := by
  intro d
  induction d with
  | zero =>
    intro row pr h hp
    have e : row = 4 := by omega
    subst e
    refine br_t (mt_le 4 (by decide)) ⟨mt_vin hk (by decide), ?_⟩
    refine nm_r (e' := s + mt_pc t w k) (by rw [mt_cl (by omega), hp k hk]; rfl) (nm_r (mt_up i) (H pr))
  | succ d ih =>
    intro row pr h hp
    have hrow : row < 4 := by omega
    have hco := mt_colt w row
    refine br_f (mt_ge (e := 4) hrow (by decide)) (mt_ycol hw hrow ?_)
    rw [mt_ix, mt_cl (i := row * 4 + mt_co w row) (by omega)]
    refine ⟨mt_vin (by omega) (by decide), ?_⟩
    by_cases b : mt_co w row = row
    · refine br_t (by rw [b]) ?_
      unfold wY_coefficient_110
      refine mt_ytimes true hp ?_
      intro pr' hp'
      refine nm_r (mt_up row) (ih (row + 1) pr' (by omega) ?_)
      rw [mt_pp, decide_eq_true b]
      exact hp'
    · refine br_f (fun z => b ((nI_eq (by omega) (by omega)).mp z)) ?_
      unfold wY_coefficient_110
      refine mt_ytimes false hp ?_
      intro pr' hp'
      refine nm_r (mt_up row) (ih (row + 1) pr' (by omega) ?_)
      rw [mt_pp, decide_eq_false b]
      exact hp'
theorem mt_y32 {post : Int32 → SY → Prop} {J15 : Int32 → Int32 → (Nat → Int32) → (Nat → Int32) → (Nat → Int32) → (Nat → Int32) → (Nat → Int32) → Prop} {k w i : Nat} {s : Int32} (hk : k < 5) (hw : w < 256) (H : ∀ pr' : Nat → Int32, J15 (s + mt_pc t w k) (nI (i + 1)) t pw wk pr' W) : ∃ n, wY_coefficient_32 post J15 (nI k) s (nI i) (nI w) n 0 t pw wk pr W := by
  have L := mt_loop (fun n x => wY_coefficient_32 post J15 (nI k) s (nI i) (nI w) n (nI x) t pw wk (mt_fl x (fun _ => 0) pr) W) 0 5 (by decide) (fun n => br_t (mt_le 5 (by decide)) (mt_ysign (r := 15) hw (by decide) (nm_e ⟨5, mt_y69 hk hw H 4 0 _ rfl (by
      intro j hj
      show upd (mt_fl 5 (fun _ => 0) pr) 0 (mt_sg w 15) j = if j = 0 then mt_sg w 15 else 0
      by_cases e : j = 0
      · rw [e, pk_us, if_pos rfl]
      · rw [pk_un e, mt_fllt hj, if_neg e])⟩))) (by
    intro n x hx h
    refine br_f (mt_ge hx (by decide)) ⟨mt_vin hx (by decide), ?_⟩
    rw [mt_cl (i := x) (by omega), mt_flu rfl]
    exact nm_e (nm_r (mt_up x) h))
  simp only [mt_fl0] at L
  exact L
theorem mt_y15 {post : Int32 → SY → Prop} {k : Nat} (hk : k < 5) : ∀ (d i : Nat) (s : Int32) (pr : Nat → Int32), i + d = 24 → (∀ pr' : Nat → Int32, post (mt_cs t k d i s) (t, pw, wk, pr', mt_W)) → wY_coefficient_15 post (nI k) (d + 1) s (nI i) t pw wk pr mt_W := by
  intro d
  induction d with
  | zero =>
    intro i s pr h H
    have e : i = 24 := by omega
    subst e
    exact br_t (mt_le 24 (by decide)) (H pr)
  | succ d ih =>
    intro i s pr h H
    have hi : i < 24 := by omega
    refine br_f (mt_ge (e := 24) hi (by decide)) ⟨mt_vin hi (by decide), ?_⟩
    refine nm_r (e' := nI (mt_wy i)) (by rw [mt_cl (by omega), mt_Wat hi]) ?_
    refine mt_y32 hk (mt_wylt i hi) ?_
    intro pr'
    exact ih (i + 1) _ pr' (by omega) H
theorem mt_ycoef {post : Int32 → SY → Prop} {k : Nat} (hk : k < 5) (H : ∀ pr' : Nat → Int32, post (mt_cf t k) (t, pw, wk, pr', mt_W)) : wpY_coefficient post (t, pw, wk, pr, mt_W) (nI k) :=
  br_f (mt_nlt0 (by omega)) (br_t (nI_le (b := 4) (by omega) (by decide)) ⟨25, mt_y15 hk 24 0 0 pr rfl H⟩)
/-- load -/
def mt_ld (t : Nat → Int32) (x : Int32) (j : Nat) : Int32 := if j % 5 = 0 then t j - x else t j - 0
theorem mt_yload {post : SY → Prop} {x : Int32} (H : ∀ wk' : Nat → Int32, (∀ j, j < 16 → wk' j = mt_ld t x j) → post (t, pw, wk', pr, W)) : wpY_load post (t, pw, wk, pr, W) x := by
  have L := mt_loop (fun n i => wY_load_2 post x n (nI i) t pw (mt_fl i (mt_ld t x) wk) pr W) 0 16 (by decide) (fun n => br_t (mt_le 16 (by decide)) (H _ (fun j hj => mt_fllt hj))) (by
    intro n i hi h
    have hv : vp_in (nI i) 16 := mt_vin hi (by decide)
    refine br_f (mt_ge hi (by decide)) ⟨hv, by decide, ?_⟩
    rw [mt_cl (i := i) (by omega)]
    by_cases b : i % 5 = 0
    · refine br_t ((mt_rem5z (by omega)).mpr b) ⟨hv, nm_r (mt_flu (by rw [mt_ld, if_pos b])) (nm_r (mt_up i) h)⟩
    · refine br_f (fun z => b ((mt_rem5z (by omega)).mp z)) ⟨hv, nm_r (mt_flu (by rw [mt_ld, if_neg b])) (nm_r (mt_up i) h)⟩)
  simp only [mt_fl0] at L
  exact L
/-- products of tables -/
def mt_ps (a b : Nat → Int32) (i k : Nat) : Nat → Int32
  | 0 => 0
  | m + 1 => mt_ps a b i k m + a (i * 4 + m) * b (m * 4 + k)
def mt_mm (a b : Nat → Int32) (j : Nat) : Int32 := mt_ps a b (j / 4) (j % 4) 4
theorem mt_ymul {post : SY → Prop} (H : ∀ pw' wk' : Nat → Int32, (∀ j, j < 16 → pw' j = mt_mm pw t j) → post (t, pw', wk', pr, W)) : wpY_multiply post (t, pw, wk, pr, W) := by
  have L2 := mt_loop (fun n i => wY_multiply_66 post n (nI i) t (mt_fl i (mt_fl 16 (mt_mm pw t) wk) pw) (mt_fl 16 (mt_mm pw t) wk) pr W) 0 16 (by decide) (fun n => br_t (mt_le 16 (by decide)) (H _ _ (fun j hj => by rw [mt_fllt hj, mt_fllt hj]))) (by
    intro n i hi h
    have hv : vp_in (nI i) 16 := mt_vin hi (by decide)
    refine br_f (mt_ge hi (by decide)) ⟨hv, hv, ?_⟩
    rw [mt_cl (i := i) (by omega)]
    exact nm_r (mt_flu rfl) (nm_r (mt_up i) h))
  simp only [mt_fl0] at L2
  have L := mt_loop (fun n i => wY_multiply_2 post n (nI i) t pw (mt_fl i (mt_mm pw t) wk) pr W) 0 16 (by decide) (fun n => br_t (mt_le 16 (by decide)) L2) (by
    intro n i hi h
    refine br_f (mt_ge hi (by decide)) ?_
    exact mt_loop (fun k m => wY_multiply_12 post (wY_multiply_2 post n) (nI i) t pw (mt_fl i (mt_mm pw t) wk) pr W k (mt_ps pw t (i / 4) (i % 4) m) (nI m)) 0 4 (by decide) (by
      intro k
      refine br_t (mt_le 4 (by decide)) ⟨mt_vin hi (by decide), ?_⟩
      rw [mt_cl (i := i) (by omega)]
      exact nm_r (mt_flu rfl) (nm_r (mt_up i) h)) (by
      intro k m hm h2
      refine br_f (mt_ge hm (by decide)) ?_
      rw [mt_rem4 (by omega), mt_div4 (by omega), mt_ix, mt_ix, mt_cl (i := i / 4 * 4 + m) (by omega), mt_cl (i := m * 4 + i % 4) (by omega)]
      exact ⟨by decide, mt_vin (by omega) (by decide), by decide, mt_vin (by omega) (by decide), nm_e (nm_r (mt_up m) h2)⟩))
  simp only [mt_fl0] at L
  exact L
def mt_id (j : Nat) : Int32 := if j % 5 = 0 then 1 else 0
/-- the powers -/
def mt_Q (t : Nat → Int32) : Nat → Nat → Int32
  | 0 => mt_id
  | n + 1 => mt_mm (mt_Q t n) t
theorem mt_mmc {a a' b b' : Nat → Int32} (ha : ∀ j, j < 16 → a j = a' j) (hb : ∀ j, j < 16 → b j = b' j) {j : Nat} (hj : j < 16) : mt_mm a b j = mt_mm a' b' j := by
  have h1 : j / 4 < 4 := by omega
  have h2 : j % 4 < 4 := by omega
  unfold mt_mm
  generalize j / 4 = i at *
  generalize j % 4 = k at *
  have e : ∀ m, m ≤ 4 → mt_ps a b i k m = mt_ps a' b' i k m := by
    intro m
    induction m with
    | zero => intro _; rfl
    | succ m ih =>
      intro hm
      rw [mt_ps, mt_ps, ih (by omega), ha _ (by omega), hb _ (by omega)]
  exact e 4 (by omega)
theorem mt_y33 {post : SY → Prop} {n : Nat} (hn : n < 1000) (H : ∀ pw' wk' : Nat → Int32, (∀ j, j < 16 → pw' j = mt_Q t n j) → post (t, pw', wk', pr, W)) : ∀ (d k : Nat) (pw wk : Nat → Int32), k + d = n → (∀ j, j < 16 → pw j = mt_Q t k j) → wY_raise_33 post (nI n) (d + 1) (nI k) t pw wk pr W := by
  intro d
  induction d with
  | zero =>
    intro k pw wk h hq
    have e : k = n := by omega
    subst e
    exact br_t (mt_le k (by omega)) (H pw wk hq)
  | succ d ih =>
    intro k pw wk h hq
    refine br_f (mt_ge (by omega) (by omega)) (mt_ymul ?_)
    intro pw' wk' hp
    refine nm_r (mt_up k) (ih (k + 1) pw' wk' (by omega) ?_)
    intro j hj
    rw [hp j hj]
    exact mt_mmc hq (fun _ _ => rfl) hj
theorem mt_yraise {post : SY → Prop} {n : Nat} (hn : n < 1000) (H : ∀ pw' wk' : Nat → Int32, (∀ j, j < 16 → pw' j = mt_Q t n j) → post (t, pw', wk', pr, W)) : wpY_raise post (t, pw, wk, pr, W) (nI n) := by
  have L := mt_loop (fun k i => wY_raise_2 post (nI n) k (nI i) t (mt_fl i mt_id pw) wk pr W) 0 16 (by decide) (fun k => br_t (mt_le 16 (by decide)) ⟨n + 1, mt_y33 hn H n 0 _ _ (by omega) (fun j hj => by rw [mt_fllt hj]; rfl)⟩) (by
    intro k i hi h
    have hv : vp_in (nI i) 16 := mt_vin hi (by decide)
    refine br_f (mt_ge hi (by decide)) ⟨by decide, ?_⟩
    rw [mt_cl (i := i) (by omega)]
    by_cases b : i % 5 = 0
    · refine br_t ((mt_rem5z (by omega)).mpr b) ⟨hv, nm_r (mt_flu (by rw [mt_id, if_pos b])) (nm_r (mt_up i) h)⟩
    · refine br_f (fun z => b ((mt_rem5z (by omega)).mp z)) ⟨hv, nm_r (mt_flu (by rw [mt_id, if_neg b])) (nm_r (mt_up i) h)⟩)
  simp only [mt_fl0] at L
  exact L
end
end
section
/-! the component: products, coefficients, powers -/
def mt_tr (p : Nat → Int32) : Int32 := ((p 0 + p 5) + p 10) + p 15
def mt_nx (t s : Nat → Int32) (v : Int32) (j : Nat) : Int32 := if j % 5 = 0 then mt_mm t s j + v else mt_mm t s j
def mt_v (t s : Nat → Int32) (n : Nat) : Int32 := (-(mt_tr (mt_mm t s))) / nI n
def mt_P (t : Nat → Int32) : Nat → Nat → Int32
  | 0 => mt_id
  | n + 1 => mt_mm t (mt_P t n)
def mt_dg (i : Nat) (v : Int32) (s : Nat → Int32) : Nat → Int32 := fun j => if j % 5 = 0 ∧ j < i * 5 then s j + v else s j
theorem mt_dg0 (v : Int32) (s : Nat → Int32) : mt_dg 0 v s = s := by
  funext j
  exact if_neg (by omega)
theorem mt_dgu (i : Nat) (v : Int32) (s : Nat → Int32) : upd (mt_dg i v s) (i * 5) (mt_dg i v s (i * 5) + v) = mt_dg (i + 1) v s := by
  funext j
  have e0 : mt_dg i v s (i * 5) = s (i * 5) := if_neg (by omega)
  by_cases e : j = i * 5
  · rw [e, pk_us, e0]
    exact (if_pos (by omega)).symm
  · rw [pk_un e]
    by_cases h : j % 5 = 0 ∧ j < i * 5
    · rw [mt_dg, mt_dg, if_pos h, if_pos (by omega)]
    · rw [mt_dg, mt_dg, if_neg h, if_neg (by omega)]
def mt_nm (n i : Nat) (s m : Nat → Int32) : Nat → Int32 := if n = 4 then mt_fl i (fun j => -s j) m else m
theorem mt_mmix {a b : Nat → Int32} {i k : Nat} (hk : k < 4) : mt_mm a b (i * 4 + k) = mt_ps a b i k 4 := by
  rw [mt_mm, show (i * 4 + k) / 4 = i from by omega, show (i * 4 + k) % 4 = k from by omega]
section
variable {rd : Int32} {t c s m p q : Nat → Int32} {w : Nat → Int64}
theorem mt_xrow {post : Int32 → Prop} {i k : Nat} (hi : i < 4) (hk : k < 4) (H : post (mt_ps t s i k 4)) : wpX_rowTimesColumn post (rd, t, c, s, m, p, q, w) (nI i) (nI k) :=
  mt_loop (fun n x => wX_rowTimesColumn_5 post (nI i) (nI k) rd t c s m p q w n (mt_ps t s i k x) (nI x)) 0 4 (by decide) (fun n => br_t (mt_le 4 (by decide)) H) (by
    intro n x hx h
    refine br_f (mt_ge hx (by decide)) ?_
    rw [mt_ix, mt_ix, mt_cl (i := i * 4 + x) (by omega), mt_cl (i := x * 4 + k) (by omega)]
    exact ⟨mt_vin (by omega) (by decide), mt_vin (by omega) (by decide), nm_e (nm_r (mt_up x) h)⟩)
theorem mt_xmul {post : SX → Prop} {S : Nat → Int32} (hs : ∀ j, j < 16 → s j = S j) (H : ∀ p' : Nat → Int32, (∀ j, j < 16 → p' j = mt_mm t S j) → post (rd, t, c, s, m, p', q, w)) : wpX_multiplyStep post (rd, t, c, s, m, p, q, w) := by
  have L := mt_loop (fun n i => wX_multiplyStep_2 post rd n (nI i) t c s m (mt_fl (i * 4) (mt_mm t s) p) q w) 0 4 (by decide) (fun n => br_t (mt_le 4 (by decide)) (H _ (fun j hj => by rw [mt_fllt (by omega)]; exact mt_mmc (fun _ _ => rfl) hs hj))) (by
    intro n i hi h
    refine br_f (mt_ge hi (by decide)) ?_
    exact mt_loop (fun n' k => wX_multiplyStep_9 post (wX_multiplyStep_2 post rd n) (nI i) rd n' (nI k) t c s m (mt_fl (i * 4 + k) (mt_mm t s) p) q w) 0 4 (by decide) (by
      intro n'
      rw [show (i + 1) * 4 = i * 4 + 4 from by omega] at h
      exact br_t (mt_le 4 (by decide)) (nm_r (mt_up i) h)) (by
      intro n' k hk h2
      refine br_f (mt_ge hk (by decide)) (mt_xrow hi hk ?_)
      rw [mt_ix, mt_cl (i := i * 4 + k) (by omega)]
      exact ⟨mt_vin (by omega) (by decide), nm_r (mt_flu (mt_mmix hk).symm) (nm_r (mt_up k) h2)⟩))
  simp only [Nat.zero_mul, mt_fl0] at L
  exact L
theorem mt_x55 {post : SX → Prop} {J31 : Int32 → (Nat → Int32) → (Nat → Int32) → (Nat → Int32) → (Nat → Int32) → (Nat → Int32) → (Nat → Int32) → (Nat → Int64) → Prop} {x1 : Int32} {i : Nat} (hi : i < 16) (H : J31 (nI (i + 1)) t c (upd s i (p i)) m p q w) : wX_nextCoefficient_55 post J31 x1 (nI i) rd t c s m p q w := by
  have hv : vp_in (nI i) 16 := mt_vin hi (by decide)
  unfold wX_nextCoefficient_55
  rw [mt_cl (i := i) (by omega)]
  exact ⟨hv, hv, nm_e (nm_r (mt_up i) H)⟩
theorem mt_nmu {n i : Nat} {s m : Nat → Int32} (e : n = 4) : upd (mt_nm n i s m) i (-s i) = mt_nm n (i + 1) s m := by
  rw [mt_nm, mt_nm, if_pos e, if_pos e]
  exact mt_flu rfl
theorem mt_nmn {n i k : Nat} {s m : Nat → Int32} (e : ¬ n = 4) : mt_nm n i s m = mt_nm n k s m := by
  rw [mt_nm, mt_nm, if_neg e, if_neg e]
theorem mt_x31 {post : SX → Prop} {n : Nat} {v : Int32} (h0 : 0 < n) (hn : n ≤ 4) (hc : c (4 - n) = v) (H : post (rd, t, c, mt_dg 4 v (mt_fl 16 p s), mt_nm n 16 s m, p, q, w)) : ∃ k, wX_nextCoefficient_31 post (nI n) rd k 0 t c s m p q w := by
  have e4 : (4 : Int32) - nI n = nI (4 - n) := by
    rw [show (4 : Int32) = nI 4 from rfl]
    exact pk_sub hn
  have L2 := mt_loop (fun k i => wX_nextCoefficient_75 post (nI n) rd k (nI i) t c (mt_dg i v (mt_fl 16 p s)) (mt_nm n 16 s m) p q w) 0 4 (by decide) (fun k => br_t (mt_le 4 (by decide)) H) (by
    intro k i hi h
    refine br_f (mt_ge hi (by decide)) ?_
    rw [mt_ix5, e4, mt_cl (i := i * 5) (by omega), mt_cl (i := 4 - n) (by omega), hc, mt_dgu]
    exact ⟨mt_vin (by omega) (by decide), mt_vin (by omega) (by decide), mt_vin (by omega) (by decide), nm_e (nm_r (mt_up i) h)⟩)
  simp only [mt_dg0] at L2
  have L := mt_loop (fun k i => wX_nextCoefficient_31 post (nI n) rd k (nI i) t c (mt_fl i p s) (mt_nm n i s m) p q w) 0 16 (by decide) (fun k => br_t (mt_le 16 (by decide)) L2) (by
    intro k i hi h
    have hv : vp_in (nI i) 16 := mt_vin hi (by decide)
    have h' : wX_nextCoefficient_31 post (nI n) rd k (nI (i + 1)) t c (upd (mt_fl i p s) i (p i)) (mt_nm n (i + 1) s m) p q w := by
      rw [mt_flu rfl]
      exact h
    refine br_f (mt_ge hi (by decide)) ?_
    by_cases e : n = 4
    · refine br_t (by rw [e]; rfl) ⟨hv, hv, ?_⟩
      rw [mt_cl (i := i) (by omega), mt_flge (Nat.le_refl i), mt_nmu e]
      exact nm_e (mt_x55 hi h')
    · refine br_f (fun z => e ((nI_eq (a := n) (b := 4) (by omega) (by decide)).mp z)) ?_
      rw [mt_nmn e (k := i + 1)]
      exact mt_x55 hi h')
  have e0 : mt_nm n 0 s m = m := by
    rw [mt_nm, mt_fl0]
    split <;> rfl
  simp only [mt_fl0, e0] at L
  exact L
theorem mt_xnext {post : SX → Prop} {n : Nat} {S : Nat → Int32} (h0 : 0 < n) (hn : n ≤ 4) (hs : ∀ j, j < 16 → s j = S j) (H : ∀ s' m' p' : Nat → Int32, (∀ j, j < 16 → s' j = mt_nx t S (mt_v t S n) j) → (n = 4 → ∀ j, j < 16 → m' j = -S j) → post (rd, t, upd c (4 - n) (mt_v t S n), s', m', p', q, w)) : wpX_nextCoefficient post (rd, t, c, s, m, p, q, w) (nI n) := by
  unfold wpX_nextCoefficient
  dsimp only
  refine mt_xmul hs ?_
  intro p' hp
  unfold wpX_productTrace
  dsimp only
  refine br_f (nI_nle h0 (by omega)) ⟨nI_ne0 h0 (by omega), ?_⟩
  have e4 : (4 : Int32) - nI n = nI (4 - n) := by
    rw [show (4 : Int32) = nI 4 from rfl]
    exact pk_sub hn
  rw [e4, mt_cl (i := 4 - n) (by omega), hp 0 (by decide), hp 5 (by decide), hp 10 (by decide), hp 15 (by decide)]
  refine ⟨mt_vin (by omega) (by decide), nm_r (e' := upd c (4 - n) (mt_v t S n)) rfl ?_⟩
  refine mt_x31 h0 hn pk_us (H _ _ _ ?_ ?_)
  · intro j hj
    rw [mt_dg, mt_nx, mt_fllt hj, hp j hj]
    by_cases e : j % 5 = 0
    · rw [if_pos ⟨e, by omega⟩, if_pos e]
    · rw [if_neg (fun z => e z.1), if_neg e]
  · intro e j hj
    rw [mt_nm, if_pos e, mt_fllt hj, hs j hj]
end
/-- the steps' tables and coefficients, by the component's own rule -/
def mt_S2 (t : Nat → Int32) : Nat → Int32 := mt_nx t mt_id (mt_v t mt_id 1)
def mt_S3 (t : Nat → Int32) : Nat → Int32 := mt_nx t (mt_S2 t) (mt_v t (mt_S2 t) 2)
def mt_S4 (t : Nat → Int32) : Nat → Int32 := mt_nx t (mt_S3 t) (mt_v t (mt_S3 t) 3)
def mt_cX (t : Nat → Int32) (k : Nat) : Int32 :=
  if k = 0 then mt_v t (mt_S4 t) 4 else if k = 1 then mt_v t (mt_S3 t) 3 else if k = 2 then mt_v t (mt_S2 t) 2 else if k = 3 then mt_v t mt_id 1 else 1
section
variable {rd : Int32} {t c s m p q : Nat → Int32} {w : Nat → Int64}
theorem mt_x40 {post : SX → Prop} {n k : Nat} {S : Nat → Int32} (h0 : 0 < n) (hn : n ≤ 4) (hs : ∀ j, j < 16 → s j = S j) (H : ∀ s' m' p' : Nat → Int32, (∀ j, j < 16 → s' j = mt_nx t S (mt_v t S n) j) → (n = 4 → ∀ j, j < 16 → m' j = -S j) → wX_findCoefficients_40 post k (nI (n + 1)) rd t (upd c (4 - n) (mt_v t S n)) s' m' p' q w) : wX_findCoefficients_40 post (k + 1) (nI n) rd t c s m p q w := by
  refine br_f (nI_nlt (a := 4) hn (by decide)) (mt_xnext h0 hn hs ?_)
  intro s' m' p' h1 h2
  exact nm_r (mt_up n) (H s' m' p' h1 h2)
theorem mt_xcoef {post : SX → Prop} (H : ∀ c' s' m' p' : Nat → Int32, (∀ k, k < 5 → c' k = mt_cX t k) → (∀ j, j < 16 → m' j = -mt_S4 t j) → post (rd, t, c', s', m', p', q, w)) : wpX_findCoefficients post (rd, t, c, s, m, p, q, w) := by
  have L := mt_loop (fun n i => wX_findCoefficients_2 post rd n (nI i) t c (mt_fl i mt_id s) m p q w) 0 16 (by decide) (by
    intro n
    refine br_t (mt_le 16 (by decide)) (nm_e ⟨5, ?_⟩)
    refine mt_x40 (n := 1) (S := mt_id) (by decide) (by decide) (fun j hj => mt_fllt hj) ?_
    intro s1 m1 p1 a1 _
    refine mt_x40 (n := 2) (S := mt_S2 t) (by decide) (by decide) a1 ?_
    intro s2 m2 p2 a2 _
    refine mt_x40 (n := 3) (S := mt_S3 t) (by decide) (by decide) a2 ?_
    intro s3 m3 p3 a3 _
    refine mt_x40 (n := 4) (S := mt_S4 t) (by decide) (by decide) a3 ?_
    intro s4 m4 p4 _ a4
    refine br_t (nI_lt (a := 4) (b := 5) (by decide) (by decide)) (H _ _ _ _ ?_ (a4 rfl))
    intro k hk
    have h2 : k = 0 ∨ k = 1 ∨ k = 2 ∨ k = 3 ∨ k = 4 := by omega
    rcases h2 with e | e | e | e | e <;> subst e <;> rfl) (by
    intro n i hi h
    have hv : vp_in (nI i) 16 := mt_vin hi (by decide)
    refine br_f (mt_ge hi (by decide)) ⟨by decide, ?_⟩
    rw [mt_cl (i := i) (by omega)]
    by_cases b : i % 5 = 0
    · refine br_t ((mt_rem5z (by omega)).mpr b) ⟨hv, nm_r (mt_flu (by rw [mt_id, if_pos b])) (nm_r (mt_up i) h)⟩
    · refine br_f (fun z => b ((mt_rem5z (by omega)).mp z)) ⟨hv, nm_r (mt_flu (by rw [mt_id, if_neg b])) (nm_r (mt_up i) h)⟩)
  simp only [mt_fl0] at L
  exact L
def mt_qf (t : Nat → Int32) (j : Nat) : Int32 := mt_P t (j / 16) (j % 16)
theorem mt_qfix {t : Nat → Int32} {n j : Nat} (hj : j < 16) : mt_qf t (n * 16 + j) = mt_P t n j := by
  rw [mt_qf, show (n * 16 + j) / 16 = n from by omega, show (n * 16 + j) % 16 = j from by omega]
theorem mt_x45 {post : SX → Prop} (H : ∀ s' p' q' : Nat → Int32, (∀ n, n < 4 → ∀ j, j < 16 → q' (n * 16 + j) = mt_P t n j) → post (rd, t, c, s', m, p', q', w)) : ∀ (d n : Nat) (s p : Nat → Int32), 0 < n → n + d = 4 → (∀ j, j < 16 → s j = mt_P t (n - 1) j) → wX_findPowers_45 post (d + 1) (nI n) rd t c s m p (mt_fl (n * 16) (mt_qf t) q) w := by
  intro d
  induction d with
  | zero =>
    intro n s p h0 h hs
    have e : n = 4 := by omega
    subst e
    refine br_t (mt_le 4 (by decide)) (H _ _ _ ?_)
    intro n hn j hj
    rw [mt_fllt (by omega)]
    exact mt_qfix hj
  | succ d ih =>
    intro n s p h0 h hs
    refine br_f (mt_ge (e := 4) (by omega) (by decide)) (mt_xmul hs ?_)
    intro p' hp
    have hp2 : ∀ j, j < 16 → p' j = mt_P t n j := by
      intro j hj
      rw [hp j hj]
      obtain ⟨k, rfl⟩ : ∃ k, n = k + 1 := ⟨n - 1, by omega⟩
      rfl
    have L := mt_loop (fun k i => wX_findPowers_56 post (wX_findPowers_45 post (d + 1)) (nI n) rd k (nI i) t c (mt_fl i p' s) m p' (mt_fl (n * 16 + i) (mt_qf t) q) w) 0 16 (by decide) (by
      intro k
      refine br_t (mt_le 16 (by decide)) (nm_r (mt_up n) ?_)
      rw [show n * 16 + 16 = (n + 1) * 16 from by omega]
      refine ih (n + 1) _ _ (by omega) (by omega) ?_
      intro j hj
      rw [mt_fllt hj]
      exact hp2 j hj) (by
      intro k i hi h2
      have hv : vp_in (nI i) 16 := mt_vin hi (by decide)
      refine br_f (mt_ge hi (by decide)) ?_
      rw [mt_ix16, mt_cl (i := i) (by omega), mt_cl (i := n * 16 + i) (by omega)]
      refine ⟨hv, hv, nm_r (mt_flu rfl) ⟨hv, mt_vin (by omega) (by decide), nm_r (mt_flu ?_) (nm_r (mt_up i) h2)⟩⟩
      rw [mt_qfix hi, hp2 i hi])
    simp only [mt_fl0] at L
    exact L
theorem mt_xpow {post : SX → Prop} (H : ∀ s' p' q' : Nat → Int32, (∀ n, n < 4 → ∀ j, j < 16 → q' (n * 16 + j) = mt_P t n j) → post (rd, t, c, s', m, p', q', w)) : wpX_findPowers post (rd, t, c, s, m, p, q, w) := by
  have L := mt_loop (fun n i => wX_findPowers_2 post rd n (nI i) t c (mt_fl i mt_id s) m p (mt_fl i (mt_qf t) q) w) 0 16 (by decide) (by
    intro n
    refine br_t (mt_le 16 (by decide)) ⟨4, ?_⟩
    exact mt_x45 H 3 1 _ _ (by decide) rfl (fun j hj => mt_fllt hj)) (by
    intro n i hi h
    have hv : vp_in (nI i) 16 := mt_vin hi (by decide)
    have hq : mt_id i = mt_qf t i := by
      rw [mt_qf, show i / 16 = 0 from by omega, show i % 16 = i from by omega]
      rfl
    have F : ∀ z, z = mt_id i → wX_findPowers_24 post (wX_findPowers_2 post rd n) (nI i) z (nI i) rd t c (mt_fl i mt_id s) m p (mt_fl i (mt_qf t) q) w := by
      intro z hz
      unfold wX_findPowers_24
      rw [mt_cl (i := i) (by omega)]
      refine ⟨hv, nm_r (mt_flu hz) ⟨hv, mt_vin (by omega) (by decide), nm_r (mt_flu ?_) (nm_r (mt_up i) h)⟩⟩
      rw [mt_fllt (Nat.lt_succ_self i), hq]
    refine br_f (mt_ge hi (by decide)) ⟨by decide, ?_⟩
    by_cases b : i % 5 = 0
    · exact br_t ((mt_rem5z (by omega)).mpr b) (F 1 (by rw [mt_id, if_pos b]))
    · exact br_f (fun z => b ((mt_rem5z (by omega)).mp z)) (F 0 (by rw [mt_id, if_neg b])))
  simp only [mt_fl0] at L
  exact L
/-- what the caches hold -/
def mt_CA (t c m q : Nat → Int32) : Prop := (∀ k, k < 5 → c k = mt_cX t k) ∧ (∀ j, j < 16 → m j = -mt_S4 t j) ∧ (∀ n, n < 4 → ∀ j, j < 16 → q (n * 16 + j) = mt_P t n j)
theorem mt_xprep {post : SX → Prop} (I : ¬ rd = 0 → mt_CA t c m q) (H : ∀ (rd' : Int32) (c' s' m' p' q' : Nat → Int32), mt_CA t c' m' q' → post (rd', t, c', s', m', p', q', w)) : wpX_prepare post (rd, t, c, s, m, p, q, w) := by
  refine br_c (fun _ => ?_) (fun h => H _ _ _ _ _ _ (I h))
  refine mt_xcoef ?_
  intro c' s' m' p' h1 h2
  dsimp only
  refine mt_xpow ?_
  intro s2 p2 q2 h3
  exact H _ _ _ _ _ _ ⟨h1, h2, h3⟩
theorem mt_x16 {post : Int32 → Prop} {n : Nat} (hn : n < 1000) (F : Nat → Int32) (hF : ∀ k, F (k + 4) = -(((c 3 * F (k + 3) + c 2 * F (k + 2)) + c 1 * F (k + 1)) + c 0 * F k)) (H : post (F n)) : wpX_farNumber post (rd, t, c, s, m, p, q, w) (F 0) (F 1) (F 2) (F 3) (nI n) := by
  have L := mt_loop (fun k i => wX_farNumber_16 post (nI n) rd t c s m p q w k (F i) (F (i + 1)) (F (i + 2)) (F (i + 3)) (nI i)) 0 n (by omega) (fun k => br_t (mt_le n (by omega)) H) (by
    intro k i hi h
    exact br_f (mt_ge hi (by omega)) (nm_r (hF i).symm (nm_r (mt_up i) h)))
  exact L
/-- Horner's rule from above -/
def mt_hs (c : Nat → Int32) (x : Int32) : Nat → Int32 → Int32
  | 0, s => s
  | k + 1, s => mt_hs c x k (s * x + c k)
theorem mt_hsc {c c' : Nat → Int32} {x : Int32} : ∀ (n : Nat) (s : Int32), (∀ k, k < n → c k = c' k) → mt_hs c x n s = mt_hs c' x n s := by
  intro n
  induction n with
  | zero => intro s _; rfl
  | succ n ih =>
    intro s h
    rw [mt_hs, mt_hs, h n (by omega)]
    exact ih _ (fun k hk => h k (by omega))
theorem mt_x4 {post : Int32 → Prop} {x : Int32} : ∀ (k : Nat) (a : Int32), k ≤ 5 → post (mt_hs c x k a) → wX_evaluate_4 post x rd t c s m p q w (k + 1) a (nI k + (-1)) := by
  intro k
  induction k with
  | zero => intro a _ H; exact br_t (by decide) H
  | succ k ih =>
    intro a hk H
    rw [pk_m1]
    refine br_f (mt_nlt0 (by omega)) ⟨mt_vin (by omega) (by decide), ?_⟩
    rw [mt_cl (i := k) (by omega)]
    exact nm_e (nm_e (ih _ (by omega) H))
theorem mt_xeval {post : Int32 → Prop} {x : Int32} (H : post (mt_hs c x 5 0)) : wpX_evaluate post (rd, t, c, s, m, p, q, w) x :=
  ⟨6, mt_x4 5 0 (by decide) H⟩
/-- counting roots from -36 on -/
def mt_rx (i : Nat) : Int32 := -36 + nI i
theorem mt_rxL : ∀ i, i < 73 → ¬ (36 : Int32) < mt_rx i := by decide +kernel
theorem mt_rxE : (36 : Int32) < mt_rx 73 := by decide +kernel
theorem mt_rxU (i : Nat) : mt_rx i + 1 = mt_rx (i + 1) := by
  rw [mt_rx, mt_rx, Int32.add_assoc, nI_1]
def mt_rc (f : Int32 → Int32) : Nat → Int32
  | 0 => 0
  | i + 1 => if f (mt_rx i) = 0 then mt_rc f i + 1 else mt_rc f i
theorem mt_xroots {post : Int32 → SX → Prop} (H : post (mt_rc (fun x => mt_hs c x 5 0) 73) (rd, t, c, s, m, p, q, w)) : ∃ n, wX_roots_9 post rd t c s m p q w n 0 (-36) := by
  have L := mt_loop (fun n i => wX_roots_9 post rd t c s m p q w n (mt_rc (fun x => mt_hs c x 5 0) i) (mt_rx i)) 0 73 (by decide) (fun n => br_t mt_rxE H) (by
    intro n i hi h
    refine br_f (mt_rxL i hi) (mt_xeval ?_)
    rw [mt_rc] at h
    by_cases b : mt_hs c (mt_rx i) 5 0 = 0
    · rw [if_pos b] at h
      exact br_t b (nm_e (nm_r (mt_rxU i) h))
    · rw [if_neg b] at h
      exact br_f b (nm_r (mt_rxU i) h))
  exact L
end
end
section
/-! the polynomials of the table: printed by gen07.py -/
def mt_e1 (t : Nat → Int32) : Int32 := t 0 + t 5 + t 10 + t 15
def mt_e2 (t : Nat → Int32) : Int32 := t 0 * t 5 + t 0 * t 10 + t 0 * t 15 - t 1 * t 4 - t 2 * t 8 - t 3 * t 12 + t 5 * t 10 + t 5 * t 15 - t 6 * t 9 - t 7 * t 13 + t 10 * t 15 - t 11 * t 14
def mt_e3 (t : Nat → Int32) : Int32 := t 0 * t 5 * t 10 + t 0 * t 5 * t 15 - t 0 * t 6 * t 9 - t 0 * t 7 * t 13 + t 0 * t 10 * t 15 - t 0 * t 11 * t 14 - t 1 * t 4 * t 10 - t 1 * t 4 * t 15 + t 1 * t 6 * t 8 + t 1 * t 7 * t 12 + t 2 * t 4 * t 9 - t 2 * t 5 * t 8 - t 2 * t 8 * t 15 + t 2 * t 11 * t 12 + t 3 * t 4 * t 13 - t 3 * t 5 * t 12 + t 3 * t 8 * t 14 - t 3 * t 10 * t 12 + t 5 * t 10 * t 15 - t 5 * t 11 * t 14 - t 6 * t 9 * t 15 + t 6 * t 11 * t 13 + t 7 * t 9 * t 14 - t 7 * t 10 * t 13
def mt_e4 (t : Nat → Int32) : Int32 := t 0 * t 5 * t 10 * t 15 - t 0 * t 5 * t 11 * t 14 - t 0 * t 6 * t 9 * t 15 + t 0 * t 6 * t 11 * t 13 + t 0 * t 7 * t 9 * t 14 - t 0 * t 7 * t 10 * t 13 - t 1 * t 4 * t 10 * t 15 + t 1 * t 4 * t 11 * t 14 + t 1 * t 6 * t 8 * t 15 - t 1 * t 6 * t 11 * t 12 - t 1 * t 7 * t 8 * t 14 + t 1 * t 7 * t 10 * t 12 + t 2 * t 4 * t 9 * t 15 - t 2 * t 4 * t 11 * t 13 - t 2 * t 5 * t 8 * t 15 + t 2 * t 5 * t 11 * t 12 + t 2 * t 7 * t 8 * t 13 - t 2 * t 7 * t 9 * t 12 - t 3 * t 4 * t 9 * t 14 + t 3 * t 4 * t 10 * t 13 + t 3 * t 5 * t 8 * t 14 - t 3 * t 5 * t 10 * t 12 - t 3 * t 6 * t 8 * t 13 + t 3 * t 6 * t 9 * t 12
theorem mt_m0 (a b : Nat → Int32) : mt_mm a b 0 = a 0 * b 0 + a 1 * b 4 + a 2 * b 8 + a 3 * b 12 := by
  show 0 + a 0 * b 0 + a 1 * b 4 + a 2 * b 8 + a 3 * b 12 = _
  rw [Int32.zero_add]
theorem mt_m1 (a b : Nat → Int32) : mt_mm a b 1 = a 0 * b 1 + a 1 * b 5 + a 2 * b 9 + a 3 * b 13 := by
  show 0 + a 0 * b 1 + a 1 * b 5 + a 2 * b 9 + a 3 * b 13 = _
  rw [Int32.zero_add]
theorem mt_m2 (a b : Nat → Int32) : mt_mm a b 2 = a 0 * b 2 + a 1 * b 6 + a 2 * b 10 + a 3 * b 14 := by
  show 0 + a 0 * b 2 + a 1 * b 6 + a 2 * b 10 + a 3 * b 14 = _
  rw [Int32.zero_add]
theorem mt_m3 (a b : Nat → Int32) : mt_mm a b 3 = a 0 * b 3 + a 1 * b 7 + a 2 * b 11 + a 3 * b 15 := by
  show 0 + a 0 * b 3 + a 1 * b 7 + a 2 * b 11 + a 3 * b 15 = _
  rw [Int32.zero_add]
theorem mt_m4 (a b : Nat → Int32) : mt_mm a b 4 = a 4 * b 0 + a 5 * b 4 + a 6 * b 8 + a 7 * b 12 := by
  show 0 + a 4 * b 0 + a 5 * b 4 + a 6 * b 8 + a 7 * b 12 = _
  rw [Int32.zero_add]
theorem mt_m5 (a b : Nat → Int32) : mt_mm a b 5 = a 4 * b 1 + a 5 * b 5 + a 6 * b 9 + a 7 * b 13 := by
  show 0 + a 4 * b 1 + a 5 * b 5 + a 6 * b 9 + a 7 * b 13 = _
  rw [Int32.zero_add]
theorem mt_m6 (a b : Nat → Int32) : mt_mm a b 6 = a 4 * b 2 + a 5 * b 6 + a 6 * b 10 + a 7 * b 14 := by
  show 0 + a 4 * b 2 + a 5 * b 6 + a 6 * b 10 + a 7 * b 14 = _
  rw [Int32.zero_add]
theorem mt_m7 (a b : Nat → Int32) : mt_mm a b 7 = a 4 * b 3 + a 5 * b 7 + a 6 * b 11 + a 7 * b 15 := by
  show 0 + a 4 * b 3 + a 5 * b 7 + a 6 * b 11 + a 7 * b 15 = _
  rw [Int32.zero_add]
theorem mt_m8 (a b : Nat → Int32) : mt_mm a b 8 = a 8 * b 0 + a 9 * b 4 + a 10 * b 8 + a 11 * b 12 := by
  show 0 + a 8 * b 0 + a 9 * b 4 + a 10 * b 8 + a 11 * b 12 = _
  rw [Int32.zero_add]
theorem mt_m9 (a b : Nat → Int32) : mt_mm a b 9 = a 8 * b 1 + a 9 * b 5 + a 10 * b 9 + a 11 * b 13 := by
  show 0 + a 8 * b 1 + a 9 * b 5 + a 10 * b 9 + a 11 * b 13 = _
  rw [Int32.zero_add]
theorem mt_m10 (a b : Nat → Int32) : mt_mm a b 10 = a 8 * b 2 + a 9 * b 6 + a 10 * b 10 + a 11 * b 14 := by
  show 0 + a 8 * b 2 + a 9 * b 6 + a 10 * b 10 + a 11 * b 14 = _
  rw [Int32.zero_add]
theorem mt_m11 (a b : Nat → Int32) : mt_mm a b 11 = a 8 * b 3 + a 9 * b 7 + a 10 * b 11 + a 11 * b 15 := by
  show 0 + a 8 * b 3 + a 9 * b 7 + a 10 * b 11 + a 11 * b 15 = _
  rw [Int32.zero_add]
theorem mt_m12 (a b : Nat → Int32) : mt_mm a b 12 = a 12 * b 0 + a 13 * b 4 + a 14 * b 8 + a 15 * b 12 := by
  show 0 + a 12 * b 0 + a 13 * b 4 + a 14 * b 8 + a 15 * b 12 = _
  rw [Int32.zero_add]
theorem mt_m13 (a b : Nat → Int32) : mt_mm a b 13 = a 12 * b 1 + a 13 * b 5 + a 14 * b 9 + a 15 * b 13 := by
  show 0 + a 12 * b 1 + a 13 * b 5 + a 14 * b 9 + a 15 * b 13 = _
  rw [Int32.zero_add]
theorem mt_m14 (a b : Nat → Int32) : mt_mm a b 14 = a 12 * b 2 + a 13 * b 6 + a 14 * b 10 + a 15 * b 14 := by
  show 0 + a 12 * b 2 + a 13 * b 6 + a 14 * b 10 + a 15 * b 14 = _
  rw [Int32.zero_add]
theorem mt_m15 (a b : Nat → Int32) : mt_mm a b 15 = a 12 * b 3 + a 13 * b 7 + a 14 * b 11 + a 15 * b 15 := by
  show 0 + a 12 * b 3 + a 13 * b 7 + a 14 * b 11 + a 15 * b 15 = _
  rw [Int32.zero_add]
theorem mt_mmid (t : Nat → Int32) {j : Nat} (hj : j < 16) : mt_mm t mt_id j = t j := by
  have h2 : j = 0 ∨ j = 1 ∨ j = 2 ∨ j = 3 ∨ j = 4 ∨ j = 5 ∨ j = 6 ∨ j = 7 ∨ j = 8 ∨ j = 9 ∨ j = 10 ∨ j = 11 ∨ j = 12 ∨ j = 13 ∨ j = 14 ∨ j = 15 := by omega
  rcases h2 with e | e | e | e | e | e | e | e | e | e | e | e | e | e | e | e <;> subst e
  · rw [mt_m0]; show t 0 * 1 + t 1 * 0 + t 2 * 0 + t 3 * 0 = t 0; grind
  · rw [mt_m1]; show t 0 * 0 + t 1 * 1 + t 2 * 0 + t 3 * 0 = t 1; grind
  · rw [mt_m2]; show t 0 * 0 + t 1 * 0 + t 2 * 1 + t 3 * 0 = t 2; grind
  · rw [mt_m3]; show t 0 * 0 + t 1 * 0 + t 2 * 0 + t 3 * 1 = t 3; grind
  · rw [mt_m4]; show t 4 * 1 + t 5 * 0 + t 6 * 0 + t 7 * 0 = t 4; grind
  · rw [mt_m5]; show t 4 * 0 + t 5 * 1 + t 6 * 0 + t 7 * 0 = t 5; grind
  · rw [mt_m6]; show t 4 * 0 + t 5 * 0 + t 6 * 1 + t 7 * 0 = t 6; grind
  · rw [mt_m7]; show t 4 * 0 + t 5 * 0 + t 6 * 0 + t 7 * 1 = t 7; grind
  · rw [mt_m8]; show t 8 * 1 + t 9 * 0 + t 10 * 0 + t 11 * 0 = t 8; grind
  · rw [mt_m9]; show t 8 * 0 + t 9 * 1 + t 10 * 0 + t 11 * 0 = t 9; grind
  · rw [mt_m10]; show t 8 * 0 + t 9 * 0 + t 10 * 1 + t 11 * 0 = t 10; grind
  · rw [mt_m11]; show t 8 * 0 + t 9 * 0 + t 10 * 0 + t 11 * 1 = t 11; grind
  · rw [mt_m12]; show t 12 * 1 + t 13 * 0 + t 14 * 0 + t 15 * 0 = t 12; grind
  · rw [mt_m13]; show t 12 * 0 + t 13 * 1 + t 14 * 0 + t 15 * 0 = t 13; grind
  · rw [mt_m14]; show t 12 * 0 + t 13 * 0 + t 14 * 1 + t 15 * 0 = t 14; grind
  · rw [mt_m15]; show t 12 * 0 + t 13 * 0 + t 14 * 0 + t 15 * 1 = t 15; grind
theorem mt_ba {x y : Int32} {b c : Int} (d : Int) (hx : mt_Bd b x) (hy : mt_Bd c y) (hd : b + c = d) (h : d < 2147483648) : mt_Bd d (x + y) := by rw [← hd]; rw [← hd] at h; exact mt_Bdadd hx hy h
theorem mt_bs {x y : Int32} {b c : Int} (d : Int) (hx : mt_Bd b x) (hy : mt_Bd c y) (hd : b + c = d) (h : d < 2147483648) : mt_Bd d (x - y) := by rw [← hd]; rw [← hd] at h; exact mt_Bdsub hx hy h
theorem mt_bl {x y : Int32} {b c : Int} (d : Int) (hx : mt_Bd b x) (hy : mt_Bd c y) (hd : b * c = d) (h : d < 2147483648) : mt_Bd d (x * y) := by rw [← hd]; rw [← hd] at h; exact mt_Bdmul hx hy h
theorem mt_e1B {t : Nat → Int32} (h : ∀ j, mt_Bd 9 (t j)) : mt_Bd 36 (mt_e1 t) := (mt_ba 36 (mt_ba 27 (mt_ba 18 (h 0) (h 5) (by decide) (by decide)) (h 10) (by decide) (by decide)) (h 15) (by decide) (by decide))
theorem mt_e2B {t : Nat → Int32} (h : ∀ j, mt_Bd 9 (t j)) : mt_Bd 972 (mt_e2 t) := (mt_bs 972 (mt_ba 891 (mt_bs 810 (mt_bs 729 (mt_ba 648 (mt_ba 567 (mt_bs 486 (mt_bs 405 (mt_bs 324 (mt_ba 243 (mt_ba 162 (mt_bl 81 (h 0) (h 5) (by decide) (by decide)) (mt_bl 81 (h 0) (h 10) (by decide) (by decide)) (by decide) (by decide)) (mt_bl 81 (h 0) (h 15) (by decide) (by decide)) (by decide) (by decide)) (mt_bl 81 (h 1) (h 4) (by decide) (by decide)) (by decide) (by decide)) (mt_bl 81 (h 2) (h 8) (by decide) (by decide)) (by decide) (by decide)) (mt_bl 81 (h 3) (h 12) (by decide) (by decide)) (by decide) (by decide)) (mt_bl 81 (h 5) (h 10) (by decide) (by decide)) (by decide) (by decide)) (mt_bl 81 (h 5) (h 15) (by decide) (by decide)) (by decide) (by decide)) (mt_bl 81 (h 6) (h 9) (by decide) (by decide)) (by decide) (by decide)) (mt_bl 81 (h 7) (h 13) (by decide) (by decide)) (by decide) (by decide)) (mt_bl 81 (h 10) (h 15) (by decide) (by decide)) (by decide) (by decide)) (mt_bl 81 (h 11) (h 14) (by decide) (by decide)) (by decide) (by decide))
theorem mt_e3B {t : Nat → Int32} (h : ∀ j, mt_Bd 9 (t j)) : mt_Bd 17496 (mt_e3 t) := (mt_bs 17496 (mt_ba 16767 (mt_ba 16038 (mt_bs 15309 (mt_bs 14580 (mt_ba 13851 (mt_bs 13122 (mt_ba 12393 (mt_bs 11664 (mt_ba 10935 (mt_ba 10206 (mt_bs 9477 (mt_bs 8748 (mt_ba 8019 (mt_ba 7290 (mt_ba 6561 (mt_bs 5832 (mt_bs 5103 (mt_bs 4374 (mt_ba 3645 (mt_bs 2916 (mt_bs 2187 (mt_ba 1458 (mt_bl 729 (mt_bl 81 (h 0) (h 5) (by decide) (by decide)) (h 10) (by decide) (by decide)) (mt_bl 729 (mt_bl 81 (h 0) (h 5) (by decide) (by decide)) (h 15) (by decide) (by decide)) (by decide) (by decide)) (mt_bl 729 (mt_bl 81 (h 0) (h 6) (by decide) (by decide)) (h 9) (by decide) (by decide)) (by decide) (by decide)) (mt_bl 729 (mt_bl 81 (h 0) (h 7) (by decide) (by decide)) (h 13) (by decide) (by decide)) (by decide) (by decide)) (mt_bl 729 (mt_bl 81 (h 0) (h 10) (by decide) (by decide)) (h 15) (by decide) (by decide)) (by decide) (by decide)) (mt_bl 729 (mt_bl 81 (h 0) (h 11) (by decide) (by decide)) (h 14) (by decide) (by decide)) (by decide) (by decide)) (mt_bl 729 (mt_bl 81 (h 1) (h 4) (by decide) (by decide)) (h 10) (by decide) (by decide)) (by decide) (by decide)) (mt_bl 729 (mt_bl 81 (h 1) (h 4) (by decide) (by decide)) (h 15) (by decide) (by decide)) (by decide) (by decide)) (mt_bl 729 (mt_bl 81 (h 1) (h 6) (by decide) (by decide)) (h 8) (by decide) (by decide)) (by decide) (by decide)) (mt_bl 729 (mt_bl 81 (h 1) (h 7) (by decide) (by decide)) (h 12) (by decide) (by decide)) (by decide) (by decide)) (mt_bl 729 (mt_bl 81 (h 2) (h 4) (by decide) (by decide)) (h 9) (by decide) (by decide)) (by decide) (by decide)) (mt_bl 729 (mt_bl 81 (h 2) (h 5) (by decide) (by decide)) (h 8) (by decide) (by decide)) (by decide) (by decide)) (mt_bl 729 (mt_bl 81 (h 2) (h 8) (by decide) (by decide)) (h 15) (by decide) (by decide)) (by decide) (by decide)) (mt_bl 729 (mt_bl 81 (h 2) (h 11) (by decide) (by decide)) (h 12) (by decide) (by decide)) (by decide) (by decide)) (mt_bl 729 (mt_bl 81 (h 3) (h 4) (by decide) (by decide)) (h 13) (by decide) (by decide)) (by decide) (by decide)) (mt_bl 729 (mt_bl 81 (h 3) (h 5) (by decide) (by decide)) (h 12) (by decide) (by decide)) (by decide) (by decide)) (mt_bl 729 (mt_bl 81 (h 3) (h 8) (by decide) (by decide)) (h 14) (by decide) (by decide)) (by decide) (by decide)) (mt_bl 729 (mt_bl 81 (h 3) (h 10) (by decide) (by decide)) (h 12) (by decide) (by decide)) (by decide) (by decide)) (mt_bl 729 (mt_bl 81 (h 5) (h 10) (by decide) (by decide)) (h 15) (by decide) (by decide)) (by decide) (by decide)) (mt_bl 729 (mt_bl 81 (h 5) (h 11) (by decide) (by decide)) (h 14) (by decide) (by decide)) (by decide) (by decide)) (mt_bl 729 (mt_bl 81 (h 6) (h 9) (by decide) (by decide)) (h 15) (by decide) (by decide)) (by decide) (by decide)) (mt_bl 729 (mt_bl 81 (h 6) (h 11) (by decide) (by decide)) (h 13) (by decide) (by decide)) (by decide) (by decide)) (mt_bl 729 (mt_bl 81 (h 7) (h 9) (by decide) (by decide)) (h 14) (by decide) (by decide)) (by decide) (by decide)) (mt_bl 729 (mt_bl 81 (h 7) (h 10) (by decide) (by decide)) (h 13) (by decide) (by decide)) (by decide) (by decide))
theorem mt_e4B {t : Nat → Int32} (h : ∀ j, mt_Bd 9 (t j)) : mt_Bd 157464 (mt_e4 t) := (mt_ba 157464 (mt_bs 150903 (mt_bs 144342 (mt_ba 137781 (mt_ba 131220 (mt_bs 124659 (mt_bs 118098 (mt_ba 111537 (mt_ba 104976 (mt_bs 98415 (mt_bs 91854 (mt_ba 85293 (mt_ba 78732 (mt_bs 72171 (mt_bs 65610 (mt_ba 59049 (mt_ba 52488 (mt_bs 45927 (mt_bs 39366 (mt_ba 32805 (mt_ba 26244 (mt_bs 19683 (mt_bs 13122 (mt_bl 6561 (mt_bl 729 (mt_bl 81 (h 0) (h 5) (by decide) (by decide)) (h 10) (by decide) (by decide)) (h 15) (by decide) (by decide)) (mt_bl 6561 (mt_bl 729 (mt_bl 81 (h 0) (h 5) (by decide) (by decide)) (h 11) (by decide) (by decide)) (h 14) (by decide) (by decide)) (by decide) (by decide)) (mt_bl 6561 (mt_bl 729 (mt_bl 81 (h 0) (h 6) (by decide) (by decide)) (h 9) (by decide) (by decide)) (h 15) (by decide) (by decide)) (by decide) (by decide)) (mt_bl 6561 (mt_bl 729 (mt_bl 81 (h 0) (h 6) (by decide) (by decide)) (h 11) (by decide) (by decide)) (h 13) (by decide) (by decide)) (by decide) (by decide)) (mt_bl 6561 (mt_bl 729 (mt_bl 81 (h 0) (h 7) (by decide) (by decide)) (h 9) (by decide) (by decide)) (h 14) (by decide) (by decide)) (by decide) (by decide)) (mt_bl 6561 (mt_bl 729 (mt_bl 81 (h 0) (h 7) (by decide) (by decide)) (h 10) (by decide) (by decide)) (h 13) (by decide) (by decide)) (by decide) (by decide)) (mt_bl 6561 (mt_bl 729 (mt_bl 81 (h 1) (h 4) (by decide) (by decide)) (h 10) (by decide) (by decide)) (h 15) (by decide) (by decide)) (by decide) (by decide)) (mt_bl 6561 (mt_bl 729 (mt_bl 81 (h 1) (h 4) (by decide) (by decide)) (h 11) (by decide) (by decide)) (h 14) (by decide) (by decide)) (by decide) (by decide)) (mt_bl 6561 (mt_bl 729 (mt_bl 81 (h 1) (h 6) (by decide) (by decide)) (h 8) (by decide) (by decide)) (h 15) (by decide) (by decide)) (by decide) (by decide)) (mt_bl 6561 (mt_bl 729 (mt_bl 81 (h 1) (h 6) (by decide) (by decide)) (h 11) (by decide) (by decide)) (h 12) (by decide) (by decide)) (by decide) (by decide)) (mt_bl 6561 (mt_bl 729 (mt_bl 81 (h 1) (h 7) (by decide) (by decide)) (h 8) (by decide) (by decide)) (h 14) (by decide) (by decide)) (by decide) (by decide)) (mt_bl 6561 (mt_bl 729 (mt_bl 81 (h 1) (h 7) (by decide) (by decide)) (h 10) (by decide) (by decide)) (h 12) (by decide) (by decide)) (by decide) (by decide)) (mt_bl 6561 (mt_bl 729 (mt_bl 81 (h 2) (h 4) (by decide) (by decide)) (h 9) (by decide) (by decide)) (h 15) (by decide) (by decide)) (by decide) (by decide)) (mt_bl 6561 (mt_bl 729 (mt_bl 81 (h 2) (h 4) (by decide) (by decide)) (h 11) (by decide) (by decide)) (h 13) (by decide) (by decide)) (by decide) (by decide)) (mt_bl 6561 (mt_bl 729 (mt_bl 81 (h 2) (h 5) (by decide) (by decide)) (h 8) (by decide) (by decide)) (h 15) (by decide) (by decide)) (by decide) (by decide)) (mt_bl 6561 (mt_bl 729 (mt_bl 81 (h 2) (h 5) (by decide) (by decide)) (h 11) (by decide) (by decide)) (h 12) (by decide) (by decide)) (by decide) (by decide)) (mt_bl 6561 (mt_bl 729 (mt_bl 81 (h 2) (h 7) (by decide) (by decide)) (h 8) (by decide) (by decide)) (h 13) (by decide) (by decide)) (by decide) (by decide)) (mt_bl 6561 (mt_bl 729 (mt_bl 81 (h 2) (h 7) (by decide) (by decide)) (h 9) (by decide) (by decide)) (h 12) (by decide) (by decide)) (by decide) (by decide)) (mt_bl 6561 (mt_bl 729 (mt_bl 81 (h 3) (h 4) (by decide) (by decide)) (h 9) (by decide) (by decide)) (h 14) (by decide) (by decide)) (by decide) (by decide)) (mt_bl 6561 (mt_bl 729 (mt_bl 81 (h 3) (h 4) (by decide) (by decide)) (h 10) (by decide) (by decide)) (h 13) (by decide) (by decide)) (by decide) (by decide)) (mt_bl 6561 (mt_bl 729 (mt_bl 81 (h 3) (h 5) (by decide) (by decide)) (h 8) (by decide) (by decide)) (h 14) (by decide) (by decide)) (by decide) (by decide)) (mt_bl 6561 (mt_bl 729 (mt_bl 81 (h 3) (h 5) (by decide) (by decide)) (h 10) (by decide) (by decide)) (h 12) (by decide) (by decide)) (by decide) (by decide)) (mt_bl 6561 (mt_bl 729 (mt_bl 81 (h 3) (h 6) (by decide) (by decide)) (h 8) (by decide) (by decide)) (h 13) (by decide) (by decide)) (by decide) (by decide)) (mt_bl 6561 (mt_bl 729 (mt_bl 81 (h 3) (h 6) (by decide) (by decide)) (h 9) (by decide) (by decide)) (h 12) (by decide) (by decide)) (by decide) (by decide))
theorem mt_trE1 {t : Nat → Int32} (h : ∀ j, mt_Bd 9 (t j)) : -(mt_tr (mt_mm t mt_id)) = nI 1 * (-mt_e1 t) := by
  unfold mt_tr
  rw [mt_mmid t (by decide), mt_mmid t (by decide), mt_mmid t (by decide), mt_mmid t (by decide), show nI 1 = 1 from rfl, mt_e1]
  grind
theorem mt_v1 {t : Nat → Int32} (h : ∀ j, mt_Bd 9 (t j)) : mt_v t mt_id 1 = -mt_e1 t :=
  mt_div (c := 1) (n := nI 1) ⟨by decide, by decide⟩ (by decide) (mt_Bdneg (mt_e1B h) (by decide)) (by decide) (mt_trE1 h)
theorem mt_S2_0 {t : Nat → Int32} (h : ∀ j, mt_Bd 9 (t j)) : mt_S2 t 0 = -(t 5) - t 10 - t 15 := by
  have k : mt_S2 t 0 = mt_mm t mt_id 0 + mt_v t mt_id 1 := rfl
  rw [k, mt_v1 h, mt_e1]
  rw [mt_mmid t (by decide)]
  grind
theorem mt_S2_1 {t : Nat → Int32} (h : ∀ j, mt_Bd 9 (t j)) : mt_S2 t 1 = t 1 := by
  have k : mt_S2 t 1 = mt_mm t mt_id 1 := rfl
  rw [k]
  rw [mt_mmid t (by decide)]
theorem mt_S2_2 {t : Nat → Int32} (h : ∀ j, mt_Bd 9 (t j)) : mt_S2 t 2 = t 2 := by
  have k : mt_S2 t 2 = mt_mm t mt_id 2 := rfl
  rw [k]
  rw [mt_mmid t (by decide)]
theorem mt_S2_3 {t : Nat → Int32} (h : ∀ j, mt_Bd 9 (t j)) : mt_S2 t 3 = t 3 := by
  have k : mt_S2 t 3 = mt_mm t mt_id 3 := rfl
  rw [k]
  rw [mt_mmid t (by decide)]
theorem mt_S2_4 {t : Nat → Int32} (h : ∀ j, mt_Bd 9 (t j)) : mt_S2 t 4 = t 4 := by
  have k : mt_S2 t 4 = mt_mm t mt_id 4 := rfl
  rw [k]
  rw [mt_mmid t (by decide)]
theorem mt_S2_5 {t : Nat → Int32} (h : ∀ j, mt_Bd 9 (t j)) : mt_S2 t 5 = -(t 0) - t 10 - t 15 := by
  have k : mt_S2 t 5 = mt_mm t mt_id 5 + mt_v t mt_id 1 := rfl
  rw [k, mt_v1 h, mt_e1]
  rw [mt_mmid t (by decide)]
  grind
theorem mt_S2_6 {t : Nat → Int32} (h : ∀ j, mt_Bd 9 (t j)) : mt_S2 t 6 = t 6 := by
  have k : mt_S2 t 6 = mt_mm t mt_id 6 := rfl
  rw [k]
  rw [mt_mmid t (by decide)]
theorem mt_S2_7 {t : Nat → Int32} (h : ∀ j, mt_Bd 9 (t j)) : mt_S2 t 7 = t 7 := by
  have k : mt_S2 t 7 = mt_mm t mt_id 7 := rfl
  rw [k]
  rw [mt_mmid t (by decide)]
theorem mt_S2_8 {t : Nat → Int32} (h : ∀ j, mt_Bd 9 (t j)) : mt_S2 t 8 = t 8 := by
  have k : mt_S2 t 8 = mt_mm t mt_id 8 := rfl
  rw [k]
  rw [mt_mmid t (by decide)]
theorem mt_S2_9 {t : Nat → Int32} (h : ∀ j, mt_Bd 9 (t j)) : mt_S2 t 9 = t 9 := by
  have k : mt_S2 t 9 = mt_mm t mt_id 9 := rfl
  rw [k]
  rw [mt_mmid t (by decide)]
theorem mt_S2_10 {t : Nat → Int32} (h : ∀ j, mt_Bd 9 (t j)) : mt_S2 t 10 = -(t 0) - t 5 - t 15 := by
  have k : mt_S2 t 10 = mt_mm t mt_id 10 + mt_v t mt_id 1 := rfl
  rw [k, mt_v1 h, mt_e1]
  rw [mt_mmid t (by decide)]
  grind
theorem mt_S2_11 {t : Nat → Int32} (h : ∀ j, mt_Bd 9 (t j)) : mt_S2 t 11 = t 11 := by
  have k : mt_S2 t 11 = mt_mm t mt_id 11 := rfl
  rw [k]
  rw [mt_mmid t (by decide)]
theorem mt_S2_12 {t : Nat → Int32} (h : ∀ j, mt_Bd 9 (t j)) : mt_S2 t 12 = t 12 := by
  have k : mt_S2 t 12 = mt_mm t mt_id 12 := rfl
  rw [k]
  rw [mt_mmid t (by decide)]
theorem mt_S2_13 {t : Nat → Int32} (h : ∀ j, mt_Bd 9 (t j)) : mt_S2 t 13 = t 13 := by
  have k : mt_S2 t 13 = mt_mm t mt_id 13 := rfl
  rw [k]
  rw [mt_mmid t (by decide)]
theorem mt_S2_14 {t : Nat → Int32} (h : ∀ j, mt_Bd 9 (t j)) : mt_S2 t 14 = t 14 := by
  have k : mt_S2 t 14 = mt_mm t mt_id 14 := rfl
  rw [k]
  rw [mt_mmid t (by decide)]
theorem mt_S2_15 {t : Nat → Int32} (h : ∀ j, mt_Bd 9 (t j)) : mt_S2 t 15 = -(t 0) - t 5 - t 10 := by
  have k : mt_S2 t 15 = mt_mm t mt_id 15 + mt_v t mt_id 1 := rfl
  rw [k, mt_v1 h, mt_e1]
  rw [mt_mmid t (by decide)]
  grind
theorem mt_trE2 {t : Nat → Int32} (h : ∀ j, mt_Bd 9 (t j)) : -(mt_tr (mt_mm t (mt_S2 t))) = nI 2 * (mt_e2 t) := by
  unfold mt_tr
  rw [mt_m0, mt_m5, mt_m10, mt_m15, mt_S2_0 h, mt_S2_1 h, mt_S2_2 h, mt_S2_3 h, mt_S2_4 h, mt_S2_5 h, mt_S2_6 h, mt_S2_7 h, mt_S2_8 h, mt_S2_9 h, mt_S2_10 h, mt_S2_11 h, mt_S2_12 h, mt_S2_13 h, mt_S2_14 h, mt_S2_15 h, show nI 2 = 2 from rfl, mt_e2]
  grind
theorem mt_v2 {t : Nat → Int32} (h : ∀ j, mt_Bd 9 (t j)) : mt_v t (mt_S2 t) 2 = mt_e2 t :=
  mt_div (c := 2) (n := nI 2) ⟨by decide, by decide⟩ (by decide) (mt_e2B h) (by decide) (mt_trE2 h)
theorem mt_S3_0 {t : Nat → Int32} (h : ∀ j, mt_Bd 9 (t j)) : mt_S3 t 0 = t 5 * t 10 + t 5 * t 15 - t 6 * t 9 - t 7 * t 13 + t 10 * t 15 - t 11 * t 14 := by
  have k : mt_S3 t 0 = mt_mm t (mt_S2 t) 0 + mt_v t (mt_S2 t) 2 := rfl
  rw [k, mt_v2 h, mt_e2]
  rw [mt_m0, mt_S2_0 h, mt_S2_4 h, mt_S2_8 h, mt_S2_12 h]
  grind
theorem mt_S3_1 {t : Nat → Int32} (h : ∀ j, mt_Bd 9 (t j)) : mt_S3 t 1 = -(t 1 * t 10) - t 1 * t 15 + t 2 * t 9 + t 3 * t 13 := by
  have k : mt_S3 t 1 = mt_mm t (mt_S2 t) 1 := rfl
  rw [k]
  rw [mt_m1, mt_S2_1 h, mt_S2_5 h, mt_S2_9 h, mt_S2_13 h]
  grind
theorem mt_S3_2 {t : Nat → Int32} (h : ∀ j, mt_Bd 9 (t j)) : mt_S3 t 2 = t 1 * t 6 - t 2 * t 5 - t 2 * t 15 + t 3 * t 14 := by
  have k : mt_S3 t 2 = mt_mm t (mt_S2 t) 2 := rfl
  rw [k]
  rw [mt_m2, mt_S2_2 h, mt_S2_6 h, mt_S2_10 h, mt_S2_14 h]
  grind
theorem mt_S3_3 {t : Nat → Int32} (h : ∀ j, mt_Bd 9 (t j)) : mt_S3 t 3 = t 1 * t 7 + t 2 * t 11 - t 3 * t 5 - t 3 * t 10 := by
  have k : mt_S3 t 3 = mt_mm t (mt_S2 t) 3 := rfl
  rw [k]
  rw [mt_m3, mt_S2_3 h, mt_S2_7 h, mt_S2_11 h, mt_S2_15 h]
  grind
theorem mt_S3_4 {t : Nat → Int32} (h : ∀ j, mt_Bd 9 (t j)) : mt_S3 t 4 = -(t 4 * t 10) - t 4 * t 15 + t 6 * t 8 + t 7 * t 12 := by
  have k : mt_S3 t 4 = mt_mm t (mt_S2 t) 4 := rfl
  rw [k]
  rw [mt_m4, mt_S2_0 h, mt_S2_4 h, mt_S2_8 h, mt_S2_12 h]
  grind
theorem mt_S3_5 {t : Nat → Int32} (h : ∀ j, mt_Bd 9 (t j)) : mt_S3 t 5 = t 0 * t 10 + t 0 * t 15 - t 2 * t 8 - t 3 * t 12 + t 10 * t 15 - t 11 * t 14 := by
  have k : mt_S3 t 5 = mt_mm t (mt_S2 t) 5 + mt_v t (mt_S2 t) 2 := rfl
  rw [k, mt_v2 h, mt_e2]
  rw [mt_m5, mt_S2_1 h, mt_S2_5 h, mt_S2_9 h, mt_S2_13 h]
  grind
theorem mt_S3_6 {t : Nat → Int32} (h : ∀ j, mt_Bd 9 (t j)) : mt_S3 t 6 = -(t 0 * t 6) + t 2 * t 4 - t 6 * t 15 + t 7 * t 14 := by
  have k : mt_S3 t 6 = mt_mm t (mt_S2 t) 6 := rfl
  rw [k]
  rw [mt_m6, mt_S2_2 h, mt_S2_6 h, mt_S2_10 h, mt_S2_14 h]
  grind
theorem mt_S3_7 {t : Nat → Int32} (h : ∀ j, mt_Bd 9 (t j)) : mt_S3 t 7 = -(t 0 * t 7) + t 3 * t 4 + t 6 * t 11 - t 7 * t 10 := by
  have k : mt_S3 t 7 = mt_mm t (mt_S2 t) 7 := rfl
  rw [k]
  rw [mt_m7, mt_S2_3 h, mt_S2_7 h, mt_S2_11 h, mt_S2_15 h]
  grind
theorem mt_S3_8 {t : Nat → Int32} (h : ∀ j, mt_Bd 9 (t j)) : mt_S3 t 8 = t 4 * t 9 - t 5 * t 8 - t 8 * t 15 + t 11 * t 12 := by
  have k : mt_S3 t 8 = mt_mm t (mt_S2 t) 8 := rfl
  rw [k]
  rw [mt_m8, mt_S2_0 h, mt_S2_4 h, mt_S2_8 h, mt_S2_12 h]
  grind
theorem mt_S3_9 {t : Nat → Int32} (h : ∀ j, mt_Bd 9 (t j)) : mt_S3 t 9 = -(t 0 * t 9) + t 1 * t 8 - t 9 * t 15 + t 11 * t 13 := by
  have k : mt_S3 t 9 = mt_mm t (mt_S2 t) 9 := rfl
  rw [k]
  rw [mt_m9, mt_S2_1 h, mt_S2_5 h, mt_S2_9 h, mt_S2_13 h]
  grind
theorem mt_S3_10 {t : Nat → Int32} (h : ∀ j, mt_Bd 9 (t j)) : mt_S3 t 10 = t 0 * t 5 + t 0 * t 15 - t 1 * t 4 - t 3 * t 12 + t 5 * t 15 - t 7 * t 13 := by
  have k : mt_S3 t 10 = mt_mm t (mt_S2 t) 10 + mt_v t (mt_S2 t) 2 := rfl
  rw [k, mt_v2 h, mt_e2]
  rw [mt_m10, mt_S2_2 h, mt_S2_6 h, mt_S2_10 h, mt_S2_14 h]
  grind
theorem mt_S3_11 {t : Nat → Int32} (h : ∀ j, mt_Bd 9 (t j)) : mt_S3 t 11 = -(t 0 * t 11) + t 3 * t 8 - t 5 * t 11 + t 7 * t 9 := by
  have k : mt_S3 t 11 = mt_mm t (mt_S2 t) 11 := rfl
  rw [k]
  rw [mt_m11, mt_S2_3 h, mt_S2_7 h, mt_S2_11 h, mt_S2_15 h]
  grind
theorem mt_S3_12 {t : Nat → Int32} (h : ∀ j, mt_Bd 9 (t j)) : mt_S3 t 12 = t 4 * t 13 - t 5 * t 12 + t 8 * t 14 - t 10 * t 12 := by
  have k : mt_S3 t 12 = mt_mm t (mt_S2 t) 12 := rfl
  rw [k]
  rw [mt_m12, mt_S2_0 h, mt_S2_4 h, mt_S2_8 h, mt_S2_12 h]
  grind
theorem mt_S3_13 {t : Nat → Int32} (h : ∀ j, mt_Bd 9 (t j)) : mt_S3 t 13 = -(t 0 * t 13) + t 1 * t 12 + t 9 * t 14 - t 10 * t 13 := by
  have k : mt_S3 t 13 = mt_mm t (mt_S2 t) 13 := rfl
  rw [k]
  rw [mt_m13, mt_S2_1 h, mt_S2_5 h, mt_S2_9 h, mt_S2_13 h]
  grind
theorem mt_S3_14 {t : Nat → Int32} (h : ∀ j, mt_Bd 9 (t j)) : mt_S3 t 14 = -(t 0 * t 14) + t 2 * t 12 - t 5 * t 14 + t 6 * t 13 := by
  have k : mt_S3 t 14 = mt_mm t (mt_S2 t) 14 := rfl
  rw [k]
  rw [mt_m14, mt_S2_2 h, mt_S2_6 h, mt_S2_10 h, mt_S2_14 h]
  grind
theorem mt_S3_15 {t : Nat → Int32} (h : ∀ j, mt_Bd 9 (t j)) : mt_S3 t 15 = t 0 * t 5 + t 0 * t 10 - t 1 * t 4 - t 2 * t 8 + t 5 * t 10 - t 6 * t 9 := by
  have k : mt_S3 t 15 = mt_mm t (mt_S2 t) 15 + mt_v t (mt_S2 t) 2 := rfl
  rw [k, mt_v2 h, mt_e2]
  rw [mt_m15, mt_S2_3 h, mt_S2_7 h, mt_S2_11 h, mt_S2_15 h]
  grind
theorem mt_trE3 {t : Nat → Int32} (h : ∀ j, mt_Bd 9 (t j)) : -(mt_tr (mt_mm t (mt_S3 t))) = nI 3 * (-mt_e3 t) := by
  unfold mt_tr
  rw [mt_m0, mt_m5, mt_m10, mt_m15, mt_S3_0 h, mt_S3_1 h, mt_S3_2 h, mt_S3_3 h, mt_S3_4 h, mt_S3_5 h, mt_S3_6 h, mt_S3_7 h, mt_S3_8 h, mt_S3_9 h, mt_S3_10 h, mt_S3_11 h, mt_S3_12 h, mt_S3_13 h, mt_S3_14 h, mt_S3_15 h, show nI 3 = 3 from rfl, mt_e3]
  grind
theorem mt_v3 {t : Nat → Int32} (h : ∀ j, mt_Bd 9 (t j)) : mt_v t (mt_S3 t) 3 = -mt_e3 t :=
  mt_div (c := 3) (n := nI 3) ⟨by decide, by decide⟩ (by decide) (mt_Bdneg (mt_e3B h) (by decide)) (by decide) (mt_trE3 h)
theorem mt_S4_0 {t : Nat → Int32} (h : ∀ j, mt_Bd 9 (t j)) : mt_S4 t 0 = -(t 5 * t 10 * t 15) + t 5 * t 11 * t 14 + t 6 * t 9 * t 15 - t 6 * t 11 * t 13 - t 7 * t 9 * t 14 + t 7 * t 10 * t 13 := by
  have k : mt_S4 t 0 = mt_mm t (mt_S3 t) 0 + mt_v t (mt_S3 t) 3 := rfl
  rw [k, mt_v3 h, mt_e3]
  rw [mt_m0, mt_S3_0 h, mt_S3_4 h, mt_S3_8 h, mt_S3_12 h]
  grind
theorem mt_S4_1 {t : Nat → Int32} (h : ∀ j, mt_Bd 9 (t j)) : mt_S4 t 1 = t 1 * t 10 * t 15 - t 1 * t 11 * t 14 - t 2 * t 9 * t 15 + t 2 * t 11 * t 13 + t 3 * t 9 * t 14 - t 3 * t 10 * t 13 := by
  have k : mt_S4 t 1 = mt_mm t (mt_S3 t) 1 := rfl
  rw [k]
  rw [mt_m1, mt_S3_1 h, mt_S3_5 h, mt_S3_9 h, mt_S3_13 h]
  grind
theorem mt_S4_2 {t : Nat → Int32} (h : ∀ j, mt_Bd 9 (t j)) : mt_S4 t 2 = -(t 1 * t 6 * t 15) + t 1 * t 7 * t 14 + t 2 * t 5 * t 15 - t 2 * t 7 * t 13 - t 3 * t 5 * t 14 + t 3 * t 6 * t 13 := by
  have k : mt_S4 t 2 = mt_mm t (mt_S3 t) 2 := rfl
  rw [k]
  rw [mt_m2, mt_S3_2 h, mt_S3_6 h, mt_S3_10 h, mt_S3_14 h]
  grind
theorem mt_S4_3 {t : Nat → Int32} (h : ∀ j, mt_Bd 9 (t j)) : mt_S4 t 3 = t 1 * t 6 * t 11 - t 1 * t 7 * t 10 - t 2 * t 5 * t 11 + t 2 * t 7 * t 9 + t 3 * t 5 * t 10 - t 3 * t 6 * t 9 := by
  have k : mt_S4 t 3 = mt_mm t (mt_S3 t) 3 := rfl
  rw [k]
  rw [mt_m3, mt_S3_3 h, mt_S3_7 h, mt_S3_11 h, mt_S3_15 h]
  grind
theorem mt_S4_4 {t : Nat → Int32} (h : ∀ j, mt_Bd 9 (t j)) : mt_S4 t 4 = t 4 * t 10 * t 15 - t 4 * t 11 * t 14 - t 6 * t 8 * t 15 + t 6 * t 11 * t 12 + t 7 * t 8 * t 14 - t 7 * t 10 * t 12 := by
  have k : mt_S4 t 4 = mt_mm t (mt_S3 t) 4 := rfl
  rw [k]
  rw [mt_m4, mt_S3_0 h, mt_S3_4 h, mt_S3_8 h, mt_S3_12 h]
  grind
theorem mt_S4_5 {t : Nat → Int32} (h : ∀ j, mt_Bd 9 (t j)) : mt_S4 t 5 = -(t 0 * t 10 * t 15) + t 0 * t 11 * t 14 + t 2 * t 8 * t 15 - t 2 * t 11 * t 12 - t 3 * t 8 * t 14 + t 3 * t 10 * t 12 := by
  have k : mt_S4 t 5 = mt_mm t (mt_S3 t) 5 + mt_v t (mt_S3 t) 3 := rfl
  rw [k, mt_v3 h, mt_e3]
  rw [mt_m5, mt_S3_1 h, mt_S3_5 h, mt_S3_9 h, mt_S3_13 h]
  grind
theorem mt_S4_6 {t : Nat → Int32} (h : ∀ j, mt_Bd 9 (t j)) : mt_S4 t 6 = t 0 * t 6 * t 15 - t 0 * t 7 * t 14 - t 2 * t 4 * t 15 + t 2 * t 7 * t 12 + t 3 * t 4 * t 14 - t 3 * t 6 * t 12 := by
  have k : mt_S4 t 6 = mt_mm t (mt_S3 t) 6 := rfl
  rw [k]
  rw [mt_m6, mt_S3_2 h, mt_S3_6 h, mt_S3_10 h, mt_S3_14 h]
  grind
theorem mt_S4_7 {t : Nat → Int32} (h : ∀ j, mt_Bd 9 (t j)) : mt_S4 t 7 = -(t 0 * t 6 * t 11) + t 0 * t 7 * t 10 + t 2 * t 4 * t 11 - t 2 * t 7 * t 8 - t 3 * t 4 * t 10 + t 3 * t 6 * t 8 := by
  have k : mt_S4 t 7 = mt_mm t (mt_S3 t) 7 := rfl
  rw [k]
  rw [mt_m7, mt_S3_3 h, mt_S3_7 h, mt_S3_11 h, mt_S3_15 h]
  grind
theorem mt_S4_8 {t : Nat → Int32} (h : ∀ j, mt_Bd 9 (t j)) : mt_S4 t 8 = -(t 4 * t 9 * t 15) + t 4 * t 11 * t 13 + t 5 * t 8 * t 15 - t 5 * t 11 * t 12 - t 7 * t 8 * t 13 + t 7 * t 9 * t 12 := by
  have k : mt_S4 t 8 = mt_mm t (mt_S3 t) 8 := rfl
  rw [k]
  rw [mt_m8, mt_S3_0 h, mt_S3_4 h, mt_S3_8 h, mt_S3_12 h]
  grind
theorem mt_S4_9 {t : Nat → Int32} (h : ∀ j, mt_Bd 9 (t j)) : mt_S4 t 9 = t 0 * t 9 * t 15 - t 0 * t 11 * t 13 - t 1 * t 8 * t 15 + t 1 * t 11 * t 12 + t 3 * t 8 * t 13 - t 3 * t 9 * t 12 := by
  have k : mt_S4 t 9 = mt_mm t (mt_S3 t) 9 := rfl
  rw [k]
  rw [mt_m9, mt_S3_1 h, mt_S3_5 h, mt_S3_9 h, mt_S3_13 h]
  grind
theorem mt_S4_10 {t : Nat → Int32} (h : ∀ j, mt_Bd 9 (t j)) : mt_S4 t 10 = -(t 0 * t 5 * t 15) + t 0 * t 7 * t 13 + t 1 * t 4 * t 15 - t 1 * t 7 * t 12 - t 3 * t 4 * t 13 + t 3 * t 5 * t 12 := by
  have k : mt_S4 t 10 = mt_mm t (mt_S3 t) 10 + mt_v t (mt_S3 t) 3 := rfl
  rw [k, mt_v3 h, mt_e3]
  rw [mt_m10, mt_S3_2 h, mt_S3_6 h, mt_S3_10 h, mt_S3_14 h]
  grind
theorem mt_S4_11 {t : Nat → Int32} (h : ∀ j, mt_Bd 9 (t j)) : mt_S4 t 11 = t 0 * t 5 * t 11 - t 0 * t 7 * t 9 - t 1 * t 4 * t 11 + t 1 * t 7 * t 8 + t 3 * t 4 * t 9 - t 3 * t 5 * t 8 := by
  have k : mt_S4 t 11 = mt_mm t (mt_S3 t) 11 := rfl
  rw [k]
  rw [mt_m11, mt_S3_3 h, mt_S3_7 h, mt_S3_11 h, mt_S3_15 h]
  grind
theorem mt_S4_12 {t : Nat → Int32} (h : ∀ j, mt_Bd 9 (t j)) : mt_S4 t 12 = t 4 * t 9 * t 14 - t 4 * t 10 * t 13 - t 5 * t 8 * t 14 + t 5 * t 10 * t 12 + t 6 * t 8 * t 13 - t 6 * t 9 * t 12 := by
  have k : mt_S4 t 12 = mt_mm t (mt_S3 t) 12 := rfl
  rw [k]
  rw [mt_m12, mt_S3_0 h, mt_S3_4 h, mt_S3_8 h, mt_S3_12 h]
  grind
theorem mt_S4_13 {t : Nat → Int32} (h : ∀ j, mt_Bd 9 (t j)) : mt_S4 t 13 = -(t 0 * t 9 * t 14) + t 0 * t 10 * t 13 + t 1 * t 8 * t 14 - t 1 * t 10 * t 12 - t 2 * t 8 * t 13 + t 2 * t 9 * t 12 := by
  have k : mt_S4 t 13 = mt_mm t (mt_S3 t) 13 := rfl
  rw [k]
  rw [mt_m13, mt_S3_1 h, mt_S3_5 h, mt_S3_9 h, mt_S3_13 h]
  grind
theorem mt_S4_14 {t : Nat → Int32} (h : ∀ j, mt_Bd 9 (t j)) : mt_S4 t 14 = t 0 * t 5 * t 14 - t 0 * t 6 * t 13 - t 1 * t 4 * t 14 + t 1 * t 6 * t 12 + t 2 * t 4 * t 13 - t 2 * t 5 * t 12 := by
  have k : mt_S4 t 14 = mt_mm t (mt_S3 t) 14 := rfl
  rw [k]
  rw [mt_m14, mt_S3_2 h, mt_S3_6 h, mt_S3_10 h, mt_S3_14 h]
  grind
theorem mt_S4_15 {t : Nat → Int32} (h : ∀ j, mt_Bd 9 (t j)) : mt_S4 t 15 = -(t 0 * t 5 * t 10) + t 0 * t 6 * t 9 + t 1 * t 4 * t 10 - t 1 * t 6 * t 8 - t 2 * t 4 * t 9 + t 2 * t 5 * t 8 := by
  have k : mt_S4 t 15 = mt_mm t (mt_S3 t) 15 + mt_v t (mt_S3 t) 3 := rfl
  rw [k, mt_v3 h, mt_e3]
  rw [mt_m15, mt_S3_3 h, mt_S3_7 h, mt_S3_11 h, mt_S3_15 h]
  grind
theorem mt_trE4 {t : Nat → Int32} (h : ∀ j, mt_Bd 9 (t j)) : -(mt_tr (mt_mm t (mt_S4 t))) = nI 4 * (mt_e4 t) := by
  unfold mt_tr
  rw [mt_m0, mt_m5, mt_m10, mt_m15, mt_S4_0 h, mt_S4_1 h, mt_S4_2 h, mt_S4_3 h, mt_S4_4 h, mt_S4_5 h, mt_S4_6 h, mt_S4_7 h, mt_S4_8 h, mt_S4_9 h, mt_S4_10 h, mt_S4_11 h, mt_S4_12 h, mt_S4_13 h, mt_S4_14 h, mt_S4_15 h, show nI 4 = 4 from rfl, mt_e4]
  grind
theorem mt_v4 {t : Nat → Int32} (h : ∀ j, mt_Bd 9 (t j)) : mt_v t (mt_S4 t) 4 = mt_e4 t :=
  mt_div (c := 4) (n := nI 4) ⟨by decide, by decide⟩ (by decide) (mt_e4B h) (by decide) (mt_trE4 h)
theorem mt_ad0 {t : Nat → Int32} (h : ∀ j, mt_Bd 9 (t j)) : mt_mm t (mt_S4 t) 0 = -mt_e4 t := by
  rw [mt_m0, mt_S4_0 h, mt_S4_4 h, mt_S4_8 h, mt_S4_12 h, mt_e4]
  grind
theorem mt_ad1 {t : Nat → Int32} (h : ∀ j, mt_Bd 9 (t j)) : mt_mm t (mt_S4 t) 1 = 0 := by
  rw [mt_m1, mt_S4_1 h, mt_S4_5 h, mt_S4_9 h, mt_S4_13 h]
  grind
theorem mt_ad2 {t : Nat → Int32} (h : ∀ j, mt_Bd 9 (t j)) : mt_mm t (mt_S4 t) 2 = 0 := by
  rw [mt_m2, mt_S4_2 h, mt_S4_6 h, mt_S4_10 h, mt_S4_14 h]
  grind
theorem mt_ad3 {t : Nat → Int32} (h : ∀ j, mt_Bd 9 (t j)) : mt_mm t (mt_S4 t) 3 = 0 := by
  rw [mt_m3, mt_S4_3 h, mt_S4_7 h, mt_S4_11 h, mt_S4_15 h]
  grind
theorem mt_ad4 {t : Nat → Int32} (h : ∀ j, mt_Bd 9 (t j)) : mt_mm t (mt_S4 t) 4 = 0 := by
  rw [mt_m4, mt_S4_0 h, mt_S4_4 h, mt_S4_8 h, mt_S4_12 h]
  grind
theorem mt_ad5 {t : Nat → Int32} (h : ∀ j, mt_Bd 9 (t j)) : mt_mm t (mt_S4 t) 5 = -mt_e4 t := by
  rw [mt_m5, mt_S4_1 h, mt_S4_5 h, mt_S4_9 h, mt_S4_13 h, mt_e4]
  grind
theorem mt_ad6 {t : Nat → Int32} (h : ∀ j, mt_Bd 9 (t j)) : mt_mm t (mt_S4 t) 6 = 0 := by
  rw [mt_m6, mt_S4_2 h, mt_S4_6 h, mt_S4_10 h, mt_S4_14 h]
  grind
theorem mt_ad7 {t : Nat → Int32} (h : ∀ j, mt_Bd 9 (t j)) : mt_mm t (mt_S4 t) 7 = 0 := by
  rw [mt_m7, mt_S4_3 h, mt_S4_7 h, mt_S4_11 h, mt_S4_15 h]
  grind
theorem mt_ad8 {t : Nat → Int32} (h : ∀ j, mt_Bd 9 (t j)) : mt_mm t (mt_S4 t) 8 = 0 := by
  rw [mt_m8, mt_S4_0 h, mt_S4_4 h, mt_S4_8 h, mt_S4_12 h]
  grind
theorem mt_ad9 {t : Nat → Int32} (h : ∀ j, mt_Bd 9 (t j)) : mt_mm t (mt_S4 t) 9 = 0 := by
  rw [mt_m9, mt_S4_1 h, mt_S4_5 h, mt_S4_9 h, mt_S4_13 h]
  grind
theorem mt_ad10 {t : Nat → Int32} (h : ∀ j, mt_Bd 9 (t j)) : mt_mm t (mt_S4 t) 10 = -mt_e4 t := by
  rw [mt_m10, mt_S4_2 h, mt_S4_6 h, mt_S4_10 h, mt_S4_14 h, mt_e4]
  grind
theorem mt_ad11 {t : Nat → Int32} (h : ∀ j, mt_Bd 9 (t j)) : mt_mm t (mt_S4 t) 11 = 0 := by
  rw [mt_m11, mt_S4_3 h, mt_S4_7 h, mt_S4_11 h, mt_S4_15 h]
  grind
theorem mt_ad12 {t : Nat → Int32} (h : ∀ j, mt_Bd 9 (t j)) : mt_mm t (mt_S4 t) 12 = 0 := by
  rw [mt_m12, mt_S4_0 h, mt_S4_4 h, mt_S4_8 h, mt_S4_12 h]
  grind
theorem mt_ad13 {t : Nat → Int32} (h : ∀ j, mt_Bd 9 (t j)) : mt_mm t (mt_S4 t) 13 = 0 := by
  rw [mt_m13, mt_S4_1 h, mt_S4_5 h, mt_S4_9 h, mt_S4_13 h]
  grind
theorem mt_ad14 {t : Nat → Int32} (h : ∀ j, mt_Bd 9 (t j)) : mt_mm t (mt_S4 t) 14 = 0 := by
  rw [mt_m14, mt_S4_2 h, mt_S4_6 h, mt_S4_10 h, mt_S4_14 h]
  grind
theorem mt_ad15 {t : Nat → Int32} (h : ∀ j, mt_Bd 9 (t j)) : mt_mm t (mt_S4 t) 15 = -mt_e4 t := by
  rw [mt_m15, mt_S4_3 h, mt_S4_7 h, mt_S4_11 h, mt_S4_15 h, mt_e4]
  grind
end
section
/-! the reference's coefficients and minors as polynomials: printed by gen08.py -/
theorem mt_dvf : mt_dv false = 0 := rfl
theorem mt_dvt : mt_dv true = 1 := rfl
def mt_b0 (s : Int32) : Nat → Int32 := fun k => if k = 0 then s else 0
theorem mt_tpE (a : Int32) (d : Bool) (P : Nat → Int32) (k : Nat) : mt_tp a d P (k + 1) = mt_dv d * P k - a * P (k + 1) := by
  cases d with
  | false => show 0 - a * P (k + 1) = 0 * P k - a * P (k + 1); grind
  | true => show P k - a * P (k + 1) = 1 * P k - a * P (k + 1); grind
theorem mt_tp0 (a : Int32) (d : Bool) (P : Nat → Int32) : mt_tp a d P 0 = -(a * P 0) := by
  cases d with
  | false => show 0 - a * P 0 = -(a * P 0); grind
  | true => show 0 - a * P 0 = -(a * P 0); grind
theorem mt_b00 (s : Int32) : mt_b0 s 0 = s := rfl
theorem mt_b0s (s : Int32) (k : Nat) : mt_b0 s (k + 1) = 0 := rfl
theorem mt_tpE1 (a : Int32) (d : Bool) (P : Nat → Int32) : mt_tp a d P 1 = mt_dv d * P 0 - a * P 1 := mt_tpE a d P 0
theorem mt_tpE2 (a : Int32) (d : Bool) (P : Nat → Int32) : mt_tp a d P 2 = mt_dv d * P 1 - a * P 2 := mt_tpE a d P 1
theorem mt_tpE3 (a : Int32) (d : Bool) (P : Nat → Int32) : mt_tp a d P 3 = mt_dv d * P 2 - a * P 3 := mt_tpE a d P 2
theorem mt_tpE4 (a : Int32) (d : Bool) (P : Nat → Int32) : mt_tp a d P 4 = mt_dv d * P 3 - a * P 4 := mt_tpE a d P 3
theorem mt_b01 (s : Int32) : mt_b0 s 1 = 0 := rfl
theorem mt_b02 (s : Int32) : mt_b0 s 2 = 0 := rfl
theorem mt_b03 (s : Int32) : mt_b0 s 3 = 0 := rfl
theorem mt_b04 (s : Int32) : mt_b0 s 4 = 0 := rfl
theorem mt_pcE (t : Nat → Int32) (w : Nat) {c0 c1 c2 c3 : Nat} {s : Int32} {d0 d1 d2 d3 : Bool} (k : Nat) (h0 : mt_co w 0 = c0) (h1 : mt_co w 1 = c1) (h2 : mt_co w 2 = c2) (h3 : mt_co w 3 = c3) (hs : mt_sg w 15 = s) (e0 : decide (c0 = 0) = d0) (e1 : decide (c1 = 1) = d1) (e2 : decide (c2 = 2) = d2) (e3 : decide (c3 = 3) = d3) :
    mt_pc t w k = mt_tp (t (3 * 4 + c3)) d3 (mt_tp (t (2 * 4 + c2)) d2 (mt_tp (t (1 * 4 + c1)) d1 (mt_tp (t (0 * 4 + c0)) d0 (mt_b0 s)))) k := by
  subst h0 h1 h2 h3 hs e0 e1 e2 e3
  rfl
theorem mt_pw0 (t : Nat → Int32) (k : Nat) : mt_pc t (mt_wy 0) k = mt_tp (t 12) false (mt_tp (t 9) false (mt_tp (t 6) false (mt_tp (t 3) false (mt_b0 1)))) k :=
  mt_pcE t (mt_wy 0) (c0 := 3) (c1 := 2) (c2 := 1) (c3 := 0) k (by decide +kernel) (by decide +kernel) (by decide +kernel) (by decide +kernel) (by decide +kernel) rfl rfl rfl rfl
theorem mt_pw1 (t : Nat → Int32) (k : Nat) : mt_pc t (mt_wy 1) k = mt_tp (t 12) false (mt_tp (t 9) false (mt_tp (t 7) false (mt_tp (t 2) false (mt_b0 (-1))))) k :=
  mt_pcE t (mt_wy 1) (c0 := 2) (c1 := 3) (c2 := 1) (c3 := 0) k (by decide +kernel) (by decide +kernel) (by decide +kernel) (by decide +kernel) (by decide +kernel) rfl rfl rfl rfl
theorem mt_pw2 (t : Nat → Int32) (k : Nat) : mt_pc t (mt_wy 2) k = mt_tp (t 12) false (mt_tp (t 10) true (mt_tp (t 5) true (mt_tp (t 3) false (mt_b0 (-1))))) k :=
  mt_pcE t (mt_wy 2) (c0 := 3) (c1 := 1) (c2 := 2) (c3 := 0) k (by decide +kernel) (by decide +kernel) (by decide +kernel) (by decide +kernel) (by decide +kernel) rfl rfl rfl rfl
theorem mt_pw3 (t : Nat → Int32) (k : Nat) : mt_pc t (mt_wy 3) k = mt_tp (t 12) false (mt_tp (t 10) true (mt_tp (t 7) false (mt_tp (t 1) false (mt_b0 1)))) k :=
  mt_pcE t (mt_wy 3) (c0 := 1) (c1 := 3) (c2 := 2) (c3 := 0) k (by decide +kernel) (by decide +kernel) (by decide +kernel) (by decide +kernel) (by decide +kernel) rfl rfl rfl rfl
theorem mt_pw4 (t : Nat → Int32) (k : Nat) : mt_pc t (mt_wy 4) k = mt_tp (t 12) false (mt_tp (t 11) false (mt_tp (t 5) true (mt_tp (t 2) false (mt_b0 1)))) k :=
  mt_pcE t (mt_wy 4) (c0 := 2) (c1 := 1) (c2 := 3) (c3 := 0) k (by decide +kernel) (by decide +kernel) (by decide +kernel) (by decide +kernel) (by decide +kernel) rfl rfl rfl rfl
theorem mt_pw5 (t : Nat → Int32) (k : Nat) : mt_pc t (mt_wy 5) k = mt_tp (t 12) false (mt_tp (t 11) false (mt_tp (t 6) false (mt_tp (t 1) false (mt_b0 (-1))))) k :=
  mt_pcE t (mt_wy 5) (c0 := 1) (c1 := 2) (c2 := 3) (c3 := 0) k (by decide +kernel) (by decide +kernel) (by decide +kernel) (by decide +kernel) (by decide +kernel) rfl rfl rfl rfl
theorem mt_pw6 (t : Nat → Int32) (k : Nat) : mt_pc t (mt_wy 6) k = mt_tp (t 13) false (mt_tp (t 8) false (mt_tp (t 6) false (mt_tp (t 3) false (mt_b0 (-1))))) k :=
  mt_pcE t (mt_wy 6) (c0 := 3) (c1 := 2) (c2 := 0) (c3 := 1) k (by decide +kernel) (by decide +kernel) (by decide +kernel) (by decide +kernel) (by decide +kernel) rfl rfl rfl rfl
theorem mt_pw7 (t : Nat → Int32) (k : Nat) : mt_pc t (mt_wy 7) k = mt_tp (t 13) false (mt_tp (t 8) false (mt_tp (t 7) false (mt_tp (t 2) false (mt_b0 1)))) k :=
  mt_pcE t (mt_wy 7) (c0 := 2) (c1 := 3) (c2 := 0) (c3 := 1) k (by decide +kernel) (by decide +kernel) (by decide +kernel) (by decide +kernel) (by decide +kernel) rfl rfl rfl rfl
theorem mt_pw8 (t : Nat → Int32) (k : Nat) : mt_pc t (mt_wy 8) k = mt_tp (t 13) false (mt_tp (t 10) true (mt_tp (t 4) false (mt_tp (t 3) false (mt_b0 1)))) k :=
  mt_pcE t (mt_wy 8) (c0 := 3) (c1 := 0) (c2 := 2) (c3 := 1) k (by decide +kernel) (by decide +kernel) (by decide +kernel) (by decide +kernel) (by decide +kernel) rfl rfl rfl rfl
theorem mt_pw9 (t : Nat → Int32) (k : Nat) : mt_pc t (mt_wy 9) k = mt_tp (t 13) false (mt_tp (t 10) true (mt_tp (t 7) false (mt_tp (t 0) true (mt_b0 (-1))))) k :=
  mt_pcE t (mt_wy 9) (c0 := 0) (c1 := 3) (c2 := 2) (c3 := 1) k (by decide +kernel) (by decide +kernel) (by decide +kernel) (by decide +kernel) (by decide +kernel) rfl rfl rfl rfl
theorem mt_pw10 (t : Nat → Int32) (k : Nat) : mt_pc t (mt_wy 10) k = mt_tp (t 13) false (mt_tp (t 11) false (mt_tp (t 4) false (mt_tp (t 2) false (mt_b0 (-1))))) k :=
  mt_pcE t (mt_wy 10) (c0 := 2) (c1 := 0) (c2 := 3) (c3 := 1) k (by decide +kernel) (by decide +kernel) (by decide +kernel) (by decide +kernel) (by decide +kernel) rfl rfl rfl rfl
theorem mt_pw11 (t : Nat → Int32) (k : Nat) : mt_pc t (mt_wy 11) k = mt_tp (t 13) false (mt_tp (t 11) false (mt_tp (t 6) false (mt_tp (t 0) true (mt_b0 1)))) k :=
  mt_pcE t (mt_wy 11) (c0 := 0) (c1 := 2) (c2 := 3) (c3 := 1) k (by decide +kernel) (by decide +kernel) (by decide +kernel) (by decide +kernel) (by decide +kernel) rfl rfl rfl rfl
theorem mt_pw12 (t : Nat → Int32) (k : Nat) : mt_pc t (mt_wy 12) k = mt_tp (t 14) false (mt_tp (t 8) false (mt_tp (t 5) true (mt_tp (t 3) false (mt_b0 1)))) k :=
  mt_pcE t (mt_wy 12) (c0 := 3) (c1 := 1) (c2 := 0) (c3 := 2) k (by decide +kernel) (by decide +kernel) (by decide +kernel) (by decide +kernel) (by decide +kernel) rfl rfl rfl rfl
theorem mt_pw13 (t : Nat → Int32) (k : Nat) : mt_pc t (mt_wy 13) k = mt_tp (t 14) false (mt_tp (t 8) false (mt_tp (t 7) false (mt_tp (t 1) false (mt_b0 (-1))))) k :=
  mt_pcE t (mt_wy 13) (c0 := 1) (c1 := 3) (c2 := 0) (c3 := 2) k (by decide +kernel) (by decide +kernel) (by decide +kernel) (by decide +kernel) (by decide +kernel) rfl rfl rfl rfl
theorem mt_pw14 (t : Nat → Int32) (k : Nat) : mt_pc t (mt_wy 14) k = mt_tp (t 14) false (mt_tp (t 9) false (mt_tp (t 4) false (mt_tp (t 3) false (mt_b0 (-1))))) k :=
  mt_pcE t (mt_wy 14) (c0 := 3) (c1 := 0) (c2 := 1) (c3 := 2) k (by decide +kernel) (by decide +kernel) (by decide +kernel) (by decide +kernel) (by decide +kernel) rfl rfl rfl rfl
theorem mt_pw15 (t : Nat → Int32) (k : Nat) : mt_pc t (mt_wy 15) k = mt_tp (t 14) false (mt_tp (t 9) false (mt_tp (t 7) false (mt_tp (t 0) true (mt_b0 1)))) k :=
  mt_pcE t (mt_wy 15) (c0 := 0) (c1 := 3) (c2 := 1) (c3 := 2) k (by decide +kernel) (by decide +kernel) (by decide +kernel) (by decide +kernel) (by decide +kernel) rfl rfl rfl rfl
theorem mt_pw16 (t : Nat → Int32) (k : Nat) : mt_pc t (mt_wy 16) k = mt_tp (t 14) false (mt_tp (t 11) false (mt_tp (t 4) false (mt_tp (t 1) false (mt_b0 1)))) k :=
  mt_pcE t (mt_wy 16) (c0 := 1) (c1 := 0) (c2 := 3) (c3 := 2) k (by decide +kernel) (by decide +kernel) (by decide +kernel) (by decide +kernel) (by decide +kernel) rfl rfl rfl rfl
theorem mt_pw17 (t : Nat → Int32) (k : Nat) : mt_pc t (mt_wy 17) k = mt_tp (t 14) false (mt_tp (t 11) false (mt_tp (t 5) true (mt_tp (t 0) true (mt_b0 (-1))))) k :=
  mt_pcE t (mt_wy 17) (c0 := 0) (c1 := 1) (c2 := 3) (c3 := 2) k (by decide +kernel) (by decide +kernel) (by decide +kernel) (by decide +kernel) (by decide +kernel) rfl rfl rfl rfl
theorem mt_pw18 (t : Nat → Int32) (k : Nat) : mt_pc t (mt_wy 18) k = mt_tp (t 15) true (mt_tp (t 8) false (mt_tp (t 5) true (mt_tp (t 2) false (mt_b0 (-1))))) k :=
  mt_pcE t (mt_wy 18) (c0 := 2) (c1 := 1) (c2 := 0) (c3 := 3) k (by decide +kernel) (by decide +kernel) (by decide +kernel) (by decide +kernel) (by decide +kernel) rfl rfl rfl rfl
theorem mt_pw19 (t : Nat → Int32) (k : Nat) : mt_pc t (mt_wy 19) k = mt_tp (t 15) true (mt_tp (t 8) false (mt_tp (t 6) false (mt_tp (t 1) false (mt_b0 1)))) k :=
  mt_pcE t (mt_wy 19) (c0 := 1) (c1 := 2) (c2 := 0) (c3 := 3) k (by decide +kernel) (by decide +kernel) (by decide +kernel) (by decide +kernel) (by decide +kernel) rfl rfl rfl rfl
theorem mt_pw20 (t : Nat → Int32) (k : Nat) : mt_pc t (mt_wy 20) k = mt_tp (t 15) true (mt_tp (t 9) false (mt_tp (t 4) false (mt_tp (t 2) false (mt_b0 1)))) k :=
  mt_pcE t (mt_wy 20) (c0 := 2) (c1 := 0) (c2 := 1) (c3 := 3) k (by decide +kernel) (by decide +kernel) (by decide +kernel) (by decide +kernel) (by decide +kernel) rfl rfl rfl rfl
theorem mt_pw21 (t : Nat → Int32) (k : Nat) : mt_pc t (mt_wy 21) k = mt_tp (t 15) true (mt_tp (t 9) false (mt_tp (t 6) false (mt_tp (t 0) true (mt_b0 (-1))))) k :=
  mt_pcE t (mt_wy 21) (c0 := 0) (c1 := 2) (c2 := 1) (c3 := 3) k (by decide +kernel) (by decide +kernel) (by decide +kernel) (by decide +kernel) (by decide +kernel) rfl rfl rfl rfl
theorem mt_pw22 (t : Nat → Int32) (k : Nat) : mt_pc t (mt_wy 22) k = mt_tp (t 15) true (mt_tp (t 10) true (mt_tp (t 4) false (mt_tp (t 1) false (mt_b0 (-1))))) k :=
  mt_pcE t (mt_wy 22) (c0 := 1) (c1 := 0) (c2 := 2) (c3 := 3) k (by decide +kernel) (by decide +kernel) (by decide +kernel) (by decide +kernel) (by decide +kernel) rfl rfl rfl rfl
theorem mt_pw23 (t : Nat → Int32) (k : Nat) : mt_pc t (mt_wy 23) k = mt_tp (t 15) true (mt_tp (t 10) true (mt_tp (t 5) true (mt_tp (t 0) true (mt_b0 1)))) k :=
  mt_pcE t (mt_wy 23) (c0 := 0) (c1 := 1) (c2 := 2) (c3 := 3) k (by decide +kernel) (by decide +kernel) (by decide +kernel) (by decide +kernel) (by decide +kernel) rfl rfl rfl rfl
theorem mt_pv0_0 (t : Nat → Int32) : mt_pc t (mt_wy 0) 0 = t 3 * t 6 * t 9 * t 12 := by
  rw [mt_pw0]
  simp only [mt_tp0, mt_tpE1, mt_tpE2, mt_tpE3, mt_tpE4, mt_b00, mt_b01, mt_b02, mt_b03, mt_b04, mt_dvf, mt_dvt]
  grind
theorem mt_pv0_1 (t : Nat → Int32) : mt_pc t (mt_wy 0) 1 = 0 := by
  rw [mt_pw0]
  simp only [mt_tp0, mt_tpE1, mt_tpE2, mt_tpE3, mt_tpE4, mt_b00, mt_b01, mt_b02, mt_b03, mt_b04, mt_dvf, mt_dvt]
  grind
theorem mt_pv0_2 (t : Nat → Int32) : mt_pc t (mt_wy 0) 2 = 0 := by
  rw [mt_pw0]
  simp only [mt_tp0, mt_tpE1, mt_tpE2, mt_tpE3, mt_tpE4, mt_b00, mt_b01, mt_b02, mt_b03, mt_b04, mt_dvf, mt_dvt]
  grind
theorem mt_pv0_3 (t : Nat → Int32) : mt_pc t (mt_wy 0) 3 = 0 := by
  rw [mt_pw0]
  simp only [mt_tp0, mt_tpE1, mt_tpE2, mt_tpE3, mt_tpE4, mt_b00, mt_b01, mt_b02, mt_b03, mt_b04, mt_dvf, mt_dvt]
  grind
theorem mt_pv0_4 (t : Nat → Int32) : mt_pc t (mt_wy 0) 4 = 0 := by
  rw [mt_pw0]
  simp only [mt_tp0, mt_tpE1, mt_tpE2, mt_tpE3, mt_tpE4, mt_b00, mt_b01, mt_b02, mt_b03, mt_b04, mt_dvf, mt_dvt]
  grind
theorem mt_pv1_0 (t : Nat → Int32) : mt_pc t (mt_wy 1) 0 = -(t 2 * t 7 * t 9 * t 12) := by
  rw [mt_pw1]
  simp only [mt_tp0, mt_tpE1, mt_tpE2, mt_tpE3, mt_tpE4, mt_b00, mt_b01, mt_b02, mt_b03, mt_b04, mt_dvf, mt_dvt]
  grind
theorem mt_pv1_1 (t : Nat → Int32) : mt_pc t (mt_wy 1) 1 = 0 := by
  rw [mt_pw1]
  simp only [mt_tp0, mt_tpE1, mt_tpE2, mt_tpE3, mt_tpE4, mt_b00, mt_b01, mt_b02, mt_b03, mt_b04, mt_dvf, mt_dvt]
  grind
theorem mt_pv1_2 (t : Nat → Int32) : mt_pc t (mt_wy 1) 2 = 0 := by
  rw [mt_pw1]
  simp only [mt_tp0, mt_tpE1, mt_tpE2, mt_tpE3, mt_tpE4, mt_b00, mt_b01, mt_b02, mt_b03, mt_b04, mt_dvf, mt_dvt]
  grind
theorem mt_pv1_3 (t : Nat → Int32) : mt_pc t (mt_wy 1) 3 = 0 := by
  rw [mt_pw1]
  simp only [mt_tp0, mt_tpE1, mt_tpE2, mt_tpE3, mt_tpE4, mt_b00, mt_b01, mt_b02, mt_b03, mt_b04, mt_dvf, mt_dvt]
  grind
theorem mt_pv1_4 (t : Nat → Int32) : mt_pc t (mt_wy 1) 4 = 0 := by
  rw [mt_pw1]
  simp only [mt_tp0, mt_tpE1, mt_tpE2, mt_tpE3, mt_tpE4, mt_b00, mt_b01, mt_b02, mt_b03, mt_b04, mt_dvf, mt_dvt]
  grind
theorem mt_pv2_0 (t : Nat → Int32) : mt_pc t (mt_wy 2) 0 = -(t 3 * t 5 * t 10 * t 12) := by
  rw [mt_pw2]
  simp only [mt_tp0, mt_tpE1, mt_tpE2, mt_tpE3, mt_tpE4, mt_b00, mt_b01, mt_b02, mt_b03, mt_b04, mt_dvf, mt_dvt]
  grind
theorem mt_pv2_1 (t : Nat → Int32) : mt_pc t (mt_wy 2) 1 = t 3 * t 5 * t 12 + t 3 * t 10 * t 12 := by
  rw [mt_pw2]
  simp only [mt_tp0, mt_tpE1, mt_tpE2, mt_tpE3, mt_tpE4, mt_b00, mt_b01, mt_b02, mt_b03, mt_b04, mt_dvf, mt_dvt]
  grind
theorem mt_pv2_2 (t : Nat → Int32) : mt_pc t (mt_wy 2) 2 = -(t 3 * t 12) := by
  rw [mt_pw2]
  simp only [mt_tp0, mt_tpE1, mt_tpE2, mt_tpE3, mt_tpE4, mt_b00, mt_b01, mt_b02, mt_b03, mt_b04, mt_dvf, mt_dvt]
  grind
theorem mt_pv2_3 (t : Nat → Int32) : mt_pc t (mt_wy 2) 3 = 0 := by
  rw [mt_pw2]
  simp only [mt_tp0, mt_tpE1, mt_tpE2, mt_tpE3, mt_tpE4, mt_b00, mt_b01, mt_b02, mt_b03, mt_b04, mt_dvf, mt_dvt]
  grind
theorem mt_pv2_4 (t : Nat → Int32) : mt_pc t (mt_wy 2) 4 = 0 := by
  rw [mt_pw2]
  simp only [mt_tp0, mt_tpE1, mt_tpE2, mt_tpE3, mt_tpE4, mt_b00, mt_b01, mt_b02, mt_b03, mt_b04, mt_dvf, mt_dvt]
  grind
theorem mt_pv3_0 (t : Nat → Int32) : mt_pc t (mt_wy 3) 0 = t 1 * t 7 * t 10 * t 12 := by
  rw [mt_pw3]
  simp only [mt_tp0, mt_tpE1, mt_tpE2, mt_tpE3, mt_tpE4, mt_b00, mt_b01, mt_b02, mt_b03, mt_b04, mt_dvf, mt_dvt]
  grind
theorem mt_pv3_1 (t : Nat → Int32) : mt_pc t (mt_wy 3) 1 = -(t 1 * t 7 * t 12) := by
  rw [mt_pw3]
  simp only [mt_tp0, mt_tpE1, mt_tpE2, mt_tpE3, mt_tpE4, mt_b00, mt_b01, mt_b02, mt_b03, mt_b04, mt_dvf, mt_dvt]
  grind
theorem mt_pv3_2 (t : Nat → Int32) : mt_pc t (mt_wy 3) 2 = 0 := by
  rw [mt_pw3]
  simp only [mt_tp0, mt_tpE1, mt_tpE2, mt_tpE3, mt_tpE4, mt_b00, mt_b01, mt_b02, mt_b03, mt_b04, mt_dvf, mt_dvt]
  grind
theorem mt_pv3_3 (t : Nat → Int32) : mt_pc t (mt_wy 3) 3 = 0 := by
  rw [mt_pw3]
  simp only [mt_tp0, mt_tpE1, mt_tpE2, mt_tpE3, mt_tpE4, mt_b00, mt_b01, mt_b02, mt_b03, mt_b04, mt_dvf, mt_dvt]
  grind
theorem mt_pv3_4 (t : Nat → Int32) : mt_pc t (mt_wy 3) 4 = 0 := by
  rw [mt_pw3]
  simp only [mt_tp0, mt_tpE1, mt_tpE2, mt_tpE3, mt_tpE4, mt_b00, mt_b01, mt_b02, mt_b03, mt_b04, mt_dvf, mt_dvt]
  grind
theorem mt_pv4_0 (t : Nat → Int32) : mt_pc t (mt_wy 4) 0 = t 2 * t 5 * t 11 * t 12 := by
  rw [mt_pw4]
  simp only [mt_tp0, mt_tpE1, mt_tpE2, mt_tpE3, mt_tpE4, mt_b00, mt_b01, mt_b02, mt_b03, mt_b04, mt_dvf, mt_dvt]
  grind
theorem mt_pv4_1 (t : Nat → Int32) : mt_pc t (mt_wy 4) 1 = -(t 2 * t 11 * t 12) := by
  rw [mt_pw4]
  simp only [mt_tp0, mt_tpE1, mt_tpE2, mt_tpE3, mt_tpE4, mt_b00, mt_b01, mt_b02, mt_b03, mt_b04, mt_dvf, mt_dvt]
  grind
theorem mt_pv4_2 (t : Nat → Int32) : mt_pc t (mt_wy 4) 2 = 0 := by
  rw [mt_pw4]
  simp only [mt_tp0, mt_tpE1, mt_tpE2, mt_tpE3, mt_tpE4, mt_b00, mt_b01, mt_b02, mt_b03, mt_b04, mt_dvf, mt_dvt]
  grind
theorem mt_pv4_3 (t : Nat → Int32) : mt_pc t (mt_wy 4) 3 = 0 := by
  rw [mt_pw4]
  simp only [mt_tp0, mt_tpE1, mt_tpE2, mt_tpE3, mt_tpE4, mt_b00, mt_b01, mt_b02, mt_b03, mt_b04, mt_dvf, mt_dvt]
  grind
theorem mt_pv4_4 (t : Nat → Int32) : mt_pc t (mt_wy 4) 4 = 0 := by
  rw [mt_pw4]
  simp only [mt_tp0, mt_tpE1, mt_tpE2, mt_tpE3, mt_tpE4, mt_b00, mt_b01, mt_b02, mt_b03, mt_b04, mt_dvf, mt_dvt]
  grind
theorem mt_pv5_0 (t : Nat → Int32) : mt_pc t (mt_wy 5) 0 = -(t 1 * t 6 * t 11 * t 12) := by
  rw [mt_pw5]
  simp only [mt_tp0, mt_tpE1, mt_tpE2, mt_tpE3, mt_tpE4, mt_b00, mt_b01, mt_b02, mt_b03, mt_b04, mt_dvf, mt_dvt]
  grind
theorem mt_pv5_1 (t : Nat → Int32) : mt_pc t (mt_wy 5) 1 = 0 := by
  rw [mt_pw5]
  simp only [mt_tp0, mt_tpE1, mt_tpE2, mt_tpE3, mt_tpE4, mt_b00, mt_b01, mt_b02, mt_b03, mt_b04, mt_dvf, mt_dvt]
  grind
theorem mt_pv5_2 (t : Nat → Int32) : mt_pc t (mt_wy 5) 2 = 0 := by
  rw [mt_pw5]
  simp only [mt_tp0, mt_tpE1, mt_tpE2, mt_tpE3, mt_tpE4, mt_b00, mt_b01, mt_b02, mt_b03, mt_b04, mt_dvf, mt_dvt]
  grind
theorem mt_pv5_3 (t : Nat → Int32) : mt_pc t (mt_wy 5) 3 = 0 := by
  rw [mt_pw5]
  simp only [mt_tp0, mt_tpE1, mt_tpE2, mt_tpE3, mt_tpE4, mt_b00, mt_b01, mt_b02, mt_b03, mt_b04, mt_dvf, mt_dvt]
  grind
theorem mt_pv5_4 (t : Nat → Int32) : mt_pc t (mt_wy 5) 4 = 0 := by
  rw [mt_pw5]
  simp only [mt_tp0, mt_tpE1, mt_tpE2, mt_tpE3, mt_tpE4, mt_b00, mt_b01, mt_b02, mt_b03, mt_b04, mt_dvf, mt_dvt]
  grind
theorem mt_pv6_0 (t : Nat → Int32) : mt_pc t (mt_wy 6) 0 = -(t 3 * t 6 * t 8 * t 13) := by
  rw [mt_pw6]
  simp only [mt_tp0, mt_tpE1, mt_tpE2, mt_tpE3, mt_tpE4, mt_b00, mt_b01, mt_b02, mt_b03, mt_b04, mt_dvf, mt_dvt]
  grind
theorem mt_pv6_1 (t : Nat → Int32) : mt_pc t (mt_wy 6) 1 = 0 := by
  rw [mt_pw6]
  simp only [mt_tp0, mt_tpE1, mt_tpE2, mt_tpE3, mt_tpE4, mt_b00, mt_b01, mt_b02, mt_b03, mt_b04, mt_dvf, mt_dvt]
  grind
theorem mt_pv6_2 (t : Nat → Int32) : mt_pc t (mt_wy 6) 2 = 0 := by
  rw [mt_pw6]
  simp only [mt_tp0, mt_tpE1, mt_tpE2, mt_tpE3, mt_tpE4, mt_b00, mt_b01, mt_b02, mt_b03, mt_b04, mt_dvf, mt_dvt]
  grind
theorem mt_pv6_3 (t : Nat → Int32) : mt_pc t (mt_wy 6) 3 = 0 := by
  rw [mt_pw6]
  simp only [mt_tp0, mt_tpE1, mt_tpE2, mt_tpE3, mt_tpE4, mt_b00, mt_b01, mt_b02, mt_b03, mt_b04, mt_dvf, mt_dvt]
  grind
theorem mt_pv6_4 (t : Nat → Int32) : mt_pc t (mt_wy 6) 4 = 0 := by
  rw [mt_pw6]
  simp only [mt_tp0, mt_tpE1, mt_tpE2, mt_tpE3, mt_tpE4, mt_b00, mt_b01, mt_b02, mt_b03, mt_b04, mt_dvf, mt_dvt]
  grind
theorem mt_pv7_0 (t : Nat → Int32) : mt_pc t (mt_wy 7) 0 = t 2 * t 7 * t 8 * t 13 := by
  rw [mt_pw7]
  simp only [mt_tp0, mt_tpE1, mt_tpE2, mt_tpE3, mt_tpE4, mt_b00, mt_b01, mt_b02, mt_b03, mt_b04, mt_dvf, mt_dvt]
  grind
theorem mt_pv7_1 (t : Nat → Int32) : mt_pc t (mt_wy 7) 1 = 0 := by
  rw [mt_pw7]
  simp only [mt_tp0, mt_tpE1, mt_tpE2, mt_tpE3, mt_tpE4, mt_b00, mt_b01, mt_b02, mt_b03, mt_b04, mt_dvf, mt_dvt]
  grind
theorem mt_pv7_2 (t : Nat → Int32) : mt_pc t (mt_wy 7) 2 = 0 := by
  rw [mt_pw7]
  simp only [mt_tp0, mt_tpE1, mt_tpE2, mt_tpE3, mt_tpE4, mt_b00, mt_b01, mt_b02, mt_b03, mt_b04, mt_dvf, mt_dvt]
  grind
theorem mt_pv7_3 (t : Nat → Int32) : mt_pc t (mt_wy 7) 3 = 0 := by
  rw [mt_pw7]
  simp only [mt_tp0, mt_tpE1, mt_tpE2, mt_tpE3, mt_tpE4, mt_b00, mt_b01, mt_b02, mt_b03, mt_b04, mt_dvf, mt_dvt]
  grind
theorem mt_pv7_4 (t : Nat → Int32) : mt_pc t (mt_wy 7) 4 = 0 := by
  rw [mt_pw7]
  simp only [mt_tp0, mt_tpE1, mt_tpE2, mt_tpE3, mt_tpE4, mt_b00, mt_b01, mt_b02, mt_b03, mt_b04, mt_dvf, mt_dvt]
  grind
theorem mt_pv8_0 (t : Nat → Int32) : mt_pc t (mt_wy 8) 0 = t 3 * t 4 * t 10 * t 13 := by
  rw [mt_pw8]
  simp only [mt_tp0, mt_tpE1, mt_tpE2, mt_tpE3, mt_tpE4, mt_b00, mt_b01, mt_b02, mt_b03, mt_b04, mt_dvf, mt_dvt]
  grind
theorem mt_pv8_1 (t : Nat → Int32) : mt_pc t (mt_wy 8) 1 = -(t 3 * t 4 * t 13) := by
  rw [mt_pw8]
  simp only [mt_tp0, mt_tpE1, mt_tpE2, mt_tpE3, mt_tpE4, mt_b00, mt_b01, mt_b02, mt_b03, mt_b04, mt_dvf, mt_dvt]
  grind
theorem mt_pv8_2 (t : Nat → Int32) : mt_pc t (mt_wy 8) 2 = 0 := by
  rw [mt_pw8]
  simp only [mt_tp0, mt_tpE1, mt_tpE2, mt_tpE3, mt_tpE4, mt_b00, mt_b01, mt_b02, mt_b03, mt_b04, mt_dvf, mt_dvt]
  grind
theorem mt_pv8_3 (t : Nat → Int32) : mt_pc t (mt_wy 8) 3 = 0 := by
  rw [mt_pw8]
  simp only [mt_tp0, mt_tpE1, mt_tpE2, mt_tpE3, mt_tpE4, mt_b00, mt_b01, mt_b02, mt_b03, mt_b04, mt_dvf, mt_dvt]
  grind
theorem mt_pv8_4 (t : Nat → Int32) : mt_pc t (mt_wy 8) 4 = 0 := by
  rw [mt_pw8]
  simp only [mt_tp0, mt_tpE1, mt_tpE2, mt_tpE3, mt_tpE4, mt_b00, mt_b01, mt_b02, mt_b03, mt_b04, mt_dvf, mt_dvt]
  grind
theorem mt_pv9_0 (t : Nat → Int32) : mt_pc t (mt_wy 9) 0 = -(t 0 * t 7 * t 10 * t 13) := by
  rw [mt_pw9]
  simp only [mt_tp0, mt_tpE1, mt_tpE2, mt_tpE3, mt_tpE4, mt_b00, mt_b01, mt_b02, mt_b03, mt_b04, mt_dvf, mt_dvt]
  grind
theorem mt_pv9_1 (t : Nat → Int32) : mt_pc t (mt_wy 9) 1 = t 0 * t 7 * t 13 + t 7 * t 10 * t 13 := by
  rw [mt_pw9]
  simp only [mt_tp0, mt_tpE1, mt_tpE2, mt_tpE3, mt_tpE4, mt_b00, mt_b01, mt_b02, mt_b03, mt_b04, mt_dvf, mt_dvt]
  grind
theorem mt_pv9_2 (t : Nat → Int32) : mt_pc t (mt_wy 9) 2 = -(t 7 * t 13) := by
  rw [mt_pw9]
  simp only [mt_tp0, mt_tpE1, mt_tpE2, mt_tpE3, mt_tpE4, mt_b00, mt_b01, mt_b02, mt_b03, mt_b04, mt_dvf, mt_dvt]
  grind
theorem mt_pv9_3 (t : Nat → Int32) : mt_pc t (mt_wy 9) 3 = 0 := by
  rw [mt_pw9]
  simp only [mt_tp0, mt_tpE1, mt_tpE2, mt_tpE3, mt_tpE4, mt_b00, mt_b01, mt_b02, mt_b03, mt_b04, mt_dvf, mt_dvt]
  grind
theorem mt_pv9_4 (t : Nat → Int32) : mt_pc t (mt_wy 9) 4 = 0 := by
  rw [mt_pw9]
  simp only [mt_tp0, mt_tpE1, mt_tpE2, mt_tpE3, mt_tpE4, mt_b00, mt_b01, mt_b02, mt_b03, mt_b04, mt_dvf, mt_dvt]
  grind
theorem mt_pv10_0 (t : Nat → Int32) : mt_pc t (mt_wy 10) 0 = -(t 2 * t 4 * t 11 * t 13) := by
  rw [mt_pw10]
  simp only [mt_tp0, mt_tpE1, mt_tpE2, mt_tpE3, mt_tpE4, mt_b00, mt_b01, mt_b02, mt_b03, mt_b04, mt_dvf, mt_dvt]
  grind
theorem mt_pv10_1 (t : Nat → Int32) : mt_pc t (mt_wy 10) 1 = 0 := by
  rw [mt_pw10]
  simp only [mt_tp0, mt_tpE1, mt_tpE2, mt_tpE3, mt_tpE4, mt_b00, mt_b01, mt_b02, mt_b03, mt_b04, mt_dvf, mt_dvt]
  grind
theorem mt_pv10_2 (t : Nat → Int32) : mt_pc t (mt_wy 10) 2 = 0 := by
  rw [mt_pw10]
  simp only [mt_tp0, mt_tpE1, mt_tpE2, mt_tpE3, mt_tpE4, mt_b00, mt_b01, mt_b02, mt_b03, mt_b04, mt_dvf, mt_dvt]
  grind
theorem mt_pv10_3 (t : Nat → Int32) : mt_pc t (mt_wy 10) 3 = 0 := by
  rw [mt_pw10]
  simp only [mt_tp0, mt_tpE1, mt_tpE2, mt_tpE3, mt_tpE4, mt_b00, mt_b01, mt_b02, mt_b03, mt_b04, mt_dvf, mt_dvt]
  grind
theorem mt_pv10_4 (t : Nat → Int32) : mt_pc t (mt_wy 10) 4 = 0 := by
  rw [mt_pw10]
  simp only [mt_tp0, mt_tpE1, mt_tpE2, mt_tpE3, mt_tpE4, mt_b00, mt_b01, mt_b02, mt_b03, mt_b04, mt_dvf, mt_dvt]
  grind
theorem mt_pv11_0 (t : Nat → Int32) : mt_pc t (mt_wy 11) 0 = t 0 * t 6 * t 11 * t 13 := by
  rw [mt_pw11]
  simp only [mt_tp0, mt_tpE1, mt_tpE2, mt_tpE3, mt_tpE4, mt_b00, mt_b01, mt_b02, mt_b03, mt_b04, mt_dvf, mt_dvt]
  grind
theorem mt_pv11_1 (t : Nat → Int32) : mt_pc t (mt_wy 11) 1 = -(t 6 * t 11 * t 13) := by
  rw [mt_pw11]
  simp only [mt_tp0, mt_tpE1, mt_tpE2, mt_tpE3, mt_tpE4, mt_b00, mt_b01, mt_b02, mt_b03, mt_b04, mt_dvf, mt_dvt]
  grind
theorem mt_pv11_2 (t : Nat → Int32) : mt_pc t (mt_wy 11) 2 = 0 := by
  rw [mt_pw11]
  simp only [mt_tp0, mt_tpE1, mt_tpE2, mt_tpE3, mt_tpE4, mt_b00, mt_b01, mt_b02, mt_b03, mt_b04, mt_dvf, mt_dvt]
  grind
theorem mt_pv11_3 (t : Nat → Int32) : mt_pc t (mt_wy 11) 3 = 0 := by
  rw [mt_pw11]
  simp only [mt_tp0, mt_tpE1, mt_tpE2, mt_tpE3, mt_tpE4, mt_b00, mt_b01, mt_b02, mt_b03, mt_b04, mt_dvf, mt_dvt]
  grind
theorem mt_pv11_4 (t : Nat → Int32) : mt_pc t (mt_wy 11) 4 = 0 := by
  rw [mt_pw11]
  simp only [mt_tp0, mt_tpE1, mt_tpE2, mt_tpE3, mt_tpE4, mt_b00, mt_b01, mt_b02, mt_b03, mt_b04, mt_dvf, mt_dvt]
  grind
theorem mt_pv12_0 (t : Nat → Int32) : mt_pc t (mt_wy 12) 0 = t 3 * t 5 * t 8 * t 14 := by
  rw [mt_pw12]
  simp only [mt_tp0, mt_tpE1, mt_tpE2, mt_tpE3, mt_tpE4, mt_b00, mt_b01, mt_b02, mt_b03, mt_b04, mt_dvf, mt_dvt]
  grind
theorem mt_pv12_1 (t : Nat → Int32) : mt_pc t (mt_wy 12) 1 = -(t 3 * t 8 * t 14) := by
  rw [mt_pw12]
  simp only [mt_tp0, mt_tpE1, mt_tpE2, mt_tpE3, mt_tpE4, mt_b00, mt_b01, mt_b02, mt_b03, mt_b04, mt_dvf, mt_dvt]
  grind
theorem mt_pv12_2 (t : Nat → Int32) : mt_pc t (mt_wy 12) 2 = 0 := by
  rw [mt_pw12]
  simp only [mt_tp0, mt_tpE1, mt_tpE2, mt_tpE3, mt_tpE4, mt_b00, mt_b01, mt_b02, mt_b03, mt_b04, mt_dvf, mt_dvt]
  grind
theorem mt_pv12_3 (t : Nat → Int32) : mt_pc t (mt_wy 12) 3 = 0 := by
  rw [mt_pw12]
  simp only [mt_tp0, mt_tpE1, mt_tpE2, mt_tpE3, mt_tpE4, mt_b00, mt_b01, mt_b02, mt_b03, mt_b04, mt_dvf, mt_dvt]
  grind
theorem mt_pv12_4 (t : Nat → Int32) : mt_pc t (mt_wy 12) 4 = 0 := by
  rw [mt_pw12]
  simp only [mt_tp0, mt_tpE1, mt_tpE2, mt_tpE3, mt_tpE4, mt_b00, mt_b01, mt_b02, mt_b03, mt_b04, mt_dvf, mt_dvt]
  grind
theorem mt_pv13_0 (t : Nat → Int32) : mt_pc t (mt_wy 13) 0 = -(t 1 * t 7 * t 8 * t 14) := by
  rw [mt_pw13]
  simp only [mt_tp0, mt_tpE1, mt_tpE2, mt_tpE3, mt_tpE4, mt_b00, mt_b01, mt_b02, mt_b03, mt_b04, mt_dvf, mt_dvt]
  grind
theorem mt_pv13_1 (t : Nat → Int32) : mt_pc t (mt_wy 13) 1 = 0 := by
  rw [mt_pw13]
  simp only [mt_tp0, mt_tpE1, mt_tpE2, mt_tpE3, mt_tpE4, mt_b00, mt_b01, mt_b02, mt_b03, mt_b04, mt_dvf, mt_dvt]
  grind
theorem mt_pv13_2 (t : Nat → Int32) : mt_pc t (mt_wy 13) 2 = 0 := by
  rw [mt_pw13]
  simp only [mt_tp0, mt_tpE1, mt_tpE2, mt_tpE3, mt_tpE4, mt_b00, mt_b01, mt_b02, mt_b03, mt_b04, mt_dvf, mt_dvt]
  grind
theorem mt_pv13_3 (t : Nat → Int32) : mt_pc t (mt_wy 13) 3 = 0 := by
  rw [mt_pw13]
  simp only [mt_tp0, mt_tpE1, mt_tpE2, mt_tpE3, mt_tpE4, mt_b00, mt_b01, mt_b02, mt_b03, mt_b04, mt_dvf, mt_dvt]
  grind
theorem mt_pv13_4 (t : Nat → Int32) : mt_pc t (mt_wy 13) 4 = 0 := by
  rw [mt_pw13]
  simp only [mt_tp0, mt_tpE1, mt_tpE2, mt_tpE3, mt_tpE4, mt_b00, mt_b01, mt_b02, mt_b03, mt_b04, mt_dvf, mt_dvt]
  grind
theorem mt_pv14_0 (t : Nat → Int32) : mt_pc t (mt_wy 14) 0 = -(t 3 * t 4 * t 9 * t 14) := by
  rw [mt_pw14]
  simp only [mt_tp0, mt_tpE1, mt_tpE2, mt_tpE3, mt_tpE4, mt_b00, mt_b01, mt_b02, mt_b03, mt_b04, mt_dvf, mt_dvt]
  grind
theorem mt_pv14_1 (t : Nat → Int32) : mt_pc t (mt_wy 14) 1 = 0 := by
  rw [mt_pw14]
  simp only [mt_tp0, mt_tpE1, mt_tpE2, mt_tpE3, mt_tpE4, mt_b00, mt_b01, mt_b02, mt_b03, mt_b04, mt_dvf, mt_dvt]
  grind
theorem mt_pv14_2 (t : Nat → Int32) : mt_pc t (mt_wy 14) 2 = 0 := by
  rw [mt_pw14]
  simp only [mt_tp0, mt_tpE1, mt_tpE2, mt_tpE3, mt_tpE4, mt_b00, mt_b01, mt_b02, mt_b03, mt_b04, mt_dvf, mt_dvt]
  grind
theorem mt_pv14_3 (t : Nat → Int32) : mt_pc t (mt_wy 14) 3 = 0 := by
  rw [mt_pw14]
  simp only [mt_tp0, mt_tpE1, mt_tpE2, mt_tpE3, mt_tpE4, mt_b00, mt_b01, mt_b02, mt_b03, mt_b04, mt_dvf, mt_dvt]
  grind
theorem mt_pv14_4 (t : Nat → Int32) : mt_pc t (mt_wy 14) 4 = 0 := by
  rw [mt_pw14]
  simp only [mt_tp0, mt_tpE1, mt_tpE2, mt_tpE3, mt_tpE4, mt_b00, mt_b01, mt_b02, mt_b03, mt_b04, mt_dvf, mt_dvt]
  grind
theorem mt_pv15_0 (t : Nat → Int32) : mt_pc t (mt_wy 15) 0 = t 0 * t 7 * t 9 * t 14 := by
  rw [mt_pw15]
  simp only [mt_tp0, mt_tpE1, mt_tpE2, mt_tpE3, mt_tpE4, mt_b00, mt_b01, mt_b02, mt_b03, mt_b04, mt_dvf, mt_dvt]
  grind
theorem mt_pv15_1 (t : Nat → Int32) : mt_pc t (mt_wy 15) 1 = -(t 7 * t 9 * t 14) := by
  rw [mt_pw15]
  simp only [mt_tp0, mt_tpE1, mt_tpE2, mt_tpE3, mt_tpE4, mt_b00, mt_b01, mt_b02, mt_b03, mt_b04, mt_dvf, mt_dvt]
  grind
theorem mt_pv15_2 (t : Nat → Int32) : mt_pc t (mt_wy 15) 2 = 0 := by
  rw [mt_pw15]
  simp only [mt_tp0, mt_tpE1, mt_tpE2, mt_tpE3, mt_tpE4, mt_b00, mt_b01, mt_b02, mt_b03, mt_b04, mt_dvf, mt_dvt]
  grind
theorem mt_pv15_3 (t : Nat → Int32) : mt_pc t (mt_wy 15) 3 = 0 := by
  rw [mt_pw15]
  simp only [mt_tp0, mt_tpE1, mt_tpE2, mt_tpE3, mt_tpE4, mt_b00, mt_b01, mt_b02, mt_b03, mt_b04, mt_dvf, mt_dvt]
  grind
theorem mt_pv15_4 (t : Nat → Int32) : mt_pc t (mt_wy 15) 4 = 0 := by
  rw [mt_pw15]
  simp only [mt_tp0, mt_tpE1, mt_tpE2, mt_tpE3, mt_tpE4, mt_b00, mt_b01, mt_b02, mt_b03, mt_b04, mt_dvf, mt_dvt]
  grind
theorem mt_pv16_0 (t : Nat → Int32) : mt_pc t (mt_wy 16) 0 = t 1 * t 4 * t 11 * t 14 := by
  rw [mt_pw16]
  simp only [mt_tp0, mt_tpE1, mt_tpE2, mt_tpE3, mt_tpE4, mt_b00, mt_b01, mt_b02, mt_b03, mt_b04, mt_dvf, mt_dvt]
  grind
theorem mt_pv16_1 (t : Nat → Int32) : mt_pc t (mt_wy 16) 1 = 0 := by
  rw [mt_pw16]
  simp only [mt_tp0, mt_tpE1, mt_tpE2, mt_tpE3, mt_tpE4, mt_b00, mt_b01, mt_b02, mt_b03, mt_b04, mt_dvf, mt_dvt]
  grind
theorem mt_pv16_2 (t : Nat → Int32) : mt_pc t (mt_wy 16) 2 = 0 := by
  rw [mt_pw16]
  simp only [mt_tp0, mt_tpE1, mt_tpE2, mt_tpE3, mt_tpE4, mt_b00, mt_b01, mt_b02, mt_b03, mt_b04, mt_dvf, mt_dvt]
  grind
theorem mt_pv16_3 (t : Nat → Int32) : mt_pc t (mt_wy 16) 3 = 0 := by
  rw [mt_pw16]
  simp only [mt_tp0, mt_tpE1, mt_tpE2, mt_tpE3, mt_tpE4, mt_b00, mt_b01, mt_b02, mt_b03, mt_b04, mt_dvf, mt_dvt]
  grind
theorem mt_pv16_4 (t : Nat → Int32) : mt_pc t (mt_wy 16) 4 = 0 := by
  rw [mt_pw16]
  simp only [mt_tp0, mt_tpE1, mt_tpE2, mt_tpE3, mt_tpE4, mt_b00, mt_b01, mt_b02, mt_b03, mt_b04, mt_dvf, mt_dvt]
  grind
theorem mt_pv17_0 (t : Nat → Int32) : mt_pc t (mt_wy 17) 0 = -(t 0 * t 5 * t 11 * t 14) := by
  rw [mt_pw17]
  simp only [mt_tp0, mt_tpE1, mt_tpE2, mt_tpE3, mt_tpE4, mt_b00, mt_b01, mt_b02, mt_b03, mt_b04, mt_dvf, mt_dvt]
  grind
theorem mt_pv17_1 (t : Nat → Int32) : mt_pc t (mt_wy 17) 1 = t 0 * t 11 * t 14 + t 5 * t 11 * t 14 := by
  rw [mt_pw17]
  simp only [mt_tp0, mt_tpE1, mt_tpE2, mt_tpE3, mt_tpE4, mt_b00, mt_b01, mt_b02, mt_b03, mt_b04, mt_dvf, mt_dvt]
  grind
theorem mt_pv17_2 (t : Nat → Int32) : mt_pc t (mt_wy 17) 2 = -(t 11 * t 14) := by
  rw [mt_pw17]
  simp only [mt_tp0, mt_tpE1, mt_tpE2, mt_tpE3, mt_tpE4, mt_b00, mt_b01, mt_b02, mt_b03, mt_b04, mt_dvf, mt_dvt]
  grind
theorem mt_pv17_3 (t : Nat → Int32) : mt_pc t (mt_wy 17) 3 = 0 := by
  rw [mt_pw17]
  simp only [mt_tp0, mt_tpE1, mt_tpE2, mt_tpE3, mt_tpE4, mt_b00, mt_b01, mt_b02, mt_b03, mt_b04, mt_dvf, mt_dvt]
  grind
theorem mt_pv17_4 (t : Nat → Int32) : mt_pc t (mt_wy 17) 4 = 0 := by
  rw [mt_pw17]
  simp only [mt_tp0, mt_tpE1, mt_tpE2, mt_tpE3, mt_tpE4, mt_b00, mt_b01, mt_b02, mt_b03, mt_b04, mt_dvf, mt_dvt]
  grind
theorem mt_pv18_0 (t : Nat → Int32) : mt_pc t (mt_wy 18) 0 = -(t 2 * t 5 * t 8 * t 15) := by
  rw [mt_pw18]
  simp only [mt_tp0, mt_tpE1, mt_tpE2, mt_tpE3, mt_tpE4, mt_b00, mt_b01, mt_b02, mt_b03, mt_b04, mt_dvf, mt_dvt]
  grind
theorem mt_pv18_1 (t : Nat → Int32) : mt_pc t (mt_wy 18) 1 = t 2 * t 5 * t 8 + t 2 * t 8 * t 15 := by
  rw [mt_pw18]
  simp only [mt_tp0, mt_tpE1, mt_tpE2, mt_tpE3, mt_tpE4, mt_b00, mt_b01, mt_b02, mt_b03, mt_b04, mt_dvf, mt_dvt]
  grind
theorem mt_pv18_2 (t : Nat → Int32) : mt_pc t (mt_wy 18) 2 = -(t 2 * t 8) := by
  rw [mt_pw18]
  simp only [mt_tp0, mt_tpE1, mt_tpE2, mt_tpE3, mt_tpE4, mt_b00, mt_b01, mt_b02, mt_b03, mt_b04, mt_dvf, mt_dvt]
  grind
theorem mt_pv18_3 (t : Nat → Int32) : mt_pc t (mt_wy 18) 3 = 0 := by
  rw [mt_pw18]
  simp only [mt_tp0, mt_tpE1, mt_tpE2, mt_tpE3, mt_tpE4, mt_b00, mt_b01, mt_b02, mt_b03, mt_b04, mt_dvf, mt_dvt]
  grind
theorem mt_pv18_4 (t : Nat → Int32) : mt_pc t (mt_wy 18) 4 = 0 := by
  rw [mt_pw18]
  simp only [mt_tp0, mt_tpE1, mt_tpE2, mt_tpE3, mt_tpE4, mt_b00, mt_b01, mt_b02, mt_b03, mt_b04, mt_dvf, mt_dvt]
  grind
theorem mt_pv19_0 (t : Nat → Int32) : mt_pc t (mt_wy 19) 0 = t 1 * t 6 * t 8 * t 15 := by
  rw [mt_pw19]
  simp only [mt_tp0, mt_tpE1, mt_tpE2, mt_tpE3, mt_tpE4, mt_b00, mt_b01, mt_b02, mt_b03, mt_b04, mt_dvf, mt_dvt]
  grind
theorem mt_pv19_1 (t : Nat → Int32) : mt_pc t (mt_wy 19) 1 = -(t 1 * t 6 * t 8) := by
  rw [mt_pw19]
  simp only [mt_tp0, mt_tpE1, mt_tpE2, mt_tpE3, mt_tpE4, mt_b00, mt_b01, mt_b02, mt_b03, mt_b04, mt_dvf, mt_dvt]
  grind
theorem mt_pv19_2 (t : Nat → Int32) : mt_pc t (mt_wy 19) 2 = 0 := by
  rw [mt_pw19]
  simp only [mt_tp0, mt_tpE1, mt_tpE2, mt_tpE3, mt_tpE4, mt_b00, mt_b01, mt_b02, mt_b03, mt_b04, mt_dvf, mt_dvt]
  grind
theorem mt_pv19_3 (t : Nat → Int32) : mt_pc t (mt_wy 19) 3 = 0 := by
  rw [mt_pw19]
  simp only [mt_tp0, mt_tpE1, mt_tpE2, mt_tpE3, mt_tpE4, mt_b00, mt_b01, mt_b02, mt_b03, mt_b04, mt_dvf, mt_dvt]
  grind
theorem mt_pv19_4 (t : Nat → Int32) : mt_pc t (mt_wy 19) 4 = 0 := by
  rw [mt_pw19]
  simp only [mt_tp0, mt_tpE1, mt_tpE2, mt_tpE3, mt_tpE4, mt_b00, mt_b01, mt_b02, mt_b03, mt_b04, mt_dvf, mt_dvt]
  grind
theorem mt_pv20_0 (t : Nat → Int32) : mt_pc t (mt_wy 20) 0 = t 2 * t 4 * t 9 * t 15 := by
  rw [mt_pw20]
  simp only [mt_tp0, mt_tpE1, mt_tpE2, mt_tpE3, mt_tpE4, mt_b00, mt_b01, mt_b02, mt_b03, mt_b04, mt_dvf, mt_dvt]
  grind
theorem mt_pv20_1 (t : Nat → Int32) : mt_pc t (mt_wy 20) 1 = -(t 2 * t 4 * t 9) := by
  rw [mt_pw20]
  simp only [mt_tp0, mt_tpE1, mt_tpE2, mt_tpE3, mt_tpE4, mt_b00, mt_b01, mt_b02, mt_b03, mt_b04, mt_dvf, mt_dvt]
  grind
theorem mt_pv20_2 (t : Nat → Int32) : mt_pc t (mt_wy 20) 2 = 0 := by
  rw [mt_pw20]
  simp only [mt_tp0, mt_tpE1, mt_tpE2, mt_tpE3, mt_tpE4, mt_b00, mt_b01, mt_b02, mt_b03, mt_b04, mt_dvf, mt_dvt]
  grind
theorem mt_pv20_3 (t : Nat → Int32) : mt_pc t (mt_wy 20) 3 = 0 := by
  rw [mt_pw20]
  simp only [mt_tp0, mt_tpE1, mt_tpE2, mt_tpE3, mt_tpE4, mt_b00, mt_b01, mt_b02, mt_b03, mt_b04, mt_dvf, mt_dvt]
  grind
theorem mt_pv20_4 (t : Nat → Int32) : mt_pc t (mt_wy 20) 4 = 0 := by
  rw [mt_pw20]
  simp only [mt_tp0, mt_tpE1, mt_tpE2, mt_tpE3, mt_tpE4, mt_b00, mt_b01, mt_b02, mt_b03, mt_b04, mt_dvf, mt_dvt]
  grind
theorem mt_pv21_0 (t : Nat → Int32) : mt_pc t (mt_wy 21) 0 = -(t 0 * t 6 * t 9 * t 15) := by
  rw [mt_pw21]
  simp only [mt_tp0, mt_tpE1, mt_tpE2, mt_tpE3, mt_tpE4, mt_b00, mt_b01, mt_b02, mt_b03, mt_b04, mt_dvf, mt_dvt]
  grind
theorem mt_pv21_1 (t : Nat → Int32) : mt_pc t (mt_wy 21) 1 = t 0 * t 6 * t 9 + t 6 * t 9 * t 15 := by
  rw [mt_pw21]
  simp only [mt_tp0, mt_tpE1, mt_tpE2, mt_tpE3, mt_tpE4, mt_b00, mt_b01, mt_b02, mt_b03, mt_b04, mt_dvf, mt_dvt]
  grind
theorem mt_pv21_2 (t : Nat → Int32) : mt_pc t (mt_wy 21) 2 = -(t 6 * t 9) := by
  rw [mt_pw21]
  simp only [mt_tp0, mt_tpE1, mt_tpE2, mt_tpE3, mt_tpE4, mt_b00, mt_b01, mt_b02, mt_b03, mt_b04, mt_dvf, mt_dvt]
  grind
theorem mt_pv21_3 (t : Nat → Int32) : mt_pc t (mt_wy 21) 3 = 0 := by
  rw [mt_pw21]
  simp only [mt_tp0, mt_tpE1, mt_tpE2, mt_tpE3, mt_tpE4, mt_b00, mt_b01, mt_b02, mt_b03, mt_b04, mt_dvf, mt_dvt]
  grind
theorem mt_pv21_4 (t : Nat → Int32) : mt_pc t (mt_wy 21) 4 = 0 := by
  rw [mt_pw21]
  simp only [mt_tp0, mt_tpE1, mt_tpE2, mt_tpE3, mt_tpE4, mt_b00, mt_b01, mt_b02, mt_b03, mt_b04, mt_dvf, mt_dvt]
  grind
theorem mt_pv22_0 (t : Nat → Int32) : mt_pc t (mt_wy 22) 0 = -(t 1 * t 4 * t 10 * t 15) := by
  rw [mt_pw22]
  simp only [mt_tp0, mt_tpE1, mt_tpE2, mt_tpE3, mt_tpE4, mt_b00, mt_b01, mt_b02, mt_b03, mt_b04, mt_dvf, mt_dvt]
  grind
theorem mt_pv22_1 (t : Nat → Int32) : mt_pc t (mt_wy 22) 1 = t 1 * t 4 * t 10 + t 1 * t 4 * t 15 := by
  rw [mt_pw22]
  simp only [mt_tp0, mt_tpE1, mt_tpE2, mt_tpE3, mt_tpE4, mt_b00, mt_b01, mt_b02, mt_b03, mt_b04, mt_dvf, mt_dvt]
  grind
theorem mt_pv22_2 (t : Nat → Int32) : mt_pc t (mt_wy 22) 2 = -(t 1 * t 4) := by
  rw [mt_pw22]
  simp only [mt_tp0, mt_tpE1, mt_tpE2, mt_tpE3, mt_tpE4, mt_b00, mt_b01, mt_b02, mt_b03, mt_b04, mt_dvf, mt_dvt]
  grind
theorem mt_pv22_3 (t : Nat → Int32) : mt_pc t (mt_wy 22) 3 = 0 := by
  rw [mt_pw22]
  simp only [mt_tp0, mt_tpE1, mt_tpE2, mt_tpE3, mt_tpE4, mt_b00, mt_b01, mt_b02, mt_b03, mt_b04, mt_dvf, mt_dvt]
  grind
theorem mt_pv22_4 (t : Nat → Int32) : mt_pc t (mt_wy 22) 4 = 0 := by
  rw [mt_pw22]
  simp only [mt_tp0, mt_tpE1, mt_tpE2, mt_tpE3, mt_tpE4, mt_b00, mt_b01, mt_b02, mt_b03, mt_b04, mt_dvf, mt_dvt]
  grind
theorem mt_pv23_0 (t : Nat → Int32) : mt_pc t (mt_wy 23) 0 = t 0 * t 5 * t 10 * t 15 := by
  rw [mt_pw23]
  simp only [mt_tp0, mt_tpE1, mt_tpE2, mt_tpE3, mt_tpE4, mt_b00, mt_b01, mt_b02, mt_b03, mt_b04, mt_dvf, mt_dvt]
  grind
theorem mt_pv23_1 (t : Nat → Int32) : mt_pc t (mt_wy 23) 1 = -(t 0 * t 5 * t 10) - t 0 * t 5 * t 15 - t 0 * t 10 * t 15 - t 5 * t 10 * t 15 := by
  rw [mt_pw23]
  simp only [mt_tp0, mt_tpE1, mt_tpE2, mt_tpE3, mt_tpE4, mt_b00, mt_b01, mt_b02, mt_b03, mt_b04, mt_dvf, mt_dvt]
  grind
theorem mt_pv23_2 (t : Nat → Int32) : mt_pc t (mt_wy 23) 2 = t 0 * t 5 + t 0 * t 10 + t 0 * t 15 + t 5 * t 10 + t 5 * t 15 + t 10 * t 15 := by
  rw [mt_pw23]
  simp only [mt_tp0, mt_tpE1, mt_tpE2, mt_tpE3, mt_tpE4, mt_b00, mt_b01, mt_b02, mt_b03, mt_b04, mt_dvf, mt_dvt]
  grind
theorem mt_pv23_3 (t : Nat → Int32) : mt_pc t (mt_wy 23) 3 = -(t 0) - t 5 - t 10 - t 15 := by
  rw [mt_pw23]
  simp only [mt_tp0, mt_tpE1, mt_tpE2, mt_tpE3, mt_tpE4, mt_b00, mt_b01, mt_b02, mt_b03, mt_b04, mt_dvf, mt_dvt]
  grind
theorem mt_pv23_4 (t : Nat → Int32) : mt_pc t (mt_wy 23) 4 = 1 := by
  rw [mt_pw23]
  simp only [mt_tp0, mt_tpE1, mt_tpE2, mt_tpE3, mt_tpE4, mt_b00, mt_b01, mt_b02, mt_b03, mt_b04, mt_dvf, mt_dvt]
  grind
end
section
theorem mt_cf0 (t : Nat → Int32) : mt_cf t 0 = mt_e4 t := by
  show ((((((((((((((((((((((((0 + mt_pc t (mt_wy 0) 0) + mt_pc t (mt_wy 1) 0) + mt_pc t (mt_wy 2) 0) + mt_pc t (mt_wy 3) 0) + mt_pc t (mt_wy 4) 0) + mt_pc t (mt_wy 5) 0) + mt_pc t (mt_wy 6) 0) + mt_pc t (mt_wy 7) 0) + mt_pc t (mt_wy 8) 0) + mt_pc t (mt_wy 9) 0) + mt_pc t (mt_wy 10) 0) + mt_pc t (mt_wy 11) 0) + mt_pc t (mt_wy 12) 0) + mt_pc t (mt_wy 13) 0) + mt_pc t (mt_wy 14) 0) + mt_pc t (mt_wy 15) 0) + mt_pc t (mt_wy 16) 0) + mt_pc t (mt_wy 17) 0) + mt_pc t (mt_wy 18) 0) + mt_pc t (mt_wy 19) 0) + mt_pc t (mt_wy 20) 0) + mt_pc t (mt_wy 21) 0) + mt_pc t (mt_wy 22) 0) + mt_pc t (mt_wy 23) 0) = _
  rw [mt_pv0_0, mt_pv1_0, mt_pv2_0, mt_pv3_0, mt_pv4_0, mt_pv5_0, mt_pv6_0, mt_pv7_0, mt_pv8_0, mt_pv9_0, mt_pv10_0, mt_pv11_0, mt_pv12_0, mt_pv13_0, mt_pv14_0, mt_pv15_0, mt_pv16_0, mt_pv17_0, mt_pv18_0, mt_pv19_0, mt_pv20_0, mt_pv21_0, mt_pv22_0, mt_pv23_0, mt_e4]
  grind
theorem mt_cf1 (t : Nat → Int32) : mt_cf t 1 = -mt_e3 t := by
  show ((((((((((((((((((((((((0 + mt_pc t (mt_wy 0) 1) + mt_pc t (mt_wy 1) 1) + mt_pc t (mt_wy 2) 1) + mt_pc t (mt_wy 3) 1) + mt_pc t (mt_wy 4) 1) + mt_pc t (mt_wy 5) 1) + mt_pc t (mt_wy 6) 1) + mt_pc t (mt_wy 7) 1) + mt_pc t (mt_wy 8) 1) + mt_pc t (mt_wy 9) 1) + mt_pc t (mt_wy 10) 1) + mt_pc t (mt_wy 11) 1) + mt_pc t (mt_wy 12) 1) + mt_pc t (mt_wy 13) 1) + mt_pc t (mt_wy 14) 1) + mt_pc t (mt_wy 15) 1) + mt_pc t (mt_wy 16) 1) + mt_pc t (mt_wy 17) 1) + mt_pc t (mt_wy 18) 1) + mt_pc t (mt_wy 19) 1) + mt_pc t (mt_wy 20) 1) + mt_pc t (mt_wy 21) 1) + mt_pc t (mt_wy 22) 1) + mt_pc t (mt_wy 23) 1) = _
  rw [mt_pv0_1, mt_pv1_1, mt_pv2_1, mt_pv3_1, mt_pv4_1, mt_pv5_1, mt_pv6_1, mt_pv7_1, mt_pv8_1, mt_pv9_1, mt_pv10_1, mt_pv11_1, mt_pv12_1, mt_pv13_1, mt_pv14_1, mt_pv15_1, mt_pv16_1, mt_pv17_1, mt_pv18_1, mt_pv19_1, mt_pv20_1, mt_pv21_1, mt_pv22_1, mt_pv23_1, mt_e3]
  grind
theorem mt_cf2 (t : Nat → Int32) : mt_cf t 2 = mt_e2 t := by
  show ((((((((((((((((((((((((0 + mt_pc t (mt_wy 0) 2) + mt_pc t (mt_wy 1) 2) + mt_pc t (mt_wy 2) 2) + mt_pc t (mt_wy 3) 2) + mt_pc t (mt_wy 4) 2) + mt_pc t (mt_wy 5) 2) + mt_pc t (mt_wy 6) 2) + mt_pc t (mt_wy 7) 2) + mt_pc t (mt_wy 8) 2) + mt_pc t (mt_wy 9) 2) + mt_pc t (mt_wy 10) 2) + mt_pc t (mt_wy 11) 2) + mt_pc t (mt_wy 12) 2) + mt_pc t (mt_wy 13) 2) + mt_pc t (mt_wy 14) 2) + mt_pc t (mt_wy 15) 2) + mt_pc t (mt_wy 16) 2) + mt_pc t (mt_wy 17) 2) + mt_pc t (mt_wy 18) 2) + mt_pc t (mt_wy 19) 2) + mt_pc t (mt_wy 20) 2) + mt_pc t (mt_wy 21) 2) + mt_pc t (mt_wy 22) 2) + mt_pc t (mt_wy 23) 2) = _
  rw [mt_pv0_2, mt_pv1_2, mt_pv2_2, mt_pv3_2, mt_pv4_2, mt_pv5_2, mt_pv6_2, mt_pv7_2, mt_pv8_2, mt_pv9_2, mt_pv10_2, mt_pv11_2, mt_pv12_2, mt_pv13_2, mt_pv14_2, mt_pv15_2, mt_pv16_2, mt_pv17_2, mt_pv18_2, mt_pv19_2, mt_pv20_2, mt_pv21_2, mt_pv22_2, mt_pv23_2, mt_e2]
  grind
theorem mt_cf3 (t : Nat → Int32) : mt_cf t 3 = -mt_e1 t := by
  show ((((((((((((((((((((((((0 + mt_pc t (mt_wy 0) 3) + mt_pc t (mt_wy 1) 3) + mt_pc t (mt_wy 2) 3) + mt_pc t (mt_wy 3) 3) + mt_pc t (mt_wy 4) 3) + mt_pc t (mt_wy 5) 3) + mt_pc t (mt_wy 6) 3) + mt_pc t (mt_wy 7) 3) + mt_pc t (mt_wy 8) 3) + mt_pc t (mt_wy 9) 3) + mt_pc t (mt_wy 10) 3) + mt_pc t (mt_wy 11) 3) + mt_pc t (mt_wy 12) 3) + mt_pc t (mt_wy 13) 3) + mt_pc t (mt_wy 14) 3) + mt_pc t (mt_wy 15) 3) + mt_pc t (mt_wy 16) 3) + mt_pc t (mt_wy 17) 3) + mt_pc t (mt_wy 18) 3) + mt_pc t (mt_wy 19) 3) + mt_pc t (mt_wy 20) 3) + mt_pc t (mt_wy 21) 3) + mt_pc t (mt_wy 22) 3) + mt_pc t (mt_wy 23) 3) = _
  rw [mt_pv0_3, mt_pv1_3, mt_pv2_3, mt_pv3_3, mt_pv4_3, mt_pv5_3, mt_pv6_3, mt_pv7_3, mt_pv8_3, mt_pv9_3, mt_pv10_3, mt_pv11_3, mt_pv12_3, mt_pv13_3, mt_pv14_3, mt_pv15_3, mt_pv16_3, mt_pv17_3, mt_pv18_3, mt_pv19_3, mt_pv20_3, mt_pv21_3, mt_pv22_3, mt_pv23_3, mt_e1]
  grind
theorem mt_cf4 (t : Nat → Int32) : mt_cf t 4 = 1 := by
  show ((((((((((((((((((((((((0 + mt_pc t (mt_wy 0) 4) + mt_pc t (mt_wy 1) 4) + mt_pc t (mt_wy 2) 4) + mt_pc t (mt_wy 3) 4) + mt_pc t (mt_wy 4) 4) + mt_pc t (mt_wy 5) 4) + mt_pc t (mt_wy 6) 4) + mt_pc t (mt_wy 7) 4) + mt_pc t (mt_wy 8) 4) + mt_pc t (mt_wy 9) 4) + mt_pc t (mt_wy 10) 4) + mt_pc t (mt_wy 11) 4) + mt_pc t (mt_wy 12) 4) + mt_pc t (mt_wy 13) 4) + mt_pc t (mt_wy 14) 4) + mt_pc t (mt_wy 15) 4) + mt_pc t (mt_wy 16) 4) + mt_pc t (mt_wy 17) 4) + mt_pc t (mt_wy 18) 4) + mt_pc t (mt_wy 19) 4) + mt_pc t (mt_wy 20) 4) + mt_pc t (mt_wy 21) 4) + mt_pc t (mt_wy 22) 4) + mt_pc t (mt_wy 23) 4) = _
  rw [mt_pv0_4, mt_pv1_4, mt_pv2_4, mt_pv3_4, mt_pv4_4, mt_pv5_4, mt_pv6_4, mt_pv7_4, mt_pv8_4, mt_pv9_4, mt_pv10_4, mt_pv11_4, mt_pv12_4, mt_pv13_4, mt_pv14_4, mt_pv15_4, mt_pv16_4, mt_pv17_4, mt_pv18_4, mt_pv19_4, mt_pv20_4, mt_pv21_4, mt_pv22_4, mt_pv23_4]
  grind
theorem mt_cX4 (t : Nat → Int32) : mt_cX t 4 = 1 := rfl
theorem mt_cX3 {t : Nat → Int32} (h : ∀ j, mt_Bd 9 (t j)) : mt_cX t 3 = -mt_e1 t := mt_v1 h
theorem mt_cX2 {t : Nat → Int32} (h : ∀ j, mt_Bd 9 (t j)) : mt_cX t 2 = mt_e2 t := mt_v2 h
theorem mt_cX1 {t : Nat → Int32} (h : ∀ j, mt_Bd 9 (t j)) : mt_cX t 1 = -mt_e3 t := mt_v3 h
theorem mt_cX0 {t : Nat → Int32} (h : ∀ j, mt_Bd 9 (t j)) : mt_cX t 0 = mt_e4 t := mt_v4 h
theorem mt_cXf {t : Nat → Int32} (h : ∀ j, mt_Bd 9 (t j)) {k : Nat} (hk : k < 5) : mt_cX t k = mt_cf t k := by
  have h2 : k = 0 ∨ k = 1 ∨ k = 2 ∨ k = 3 ∨ k = 4 := by omega
  rcases h2 with e | e | e | e | e <;> subst e
  · rw [mt_cX0 h, mt_cf0]
  · rw [mt_cX1 h, mt_cf1]
  · rw [mt_cX2 h, mt_cf2]
  · rw [mt_cX3 h, mt_cf3]
  · rw [mt_cX4, mt_cf4]
theorem mt_ift {a b : Int32} : (if true = true then a else b) = a := rfl
theorem mt_iff {a b : Int32} : (if false = true then a else b) = b := rfl
end
section
theorem mt_mn15 (t : Nat → Int32) : mt_minor t 15 15 = mt_e4 t := by
  rw [mt_minorE t (by decide) (l := [(false, [3, 6, 9, 12]), (true, [2, 7, 9, 12]), (true, [3, 5, 10, 12]), (false, [1, 7, 10, 12]), (false, [2, 5, 11, 12]), (true, [1, 6, 11, 12]), (true, [3, 6, 8, 13]), (false, [2, 7, 8, 13]), (false, [3, 4, 10, 13]), (true, [0, 7, 10, 13]), (true, [2, 4, 11, 13]), (false, [0, 6, 11, 13]), (false, [3, 5, 8, 14]), (true, [1, 7, 8, 14]), (true, [3, 4, 9, 14]), (false, [0, 7, 9, 14]), (false, [1, 4, 11, 14]), (true, [0, 5, 11, 14]), (true, [2, 5, 8, 15]), (false, [1, 6, 8, 15]), (false, [2, 4, 9, 15]), (true, [0, 6, 9, 15]), (true, [1, 4, 10, 15]), (false, [0, 5, 10, 15])]) (by decide +kernel), mt_e4]
  simp only [mt_ev, mt_pe, mt_ift, mt_iff]
  grind
theorem mt_cof0_0 {t : Nat → Int32} (h : ∀ j, mt_Bd 9 (t j)) : -mt_S4 t 0 = mt_minor t 14 14 := by
  rw [mt_minorE t (by decide) (l := [(true, [7, 10, 13]), (false, [6, 11, 13]), (false, [7, 9, 14]), (true, [5, 11, 14]), (true, [6, 9, 15]), (false, [5, 10, 15])]) (by decide +kernel), mt_S4_0 h]
  simp only [mt_ev, mt_pe, mt_ift, mt_iff]
  grind
theorem mt_cof0_1 {t : Nat → Int32} (h : ∀ j, mt_Bd 9 (t j)) : -mt_S4 t 4 = -mt_minor t 14 13 := by
  rw [mt_minorE t (by decide) (l := [(true, [7, 10, 12]), (false, [6, 11, 12]), (false, [7, 8, 14]), (true, [4, 11, 14]), (true, [6, 8, 15]), (false, [4, 10, 15])]) (by decide +kernel), mt_S4_4 h]
  simp only [mt_ev, mt_pe, mt_ift, mt_iff]
  grind
theorem mt_cof0_2 {t : Nat → Int32} (h : ∀ j, mt_Bd 9 (t j)) : -mt_S4 t 8 = mt_minor t 14 11 := by
  rw [mt_minorE t (by decide) (l := [(true, [7, 9, 12]), (false, [5, 11, 12]), (false, [7, 8, 13]), (true, [4, 11, 13]), (true, [5, 8, 15]), (false, [4, 9, 15])]) (by decide +kernel), mt_S4_8 h]
  simp only [mt_ev, mt_pe, mt_ift, mt_iff]
  grind
theorem mt_cof0_3 {t : Nat → Int32} (h : ∀ j, mt_Bd 9 (t j)) : -mt_S4 t 12 = -mt_minor t 14 7 := by
  rw [mt_minorE t (by decide) (l := [(true, [6, 9, 12]), (false, [5, 10, 12]), (false, [6, 8, 13]), (true, [4, 10, 13]), (true, [5, 8, 14]), (false, [4, 9, 14])]) (by decide +kernel), mt_S4_12 h]
  simp only [mt_ev, mt_pe, mt_ift, mt_iff]
  grind
theorem mt_cof1_0 {t : Nat → Int32} (h : ∀ j, mt_Bd 9 (t j)) : -mt_S4 t 1 = -mt_minor t 13 14 := by
  rw [mt_minorE t (by decide) (l := [(true, [3, 10, 13]), (false, [2, 11, 13]), (false, [3, 9, 14]), (true, [1, 11, 14]), (true, [2, 9, 15]), (false, [1, 10, 15])]) (by decide +kernel), mt_S4_1 h]
  simp only [mt_ev, mt_pe, mt_ift, mt_iff]
  grind
theorem mt_cof1_1 {t : Nat → Int32} (h : ∀ j, mt_Bd 9 (t j)) : -mt_S4 t 5 = mt_minor t 13 13 := by
  rw [mt_minorE t (by decide) (l := [(true, [3, 10, 12]), (false, [2, 11, 12]), (false, [3, 8, 14]), (true, [0, 11, 14]), (true, [2, 8, 15]), (false, [0, 10, 15])]) (by decide +kernel), mt_S4_5 h]
  simp only [mt_ev, mt_pe, mt_ift, mt_iff]
  grind
theorem mt_cof1_2 {t : Nat → Int32} (h : ∀ j, mt_Bd 9 (t j)) : -mt_S4 t 9 = -mt_minor t 13 11 := by
  rw [mt_minorE t (by decide) (l := [(true, [3, 9, 12]), (false, [1, 11, 12]), (false, [3, 8, 13]), (true, [0, 11, 13]), (true, [1, 8, 15]), (false, [0, 9, 15])]) (by decide +kernel), mt_S4_9 h]
  simp only [mt_ev, mt_pe, mt_ift, mt_iff]
  grind
theorem mt_cof1_3 {t : Nat → Int32} (h : ∀ j, mt_Bd 9 (t j)) : -mt_S4 t 13 = mt_minor t 13 7 := by
  rw [mt_minorE t (by decide) (l := [(true, [2, 9, 12]), (false, [1, 10, 12]), (false, [2, 8, 13]), (true, [0, 10, 13]), (true, [1, 8, 14]), (false, [0, 9, 14])]) (by decide +kernel), mt_S4_13 h]
  simp only [mt_ev, mt_pe, mt_ift, mt_iff]
  grind
theorem mt_cof2_0 {t : Nat → Int32} (h : ∀ j, mt_Bd 9 (t j)) : -mt_S4 t 2 = mt_minor t 11 14 := by
  rw [mt_minorE t (by decide) (l := [(true, [3, 6, 13]), (false, [2, 7, 13]), (false, [3, 5, 14]), (true, [1, 7, 14]), (true, [2, 5, 15]), (false, [1, 6, 15])]) (by decide +kernel), mt_S4_2 h]
  simp only [mt_ev, mt_pe, mt_ift, mt_iff]
  grind
theorem mt_cof2_1 {t : Nat → Int32} (h : ∀ j, mt_Bd 9 (t j)) : -mt_S4 t 6 = -mt_minor t 11 13 := by
  rw [mt_minorE t (by decide) (l := [(true, [3, 6, 12]), (false, [2, 7, 12]), (false, [3, 4, 14]), (true, [0, 7, 14]), (true, [2, 4, 15]), (false, [0, 6, 15])]) (by decide +kernel), mt_S4_6 h]
  simp only [mt_ev, mt_pe, mt_ift, mt_iff]
  grind
theorem mt_cof2_2 {t : Nat → Int32} (h : ∀ j, mt_Bd 9 (t j)) : -mt_S4 t 10 = mt_minor t 11 11 := by
  rw [mt_minorE t (by decide) (l := [(true, [3, 5, 12]), (false, [1, 7, 12]), (false, [3, 4, 13]), (true, [0, 7, 13]), (true, [1, 4, 15]), (false, [0, 5, 15])]) (by decide +kernel), mt_S4_10 h]
  simp only [mt_ev, mt_pe, mt_ift, mt_iff]
  grind
theorem mt_cof2_3 {t : Nat → Int32} (h : ∀ j, mt_Bd 9 (t j)) : -mt_S4 t 14 = -mt_minor t 11 7 := by
  rw [mt_minorE t (by decide) (l := [(true, [2, 5, 12]), (false, [1, 6, 12]), (false, [2, 4, 13]), (true, [0, 6, 13]), (true, [1, 4, 14]), (false, [0, 5, 14])]) (by decide +kernel), mt_S4_14 h]
  simp only [mt_ev, mt_pe, mt_ift, mt_iff]
  grind
theorem mt_cof3_0 {t : Nat → Int32} (h : ∀ j, mt_Bd 9 (t j)) : -mt_S4 t 3 = -mt_minor t 7 14 := by
  rw [mt_minorE t (by decide) (l := [(true, [3, 6, 9]), (false, [2, 7, 9]), (false, [3, 5, 10]), (true, [1, 7, 10]), (true, [2, 5, 11]), (false, [1, 6, 11])]) (by decide +kernel), mt_S4_3 h]
  simp only [mt_ev, mt_pe, mt_ift, mt_iff]
  grind
theorem mt_cof3_1 {t : Nat → Int32} (h : ∀ j, mt_Bd 9 (t j)) : -mt_S4 t 7 = mt_minor t 7 13 := by
  rw [mt_minorE t (by decide) (l := [(true, [3, 6, 8]), (false, [2, 7, 8]), (false, [3, 4, 10]), (true, [0, 7, 10]), (true, [2, 4, 11]), (false, [0, 6, 11])]) (by decide +kernel), mt_S4_7 h]
  simp only [mt_ev, mt_pe, mt_ift, mt_iff]
  grind
theorem mt_cof3_2 {t : Nat → Int32} (h : ∀ j, mt_Bd 9 (t j)) : -mt_S4 t 11 = -mt_minor t 7 11 := by
  rw [mt_minorE t (by decide) (l := [(true, [3, 5, 8]), (false, [1, 7, 8]), (false, [3, 4, 9]), (true, [0, 7, 9]), (true, [1, 4, 11]), (false, [0, 5, 11])]) (by decide +kernel), mt_S4_11 h]
  simp only [mt_ev, mt_pe, mt_ift, mt_iff]
  grind
theorem mt_cof3_3 {t : Nat → Int32} (h : ∀ j, mt_Bd 9 (t j)) : -mt_S4 t 15 = mt_minor t 7 7 := by
  rw [mt_minorE t (by decide) (l := [(true, [2, 5, 8]), (false, [1, 6, 8]), (false, [2, 4, 9]), (true, [0, 6, 9]), (true, [1, 4, 10]), (false, [0, 5, 10])]) (by decide +kernel), mt_S4_15 h]
  simp only [mt_ev, mt_pe, mt_ift, mt_iff]
  grind
theorem mt_mpc {g g' : Nat → Int32} (h : ∀ j, j < 16 → g j = g' j) {w r : Nat} : ∀ (d row : Nat) (p : Int32), row + d = 4 → mt_mp g w r d row p = mt_mp g' w r d row p := by
  intro d
  induction d with
  | zero => intro row p _; rfl
  | succ d ih =>
    intro row p hd
    have hc := mt_colt w row
    rw [mt_mp, mt_mp, h (row * 4 + mt_co w row) (by omega)]
    exact ih _ _ (by omega)
theorem mt_mnc {g g' : Nat → Int32} (h : ∀ j, j < 16 → g j = g' j) {r c : Nat} : ∀ (d i : Nat) (s : Int32), mt_mn g r c d i s = mt_mn g' r c d i s := by
  intro d
  induction d with
  | zero => intro i s; rfl
  | succ d ih =>
    intro i s
    rw [mt_mn, mt_mn, mt_mpc h 4 0 _ rfl]
    exact ih _ _
theorem mt_minorc {g g' : Nat → Int32} (h : ∀ j, j < 16 → g j = g' j) (r c : Nat) : mt_minor g r c = mt_minor g' r c := mt_mnc h 24 0 0
theorem mt_ld0 (t : Nat → Int32) (j : Nat) : mt_ld t 0 j = t j := by
  unfold mt_ld
  split <;> exact Int32.sub_zero _
end
section
theorem mt_root {t : Nat → Int32} (h : ∀ j, mt_Bd 9 (t j)) (x : Int32) : mt_hs (mt_cX t) x 5 0 = mt_minor (mt_ld t x) 15 15 := by
  have d0 : mt_ld t x 0 = (t 0 - x) := by
    show t 0 - x = _
    rfl
  have d1 : mt_ld t x 1 = t 1 := by
    show t 1 - 0 = _
    exact Int32.sub_zero _
  have d2 : mt_ld t x 2 = t 2 := by
    show t 2 - 0 = _
    exact Int32.sub_zero _
  have d3 : mt_ld t x 3 = t 3 := by
    show t 3 - 0 = _
    exact Int32.sub_zero _
  have d4 : mt_ld t x 4 = t 4 := by
    show t 4 - 0 = _
    exact Int32.sub_zero _
  have d5 : mt_ld t x 5 = (t 5 - x) := by
    show t 5 - x = _
    rfl
  have d6 : mt_ld t x 6 = t 6 := by
    show t 6 - 0 = _
    exact Int32.sub_zero _
  have d7 : mt_ld t x 7 = t 7 := by
    show t 7 - 0 = _
    exact Int32.sub_zero _
  have d8 : mt_ld t x 8 = t 8 := by
    show t 8 - 0 = _
    exact Int32.sub_zero _
  have d9 : mt_ld t x 9 = t 9 := by
    show t 9 - 0 = _
    exact Int32.sub_zero _
  have d10 : mt_ld t x 10 = (t 10 - x) := by
    show t 10 - x = _
    rfl
  have d11 : mt_ld t x 11 = t 11 := by
    show t 11 - 0 = _
    exact Int32.sub_zero _
  have d12 : mt_ld t x 12 = t 12 := by
    show t 12 - 0 = _
    exact Int32.sub_zero _
  have d13 : mt_ld t x 13 = t 13 := by
    show t 13 - 0 = _
    exact Int32.sub_zero _
  have d14 : mt_ld t x 14 = t 14 := by
    show t 14 - 0 = _
    exact Int32.sub_zero _
  have d15 : mt_ld t x 15 = (t 15 - x) := by
    show t 15 - x = _
    rfl
  rw [mt_mn15, mt_e4, d0, d1, d2, d3, d4, d5, d6, d7, d8, d9, d10, d11, d12, d13, d14, d15]
  show ((((0 * x + mt_cX t 4) * x + mt_cX t 3) * x + mt_cX t 2) * x + mt_cX t 1) * x + mt_cX t 0 = _
  rw [mt_cX0 h, mt_cX1 h, mt_cX2 h, mt_cX3 h, mt_cX4, mt_e1, mt_e2, mt_e3, mt_e4]
  grind
end
section
/-! Cayley-Hamilton, powers from either side, nilpotency -/
theorem mt_ps4 (a b : Nat → Int32) (i k : Nat) : mt_ps a b i k 4 = a (i * 4) * b k + a (i * 4 + 1) * b (4 + k) + a (i * 4 + 2) * b (8 + k) + a (i * 4 + 3) * b (12 + k) := by
  show 0 + a (i * 4) * b (0 * 4 + k) + a (i * 4 + 1) * b (4 + k) + a (i * 4 + 2) * b (8 + k) + a (i * 4 + 3) * b (12 + k) = _
  rw [Int32.zero_add, Nat.zero_mul, Nat.zero_add]
theorem mt_mme {a b : Nat → Int32} {i k : Nat} (hk : k < 4) : mt_mm a b (i * 4 + k) = a (i * 4) * b k + a (i * 4 + 1) * b (4 + k) + a (i * 4 + 2) * b (8 + k) + a (i * 4 + 3) * b (12 + k) := by
  rw [mt_mmix hk, mt_ps4]
theorem mt_jik {P : Nat → Prop} (h : ∀ i k, i < 4 → k < 4 → P (i * 4 + k)) {j : Nat} (hj : j < 16) : P j := by
  have e : j = j / 4 * 4 + j % 4 := by omega
  rw [e]
  exact h _ _ (by omega) (by omega)
theorem mt_asc (a b c : Nat → Int32) {j : Nat} (hj : j < 16) : mt_mm (mt_mm a b) c j = mt_mm a (mt_mm b c) j := by
  refine mt_jik (P := fun j => mt_mm (mt_mm a b) c j = mt_mm a (mt_mm b c) j) ?_ hj
  intro i k hi hk
  have x0 := mt_mme (a := a) (b := b) (i := i) (k := 0) (by decide)
  have x1 := mt_mme (a := a) (b := b) (i := i) (k := 1) (by decide)
  have x2 := mt_mme (a := a) (b := b) (i := i) (k := 2) (by decide)
  have x3 := mt_mme (a := a) (b := b) (i := i) (k := 3) (by decide)
  have y0 := mt_mme (a := b) (b := c) (i := 0) (k := k) hk
  have y1 := mt_mme (a := b) (b := c) (i := 1) (k := k) hk
  have y2 := mt_mme (a := b) (b := c) (i := 2) (k := k) hk
  have y3 := mt_mme (a := b) (b := c) (i := 3) (k := k) hk
  rw [Nat.zero_mul, Nat.zero_add] at y0
  rw [Nat.one_mul] at y1
  rw [show 2 * 4 = 8 from rfl] at y2
  rw [show 3 * 4 = 12 from rfl] at y3
  rw [Nat.add_zero] at x0
  show mt_mm (mt_mm a b) c (i * 4 + k) = mt_mm a (mt_mm b c) (i * 4 + k)
  rw [mt_mme hk, mt_mme hk, x0, x1, x2, x3, y0, y1, y2, y3]
  generalize a (i * 4) = a0
  generalize a (i * 4 + 1) = a1
  generalize a (i * 4 + 2) = a2
  generalize a (i * 4 + 3) = a3
  generalize c k = c0
  generalize c (4 + k) = c1
  generalize c (8 + k) = c2
  generalize c (12 + k) = c3
  simp only [Nat.zero_add, Nat.reduceAdd]
  grind
theorem mt_lin (a x y : Nat → Int32) (v : Int32) {j : Nat} (hj : j < 16) : mt_mm a (fun j => x j + v * y j) j = mt_mm a x j + v * mt_mm a y j := by
  refine mt_jik (P := fun j => mt_mm a (fun j => x j + v * y j) j = mt_mm a x j + v * mt_mm a y j) ?_ hj
  intro i k hi hk
  show mt_mm a (fun j => x j + v * y j) (i * 4 + k) = mt_mm a x (i * 4 + k) + v * mt_mm a y (i * 4 + k)
  rw [mt_mme hk, mt_mme hk, mt_mme hk]
  grind
theorem mt_idm (t : Nat → Int32) {j : Nat} (hj : j < 16) : mt_mm mt_id t j = t j := by
  refine mt_jik (P := fun j => mt_mm mt_id t j = t j) ?_ hj
  intro i k hi hk
  show mt_mm mt_id t (i * 4 + k) = t (i * 4 + k)
  rw [mt_mme hk]
  have h : i = 0 ∨ i = 1 ∨ i = 2 ∨ i = 3 := by omega
  rcases h with e | e | e | e <;> subst e
  · show 1 * t k + 0 * t (4 + k) + 0 * t (8 + k) + 0 * t (12 + k) = t (0 * 4 + k)
    rw [Nat.zero_mul, Nat.zero_add]; grind
  · show 0 * t k + 1 * t (4 + k) + 0 * t (8 + k) + 0 * t (12 + k) = t (4 + k)
    grind
  · show 0 * t k + 0 * t (4 + k) + 1 * t (8 + k) + 0 * t (12 + k) = t (8 + k)
    grind
  · show 0 * t k + 0 * t (4 + k) + 0 * t (8 + k) + 1 * t (12 + k) = t (12 + k)
    grind
theorem mt_Pcom (t : Nat → Int32) : ∀ n, ∀ j, j < 16 → mt_mm (mt_P t n) t j = mt_P t (n + 1) j := by
  intro n
  induction n with
  | zero =>
    intro j hj
    show mt_mm mt_id t j = mt_mm t mt_id j
    rw [mt_idm t hj, mt_mmid t hj]
  | succ n ih =>
    intro j hj
    show mt_mm (mt_mm t (mt_P t n)) t j = mt_mm t (mt_P t (n + 1)) j
    rw [mt_asc _ _ _ hj]
    exact mt_mmc (fun _ _ => rfl) ih hj
theorem mt_QP (t : Nat → Int32) : ∀ n, ∀ j, j < 16 → mt_Q t n j = mt_P t n j := by
  intro n
  induction n with
  | zero => intro j _; rfl
  | succ n ih =>
    intro j hj
    rw [← mt_Pcom t n j hj]
    exact mt_mmc ih (fun _ _ => rfl) hj
theorem mt_nxE (t s : Nat → Int32) (v : Int32) (j : Nat) : mt_nx t s v j = mt_mm t s j + v * mt_P t 0 j := by
  show (if j % 5 = 0 then mt_mm t s j + v else mt_mm t s j) = mt_mm t s j + v * (if j % 5 = 0 then 1 else 0)
  split
  · rw [Int32.mul_one]
  · rw [Int32.mul_zero, Int32.add_zero]
/-- the steps' tables by powers -/
theorem mt_S2P (t : Nat → Int32) {j : Nat} (hj : j < 16) : mt_S2 t j = mt_P t 1 j + mt_cX t 3 * mt_P t 0 j := mt_nxE t mt_id _ j
theorem mt_mS2 (t : Nat → Int32) {j : Nat} (hj : j < 16) : mt_mm t (mt_S2 t) j = mt_P t 2 j + mt_cX t 3 * mt_P t 1 j := by
  rw [mt_mmc (fun _ _ => rfl) (fun j hj => mt_S2P t hj) hj, mt_lin _ _ _ _ hj]
  rfl
theorem mt_S3P (t : Nat → Int32) {j : Nat} (hj : j < 16) : mt_S3 t j = (mt_P t 2 j + mt_cX t 3 * mt_P t 1 j) + mt_cX t 2 * mt_P t 0 j := by
  rw [← mt_mS2 t hj]
  exact mt_nxE t _ _ j
theorem mt_mS3 (t : Nat → Int32) {j : Nat} (hj : j < 16) : mt_mm t (mt_S3 t) j = (mt_P t 3 j + mt_cX t 3 * mt_P t 2 j) + mt_cX t 2 * mt_P t 1 j := by
  rw [mt_mmc (fun _ _ => rfl) (fun j hj => mt_S3P t hj) hj, mt_lin t (fun j => mt_P t 2 j + mt_cX t 3 * mt_P t 1 j) _ _ hj, mt_lin _ _ _ _ hj]
  rfl
theorem mt_S4P (t : Nat → Int32) {j : Nat} (hj : j < 16) : mt_S4 t j = ((mt_P t 3 j + mt_cX t 3 * mt_P t 2 j) + mt_cX t 2 * mt_P t 1 j) + mt_cX t 1 * mt_P t 0 j := by
  rw [← mt_mS3 t hj]
  exact mt_nxE t _ _ j
theorem mt_mS4 (t : Nat → Int32) {j : Nat} (hj : j < 16) : mt_mm t (mt_S4 t) j = ((mt_P t 4 j + mt_cX t 3 * mt_P t 3 j) + mt_cX t 2 * mt_P t 2 j) + mt_cX t 1 * mt_P t 1 j := by
  rw [mt_mmc (fun _ _ => rfl) (fun j hj => mt_S4P t hj) hj, mt_lin t (fun j => (mt_P t 3 j + mt_cX t 3 * mt_P t 2 j) + mt_cX t 2 * mt_P t 1 j) _ _ hj, mt_lin t (fun j => mt_P t 3 j + mt_cX t 3 * mt_P t 2 j) _ _ hj, mt_lin _ _ _ _ hj]
  rfl
theorem mt_ad {t : Nat → Int32} (h : ∀ j, mt_Bd 9 (t j)) {j : Nat} (hj : j < 16) : mt_mm t (mt_S4 t) j = -(mt_cX t 0 * mt_P t 0 j) := by
  rw [mt_cX0 h]
  have h2 : j = 0 ∨ j = 1 ∨ j = 2 ∨ j = 3 ∨ j = 4 ∨ j = 5 ∨ j = 6 ∨ j = 7 ∨ j = 8 ∨ j = 9 ∨ j = 10 ∨ j = 11 ∨ j = 12 ∨ j = 13 ∨ j = 14 ∨ j = 15 := by omega
  have z : -(mt_e4 t * 0) = (0 : Int32) := by grind
  have u : -(mt_e4 t * 1) = -mt_e4 t := by grind
  rcases h2 with e | e | e | e | e | e | e | e | e | e | e | e | e | e | e | e <;> subst e
  · rw [mt_ad0 h]; exact u.symm
  · rw [mt_ad1 h]; exact z.symm
  · rw [mt_ad2 h]; exact z.symm
  · rw [mt_ad3 h]; exact z.symm
  · rw [mt_ad4 h]; exact z.symm
  · rw [mt_ad5 h]; exact u.symm
  · rw [mt_ad6 h]; exact z.symm
  · rw [mt_ad7 h]; exact z.symm
  · rw [mt_ad8 h]; exact z.symm
  · rw [mt_ad9 h]; exact z.symm
  · rw [mt_ad10 h]; exact u.symm
  · rw [mt_ad11 h]; exact z.symm
  · rw [mt_ad12 h]; exact z.symm
  · rw [mt_ad13 h]; exact z.symm
  · rw [mt_ad14 h]; exact z.symm
  · rw [mt_ad15 h]; exact u.symm
/-- Cayley-Hamilton for all powers -/
theorem mt_CH {t : Nat → Int32} (h : ∀ j, mt_Bd 9 (t j)) : ∀ n j, j < 16 → ((((mt_P t (n + 4) j + mt_cX t 3 * mt_P t (n + 3) j) + mt_cX t 2 * mt_P t (n + 2) j) + mt_cX t 1 * mt_P t (n + 1) j) + mt_cX t 0 * mt_P t n j) = 0 := by
  intro n
  induction n with
  | zero =>
    intro j hj
    have a := mt_ad h hj
    rw [mt_mS4 t hj] at a
    show ((((mt_P t 4 j + mt_cX t 3 * mt_P t 3 j) + mt_cX t 2 * mt_P t 2 j) + mt_cX t 1 * mt_P t 1 j) + mt_cX t 0 * mt_P t 0 j) = 0
    rw [a]
    grind
  | succ n ih =>
    intro j hj
    have k : mt_mm t (fun j => (((mt_P t (n + 4) j + mt_cX t 3 * mt_P t (n + 3) j) + mt_cX t 2 * mt_P t (n + 2) j) + mt_cX t 1 * mt_P t (n + 1) j) + mt_cX t 0 * mt_P t n j) j = mt_mm t (fun _ => 0) j :=
      mt_mmc (fun _ _ => rfl) ih hj
    have z : mt_mm t (fun _ => 0) j = 0 := by
      show (((0 + t _ * 0) + t _ * 0) + t _ * 0) + t _ * 0 = 0
      grind
    rw [z, mt_lin t (fun j => ((mt_P t (n + 4) j + mt_cX t 3 * mt_P t (n + 3) j) + mt_cX t 2 * mt_P t (n + 2) j) + mt_cX t 1 * mt_P t (n + 1) j) _ _ hj, mt_lin t (fun j => (mt_P t (n + 4) j + mt_cX t 3 * mt_P t (n + 3) j) + mt_cX t 2 * mt_P t (n + 2) j) _ _ hj, mt_lin t (fun j => mt_P t (n + 4) j + mt_cX t 3 * mt_P t (n + 3) j) _ _ hj, mt_lin t _ _ _ hj] at k
    exact k
theorem mt_CHr {t : Nat → Int32} (h : ∀ j, mt_Bd 9 (t j)) (n : Nat) {j : Nat} (hj : j < 16) : mt_P t (n + 4) j = -(((mt_cX t 3 * mt_P t (n + 3) j + mt_cX t 2 * mt_P t (n + 2) j) + mt_cX t 1 * mt_P t (n + 1) j) + mt_cX t 0 * mt_P t n j) := by
  have k := mt_CH h n j hj
  generalize mt_P t (n + 4) j = a at *
  generalize mt_P t (n + 3) j = b at *
  generalize mt_P t (n + 2) j = c at *
  generalize mt_P t (n + 1) j = d at *
  generalize mt_P t n j = e at *
  grind
theorem mt_CHt {t : Nat → Int32} (h : ∀ j, mt_Bd 9 (t j)) (n : Nat) : mt_tr (mt_P t (n + 4)) = -(((mt_cX t 3 * mt_tr (mt_P t (n + 3)) + mt_cX t 2 * mt_tr (mt_P t (n + 2))) + mt_cX t 1 * mt_tr (mt_P t (n + 1))) + mt_cX t 0 * mt_tr (mt_P t n)) := by
  unfold mt_tr
  rw [mt_CHr h n (j := 0) (by decide), mt_CHr h n (j := 5) (by decide), mt_CHr h n (j := 10) (by decide), mt_CHr h n (j := 15) (by decide)]
  grind
end
section
/-! the table's fourth power vanishes exactly if all lower coefficients do -/
theorem mt_mmB {t s : Nat → Int32} {b d : Int} (h : ∀ j, mt_Bd 9 (t j)) (hs : ∀ j, j < 16 → mt_Bd b (s j)) (hd : 9 * b = d) (h4 : 4 * d < 2147483648) (h0 : 0 ≤ d) {j : Nat} (hj : j < 16) : mt_Bd (d + d + d + d) (mt_mm t s j) := by
  refine mt_jik (P := fun j => mt_Bd (d + d + d + d) (mt_mm t s j)) ?_ hj
  intro i k hi hk
  show mt_Bd (d + d + d + d) (mt_mm t s (i * 4 + k))
  rw [mt_mme hk]
  have m : ∀ x y, y < 16 → mt_Bd d (t x * s y) := fun x y hy => mt_bl d (h x) (hs y hy) hd (by omega)
  exact mt_ba _ (mt_ba _ (mt_ba _ (m _ _ (by omega)) (m _ _ (by omega)) rfl (by omega)) (m _ _ (by omega)) rfl (by omega)) (m _ _ (by omega)) rfl (by omega)
theorem mt_P1 (t : Nat → Int32) {j : Nat} (hj : j < 16) : mt_P t 1 j = t j := mt_mmid t hj
theorem mt_P1B {t : Nat → Int32} (h : ∀ j, mt_Bd 9 (t j)) {j : Nat} (hj : j < 16) : mt_Bd 9 (mt_P t 1 j) := by rw [mt_P1 t hj]; exact h j
theorem mt_P2B {t : Nat → Int32} (h : ∀ j, mt_Bd 9 (t j)) {j : Nat} (hj : j < 16) : mt_Bd 324 (mt_P t 2 j) :=
  mt_mmB (d := 81) h (fun j hj => mt_P1B h hj) (by decide) (by decide) (by decide) hj
theorem mt_P3B {t : Nat → Int32} (h : ∀ j, mt_Bd 9 (t j)) {j : Nat} (hj : j < 16) : mt_Bd 11664 (mt_P t 3 j) :=
  mt_mmB (d := 2916) h (fun j hj => mt_P2B h hj) (by decide) (by decide) (by decide) hj
theorem mt_trB {p : Nat → Int32} {b : Int} (h : ∀ j, j < 16 → mt_Bd b (p j)) (h0 : 0 ≤ b) (hb : 4 * b < 2147483648) : mt_Bd (b + b + b + b) (mt_tr p) :=
  mt_ba _ (mt_ba _ (mt_ba _ (h 0 (by decide)) (h 5 (by decide)) rfl (by omega)) (h 10 (by decide)) rfl (by omega)) (h 15 (by decide)) rfl (by omega)
theorem mt_trz {p : Nat → Int32} (h : ∀ j, j < 16 → p j = 0) : mt_tr p = 0 := by
  unfold mt_tr
  rw [h 0 (by decide), h 5 (by decide), h 10 (by decide), h 15 (by decide)]
  rfl
theorem mt_N1 {t : Nat → Int32} (h : ∀ j, mt_Bd 9 (t j)) : -(mt_tr (mt_P t 1)) = mt_cX t 3 := by
  have k := mt_trE1 h
  rw [← mt_cX3 h, show nI 1 = 1 from rfl, Int32.one_mul] at k
  exact k
theorem mt_N2 {t : Nat → Int32} (h : ∀ j, mt_Bd 9 (t j)) : -(mt_tr (mt_P t 2) + mt_cX t 3 * mt_tr (mt_P t 1)) = 2 * mt_cX t 2 := by
  have k := mt_trE2 h
  rw [← mt_cX2 h, show nI 2 = 2 from rfl] at k
  rw [← k]
  unfold mt_tr
  rw [mt_mS2 t (by decide), mt_mS2 t (by decide), mt_mS2 t (by decide), mt_mS2 t (by decide)]
  grind
theorem mt_N3 {t : Nat → Int32} (h : ∀ j, mt_Bd 9 (t j)) : -((mt_tr (mt_P t 3) + mt_cX t 3 * mt_tr (mt_P t 2)) + mt_cX t 2 * mt_tr (mt_P t 1)) = 3 * mt_cX t 1 := by
  have k := mt_trE3 h
  rw [← mt_cX1 h, show nI 3 = 3 from rfl] at k
  rw [← k]
  unfold mt_tr
  rw [mt_mS3 t (by decide), mt_mS3 t (by decide), mt_mS3 t (by decide), mt_mS3 t (by decide)]
  grind
theorem mt_N4 {t : Nat → Int32} (h : ∀ j, mt_Bd 9 (t j)) : -(((mt_tr (mt_P t 4) + mt_cX t 3 * mt_tr (mt_P t 3)) + mt_cX t 2 * mt_tr (mt_P t 2)) + mt_cX t 1 * mt_tr (mt_P t 1)) = 4 * mt_cX t 0 := by
  have k := mt_trE4 h
  rw [← mt_cX0 h, show nI 4 = 4 from rfl] at k
  rw [← k]
  unfold mt_tr
  rw [mt_mS4 t (by decide), mt_mS4 t (by decide), mt_mS4 t (by decide), mt_mS4 t (by decide)]
  grind
theorem mt_B3 {t : Nat → Int32} (h : ∀ j, mt_Bd 9 (t j)) : mt_Bd 36 (mt_cX t 3) := by rw [mt_cX3 h]; exact mt_Bdneg (mt_e1B h) (by decide)
theorem mt_B2 {t : Nat → Int32} (h : ∀ j, mt_Bd 9 (t j)) : mt_Bd 972 (mt_cX t 2) := by rw [mt_cX2 h]; exact mt_e2B h
theorem mt_B1 {t : Nat → Int32} (h : ∀ j, mt_Bd 9 (t j)) : mt_Bd 17496 (mt_cX t 1) := by rw [mt_cX1 h]; exact mt_Bdneg (mt_e3B h) (by decide)
theorem mt_B0 {t : Nat → Int32} (h : ∀ j, mt_Bd 9 (t j)) : mt_Bd 157464 (mt_cX t 0) := by rw [mt_cX0 h]; exact mt_e4B h
theorem mt_or {x y : Int32} {b c : Int} (hx : mt_Bd b x) (hy : mt_Bd c y) (h : b * c < 2147483648) (hn : ¬ x = 0) (hz : x * y = 0) : y = 0 := (mt_mulz hx hy h hz).resolve_left hn
theorem mt_Pz {t : Nat → Int32} (h4 : ∀ j, j < 16 → mt_P t 4 j = 0) : ∀ n j, j < 16 → mt_P t (n + 4) j = 0 := by
  intro n
  induction n with
  | zero => exact h4
  | succ n ih =>
    intro j hj
    have k : mt_mm t (mt_P t (n + 4)) j = mt_mm t (fun _ => 0) j := mt_mmc (fun _ _ => rfl) ih hj
    have z : mt_mm t (fun _ => 0) j = 0 := by
      show (((0 + t _ * 0) + t _ * 0) + t _ * 0) + t _ * 0 = 0
      grind
    rw [z] at k
    exact k
theorem mt_nil {t : Nat → Int32} (h : ∀ j, mt_Bd 9 (t j)) (h4 : ∀ j, j < 16 → mt_P t 4 j = 0) : mt_cX t 0 = 0 ∧ mt_cX t 1 = 0 ∧ mt_cX t 2 = 0 ∧ mt_cX t 3 = 0 := by
  have B0 := mt_B0 h
  have B1 := mt_B1 h
  have B2 := mt_B2 h
  have B3 := mt_B3 h
  have N1 := mt_N1 h
  have N2 := mt_N2 h
  have N3 := mt_N3 h
  have N4 := mt_N4 h
  rw [mt_trz h4] at N4
  have c0 : ∀ j, j < 16 → ((mt_cX t 3 * mt_P t 3 j + mt_cX t 2 * mt_P t 2 j) + mt_cX t 1 * mt_P t 1 j) + mt_cX t 0 * mt_P t 0 j = 0 := by
    intro j hj
    have k := mt_CH h 0 j hj
    rw [mt_Pz h4 0 j hj, Int32.zero_add] at k
    exact k
  have c1 : ∀ j, j < 16 → (mt_cX t 2 * mt_P t 3 j + mt_cX t 1 * mt_P t 2 j) + mt_cX t 0 * mt_P t 1 j = 0 := by
    intro j hj
    have k := mt_CH h 1 j hj
    rw [mt_Pz h4 1 j hj, show 1 + 3 = 0 + 4 from rfl, mt_Pz h4 0 j hj, Int32.mul_zero, Int32.zero_add, Int32.zero_add] at k
    exact k
  have c2 : ∀ j, j < 16 → mt_cX t 1 * mt_P t 3 j + mt_cX t 0 * mt_P t 2 j = 0 := by
    intro j hj
    have k := mt_CH h 2 j hj
    rw [mt_Pz h4 2 j hj, show 2 + 3 = 1 + 4 from rfl, mt_Pz h4 1 j hj, show 2 + 2 = 0 + 4 from rfl, mt_Pz h4 0 j hj, Int32.mul_zero, Int32.mul_zero, Int32.zero_add, Int32.zero_add, Int32.zero_add] at k
    exact k
  have c3 : ∀ j, j < 16 → mt_cX t 0 * mt_P t 3 j = 0 := by
    intro j hj
    have k := mt_CH h 3 j hj
    rw [mt_Pz h4 3 j hj, show 3 + 3 = 2 + 4 from rfl, mt_Pz h4 2 j hj, show 3 + 2 = 1 + 4 from rfl, mt_Pz h4 1 j hj, show 3 + 1 = 0 + 4 from rfl, mt_Pz h4 0 j hj, Int32.mul_zero, Int32.mul_zero, Int32.mul_zero, Int32.zero_add, Int32.zero_add, Int32.zero_add, Int32.zero_add] at k
    exact k
  have P1B : ∀ j, j < 16 → mt_Bd 9 (mt_P t 1 j) := fun j hj => mt_P1B h hj
  have P2B : ∀ j, j < 16 → mt_Bd 324 (mt_P t 2 j) := fun j hj => mt_P2B h hj
  have P3B : ∀ j, j < 16 → mt_Bd 11664 (mt_P t 3 j) := fun j hj => mt_P3B h hj
  have p1B : mt_Bd 36 (mt_tr (mt_P t 1)) := mt_trB P1B (by decide) (by decide)
  have p2B : mt_Bd 1296 (mt_tr (mt_P t 2)) := mt_trB P2B (by decide) (by decide)
  have T2 : mt_Bd 2 (2 : Int32) := ⟨by decide, by decide⟩
  have T3 : mt_Bd 3 (3 : Int32) := ⟨by decide, by decide⟩
  have T4 : mt_Bd 4 (4 : Int32) := ⟨by decide, by decide⟩
  -- c0
  have d0 : mt_cX t 0 = 0 := by
    by_cases z : mt_cX t 0 = 0
    · exact z
    · have q3 : ∀ j, j < 16 → mt_P t 3 j = 0 := fun j hj => mt_or B0 (P3B j hj) (by decide) z (c3 j hj)
      have q2 : ∀ j, j < 16 → mt_P t 2 j = 0 := by
        intro j hj
        have k := c2 j hj
        rw [q3 j hj, Int32.mul_zero, Int32.zero_add] at k
        exact mt_or B0 (P2B j hj) (by decide) z k
      have q1 : ∀ j, j < 16 → mt_P t 1 j = 0 := by
        intro j hj
        have k := c1 j hj
        rw [q3 j hj, q2 j hj, Int32.mul_zero, Int32.mul_zero, Int32.zero_add, Int32.zero_add] at k
        exact mt_or B0 (P1B j hj) (by decide) z k
      rw [mt_trz q1, mt_trz q2, mt_trz q3] at N4
      refine mt_or T4 B0 (by decide) (by decide) ?_
      rw [← N4]
      grind
  have d1 : mt_cX t 1 = 0 := by
    by_cases z : mt_cX t 1 = 0
    · exact z
    · have q3 : ∀ j, j < 16 → mt_P t 3 j = 0 := by
        intro j hj
        have k := c2 j hj
        rw [d0, Int32.zero_mul, Int32.add_zero] at k
        exact mt_or B1 (P3B j hj) (by decide) z k
      have q2 : ∀ j, j < 16 → mt_P t 2 j = 0 := by
        intro j hj
        have k := c1 j hj
        rw [d0, q3 j hj, Int32.mul_zero, Int32.zero_mul, Int32.zero_add, Int32.add_zero] at k
        exact mt_or B1 (P2B j hj) (by decide) z k
      have q1 : ∀ j, j < 16 → mt_P t 1 j = 0 := by
        intro j hj
        have k := c0 j hj
        rw [d0, q3 j hj, q2 j hj, Int32.mul_zero, Int32.mul_zero, Int32.zero_mul, Int32.zero_add, Int32.zero_add, Int32.add_zero] at k
        exact mt_or B1 (P1B j hj) (by decide) z k
      rw [mt_trz q1, mt_trz q2, mt_trz q3] at N3
      refine mt_or T3 B1 (by decide) (by decide) ?_
      rw [← N3]
      grind
  have d2 : mt_cX t 2 = 0 := by
    by_cases z : mt_cX t 2 = 0
    · exact z
    · have q3 : ∀ j, j < 16 → mt_P t 3 j = 0 := by
        intro j hj
        have k := c1 j hj
        rw [d0, d1, Int32.zero_mul, Int32.zero_mul, Int32.add_zero, Int32.add_zero] at k
        exact mt_or B2 (P3B j hj) (by decide) z k
      have q2 : ∀ j, j < 16 → mt_P t 2 j = 0 := by
        intro j hj
        have k := c0 j hj
        rw [d0, d1, q3 j hj, Int32.mul_zero, Int32.zero_mul, Int32.zero_mul, Int32.zero_add, Int32.add_zero, Int32.add_zero] at k
        exact mt_or B2 (P2B j hj) (by decide) z k
      rw [mt_trz q2, mt_trz q3, d1] at N3
      have y1 : mt_cX t 2 * mt_tr (mt_P t 1) = 0 := by
        generalize mt_cX t 2 * mt_tr (mt_P t 1) = y at *
        generalize mt_cX t 3 = u at *
        grind
      have y2 : mt_tr (mt_P t 1) = 0 := mt_or B2 p1B (by decide) z y1
      rw [mt_trz q2, y2] at N2
      refine mt_or T2 B2 (by decide) (by decide) ?_
      rw [← N2]
      grind
  have d3 : mt_cX t 3 = 0 := by
    by_cases z : mt_cX t 3 = 0
    · exact z
    · have q3 : ∀ j, j < 16 → mt_P t 3 j = 0 := by
        intro j hj
        have k := c0 j hj
        rw [d0, d1, d2, Int32.zero_mul, Int32.zero_mul, Int32.zero_mul, Int32.add_zero, Int32.add_zero, Int32.add_zero] at k
        exact mt_or B3 (P3B j hj) (by decide) z k
      rw [mt_trz q3, d1, d2] at N3
      have y1 : mt_cX t 3 * mt_tr (mt_P t 2) = 0 := by
        generalize mt_cX t 3 * mt_tr (mt_P t 2) = y at *
        generalize mt_tr (mt_P t 1) = u at *
        grind
      have y2 : mt_tr (mt_P t 2) = 0 := mt_or B3 p2B (by decide) z y1
      rw [y2, d2] at N2
      have y3 : mt_cX t 3 * mt_tr (mt_P t 1) = 0 := by
        generalize mt_cX t 3 * mt_tr (mt_P t 1) = y at *
        grind
      have y4 : mt_tr (mt_P t 1) = 0 := mt_or B3 p1B (by decide) z y3
      rw [y4] at N1
      rw [← N1]
      rfl
  exact ⟨d0, d1, d2, d3⟩
theorem mt_nilI {t : Nat → Int32} (h : ∀ j, mt_Bd 9 (t j)) (h0 : mt_cX t 0 = 0) (h1 : mt_cX t 1 = 0) (h2 : mt_cX t 2 = 0) (h3 : mt_cX t 3 = 0) {j : Nat} (hj : j < 16) : mt_P t 4 j = 0 := by
  have k := mt_CHr h 0 hj
  rw [h0, h1, h2, h3, Int32.zero_mul, Int32.zero_mul, Int32.zero_mul, Int32.zero_mul] at k
  exact k
end
section
/-! rank: all k-minors zero is kept by row operations (over Int) -/
def mt_D2 (u v : Nat → Int) (a b : Nat) : Int := u a * v b - u b * v a
def mt_D3 (u v w : Nat → Int) (a b c : Nat) : Int := u a * mt_D2 v w b c - u b * mt_D2 v w a c + u c * mt_D2 v w a b
def mt_D4 (u v w z : Nat → Int) : Int := u 0 * mt_D3 v w z 1 2 3 - u 1 * mt_D3 v w z 0 2 3 + u 2 * mt_D3 v w z 0 1 3 - u 3 * mt_D3 v w z 0 1 2
def mt_R (C : Nat → Int) (i : Nat) : Nat → Int := fun k => C (i * 4 + k)
def mt_Z1 (C : Nat → Int) : Prop := ∀ i, i < 4 → ∀ a, a < 4 → mt_R C i a = 0
def mt_Z2 (C : Nat → Int) : Prop := ∀ i j, i < 4 → j < 4 → ∀ a b, a < b → b < 4 → mt_D2 (mt_R C i) (mt_R C j) a b = 0
def mt_Z3 (C : Nat → Int) : Prop := ∀ i j k, i < 4 → j < 4 → k < 4 → ∀ a b c, a < b → b < c → c < 4 → mt_D3 (mt_R C i) (mt_R C j) (mt_R C k) a b c = 0
def mt_Z4 (C : Nat → Int) : Prop := ∀ i j k l, i < 4 → j < 4 → k < 4 → l < 4 → mt_D4 (mt_R C i) (mt_R C j) (mt_R C k) (mt_R C l) = 0
/-- swapping neighbours -/
theorem mt_D2s (u v : Nat → Int) (a b : Nat) : mt_D2 u v a b = -mt_D2 v u a b := by
  unfold mt_D2; grind
theorem mt_D3s (u v w : Nat → Int) (a b c : Nat) : mt_D3 u v w a b c = -mt_D3 v u w a b c := by
  unfold mt_D3 mt_D2; grind
theorem mt_D3t (u v w : Nat → Int) (a b c : Nat) : mt_D3 u v w a b c = -mt_D3 u w v a b c := by
  unfold mt_D3 mt_D2; grind
theorem mt_D4s (u v w z : Nat → Int) : mt_D4 u v w z = -mt_D4 v u w z := by
  unfold mt_D4 mt_D3 mt_D2; grind
theorem mt_D4t (u v w z : Nat → Int) : mt_D4 u v w z = -mt_D4 u w v z := by
  unfold mt_D4 mt_D3 mt_D2; grind
theorem mt_D4r (u v w z : Nat → Int) : mt_D4 u v w z = -mt_D4 u v z w := by
  unfold mt_D4 mt_D3 mt_D2; grind
/-- a row that is, times s, a sum of two rows -/
def mt_LV (u x y : Nat → Int) (s p q : Int) : Prop := ∀ k, k < 4 → s * u k = p * x k + q * y k
theorem mt_LV2 {u x y : Nat → Int} {s p q : Int} (h : mt_LV u x y s p q) (v : Nat → Int) {a b : Nat} (ha : a < 4) (hb : b < 4) : s * mt_D2 u v a b = p * mt_D2 x v a b + q * mt_D2 y v a b := by
  have e : s * mt_D2 u v a b = (s * u a) * v b - (s * u b) * v a := by unfold mt_D2; grind
  rw [e, h a ha, h b hb]
  unfold mt_D2
  grind
theorem mt_LV3 {u x y : Nat → Int} {s p q : Int} (h : mt_LV u x y s p q) (v w : Nat → Int) {a b c : Nat} (ha : a < 4) (hb : b < 4) (hc : c < 4) : s * mt_D3 u v w a b c = p * mt_D3 x v w a b c + q * mt_D3 y v w a b c := by
  have e : s * mt_D3 u v w a b c = (s * u a) * mt_D2 v w b c - (s * u b) * mt_D2 v w a c + (s * u c) * mt_D2 v w a b := by unfold mt_D3; grind
  rw [e, h a ha, h b hb, h c hc]
  unfold mt_D3
  grind
theorem mt_LV4 {u x y : Nat → Int} {s p q : Int} (h : mt_LV u x y s p q) (v w z : Nat → Int) : s * mt_D4 u v w z = p * mt_D4 x v w z + q * mt_D4 y v w z := by
  have e : s * mt_D4 u v w z = (s * u 0) * mt_D3 v w z 1 2 3 - (s * u 1) * mt_D3 v w z 0 2 3 + (s * u 2) * mt_D3 v w z 0 1 3 - (s * u 3) * mt_D3 v w z 0 1 2 := by unfold mt_D4; grind
  rw [e, h 0 (by decide), h 1 (by decide), h 2 (by decide), h 3 (by decide)]
  unfold mt_D4
  grind
theorem mt_sz {s x p q y z : Int} (hs : s ≠ 0) (h : s * x = p * y + q * z) (hy : y = 0) (hz : z = 0) : x = 0 := by
  rw [hy, hz, Int.mul_zero, Int.mul_zero, Int.zero_add] at h
  exact (Int.mul_eq_zero.mp h).resolve_left hs
theorem mt_ng {x y : Int} (e : x = -y) (h : y = 0) : x = 0 := by rw [e, h]; rfl
/-- every row of B is, times something, a sum of two rows of C -/
def mt_LC (C B : Nat → Int) : Prop := ∀ i, i < 4 → ∃ (f g : Nat) (s p q : Int), f < 4 ∧ g < 4 ∧ s ≠ 0 ∧ mt_LV (mt_R B i) (mt_R C f) (mt_R C g) s p q
theorem mt_LC1 {C B : Nat → Int} (L : mt_LC C B) (h : mt_Z1 C) : mt_Z1 B := by
  intro i hi a ha
  obtain ⟨f, g, s, p, q, hf, hg, hs, hv⟩ := L i hi
  exact mt_sz hs (hv a ha) (h f hf a ha) (h g hg a ha)
theorem mt_LC2 {C B : Nat → Int} (L : mt_LC C B) (h : mt_Z2 C) : mt_Z2 B := by
  have s1 : ∀ i j, i < 4 → j < 4 → ∀ a b, a < b → b < 4 → mt_D2 (mt_R B i) (mt_R C j) a b = 0 := by
    intro i j hi hj a b ha hb
    obtain ⟨f, g, s, p, q, hf, hg, hs, hv⟩ := L i hi
    exact mt_sz hs (mt_LV2 hv _ (by omega) hb) (h f j hf hj a b ha hb) (h g j hg hj a b ha hb)
  intro i j hi hj a b ha hb
  refine mt_ng (mt_D2s _ _ _ _) ?_
  obtain ⟨f, g, s, p, q, hf, hg, hs, hv⟩ := L j hj
  exact mt_sz hs (mt_LV2 hv _ (by omega) hb) (mt_ng (mt_D2s _ _ _ _) (s1 i f hi hf a b ha hb)) (mt_ng (mt_D2s _ _ _ _) (s1 i g hi hg a b ha hb))
theorem mt_LC3 {C B : Nat → Int} (L : mt_LC C B) (h : mt_Z3 C) : mt_Z3 B := by
  have s1 : ∀ i j k, i < 4 → j < 4 → k < 4 → ∀ a b c, a < b → b < c → c < 4 → mt_D3 (mt_R B i) (mt_R C j) (mt_R C k) a b c = 0 := by
    intro i j k hi hj hk a b c ha hb hc
    obtain ⟨f, g, s, p, q, hf, hg, hs, hv⟩ := L i hi
    exact mt_sz hs (mt_LV3 hv _ _ (by omega) (by omega) hc) (h f j k hf hj hk a b c ha hb hc) (h g j k hg hj hk a b c ha hb hc)
  have s2 : ∀ i j k, i < 4 → j < 4 → k < 4 → ∀ a b c, a < b → b < c → c < 4 → mt_D3 (mt_R B i) (mt_R B j) (mt_R C k) a b c = 0 := by
    intro i j k hi hj hk a b c ha hb hc
    refine mt_ng (mt_D3s _ _ _ _ _ _) ?_
    obtain ⟨f, g, s, p, q, hf, hg, hs, hv⟩ := L j hj
    exact mt_sz hs (mt_LV3 hv _ _ (by omega) (by omega) hc) (mt_ng (mt_D3s _ _ _ _ _ _) (s1 i f k hi hf hk a b c ha hb hc)) (mt_ng (mt_D3s _ _ _ _ _ _) (s1 i g k hi hg hk a b c ha hb hc))
  intro i j k hi hj hk a b c ha hb hc
  refine mt_ng (mt_D3t _ _ _ _ _ _) (mt_ng (mt_D3s _ _ _ _ _ _) ?_)
  obtain ⟨f, g, s, p, q, hf, hg, hs, hv⟩ := L k hk
  exact mt_sz hs (mt_LV3 hv _ _ (by omega) (by omega) hc) (mt_ng (mt_D3s _ _ _ _ _ _) (mt_ng (mt_D3t _ _ _ _ _ _) (s2 i j f hi hj hf a b c ha hb hc))) (mt_ng (mt_D3s _ _ _ _ _ _) (mt_ng (mt_D3t _ _ _ _ _ _) (s2 i j g hi hj hg a b c ha hb hc)))
theorem mt_LC4 {C B : Nat → Int} (L : mt_LC C B) (h : mt_Z4 C) : mt_Z4 B := by
  have s1 : ∀ i j k l, i < 4 → j < 4 → k < 4 → l < 4 → mt_D4 (mt_R B i) (mt_R C j) (mt_R C k) (mt_R C l) = 0 := by
    intro i j k l hi hj hk hl
    obtain ⟨f, g, s, p, q, hf, hg, hs, hv⟩ := L i hi
    exact mt_sz hs (mt_LV4 hv _ _ _) (h f j k l hf hj hk hl) (h g j k l hg hj hk hl)
  have s2 : ∀ i j k l, i < 4 → j < 4 → k < 4 → l < 4 → mt_D4 (mt_R B i) (mt_R B j) (mt_R C k) (mt_R C l) = 0 := by
    intro i j k l hi hj hk hl
    refine mt_ng (mt_D4s _ _ _ _) ?_
    obtain ⟨f, g, s, p, q, hf, hg, hs, hv⟩ := L j hj
    exact mt_sz hs (mt_LV4 hv _ _ _) (mt_ng (mt_D4s _ _ _ _) (s1 i f k l hi hf hk hl)) (mt_ng (mt_D4s _ _ _ _) (s1 i g k l hi hg hk hl))
  have s3 : ∀ i j k l, i < 4 → j < 4 → k < 4 → l < 4 → mt_D4 (mt_R B i) (mt_R B j) (mt_R B k) (mt_R C l) = 0 := by
    intro i j k l hi hj hk hl
    refine mt_ng (mt_D4t _ _ _ _) (mt_ng (mt_D4s _ _ _ _) ?_)
    obtain ⟨f, g, s, p, q, hf, hg, hs, hv⟩ := L k hk
    exact mt_sz hs (mt_LV4 hv _ _ _) (mt_ng (mt_D4s _ _ _ _) (mt_ng (mt_D4t _ _ _ _) (s2 i j f l hi hj hf hl))) (mt_ng (mt_D4s _ _ _ _) (mt_ng (mt_D4t _ _ _ _) (s2 i j g l hi hj hg hl)))
  intro i j k l hi hj hk hl
  refine mt_ng (mt_D4r _ _ _ _) (mt_ng (mt_D4t _ _ _ _) (mt_ng (mt_D4s _ _ _ _) ?_))
  obtain ⟨f, g, s, p, q, hf, hg, hs, hv⟩ := L l hl
  exact mt_sz hs (mt_LV4 hv _ _ _) (mt_ng (mt_D4s _ _ _ _) (mt_ng (mt_D4t _ _ _ _) (mt_ng (mt_D4r _ _ _ _) (s3 i j k f hi hj hk hf)))) (mt_ng (mt_D4s _ _ _ _) (mt_ng (mt_D4t _ _ _ _) (mt_ng (mt_D4r _ _ _ _) (s3 i j k g hi hj hk hg))))
/-- the same minors' sizes vanish -/
def mt_ZE (B C : Nat → Int) : Prop := (mt_Z1 B ↔ mt_Z1 C) ∧ (mt_Z2 B ↔ mt_Z2 C) ∧ (mt_Z3 B ↔ mt_Z3 C) ∧ (mt_Z4 B ↔ mt_Z4 C)
theorem mt_ZErf (B : Nat → Int) : mt_ZE B B := ⟨Iff.rfl, Iff.rfl, Iff.rfl, Iff.rfl⟩
theorem mt_ZEtr {A B C : Nat → Int} (h : mt_ZE A B) (k : mt_ZE B C) : mt_ZE A C := ⟨h.1.trans k.1, h.2.1.trans k.2.1, h.2.2.1.trans k.2.2.1, h.2.2.2.trans k.2.2.2⟩
theorem mt_ZEof {B C : Nat → Int} (h : mt_LC B C) (k : mt_LC C B) : mt_ZE B C :=
  ⟨⟨mt_LC1 h, mt_LC1 k⟩, ⟨mt_LC2 h, mt_LC2 k⟩, ⟨mt_LC3 h, mt_LC3 k⟩, ⟨mt_LC4 h, mt_LC4 k⟩⟩
/-- rows in any order, from rows that ascend -/
theorem mt_al2 {P : Nat → Nat → Prop} (s : ∀ i j, P j i → P i j) (e : ∀ i, P i i) (b : ∀ i j, i < j → j < 4 → P i j) : ∀ i j, i < 4 → j < 4 → P i j := by
  intro i j hi hj
  rcases Nat.lt_trichotomy i j with h | h | h
  · exact b i j h hj
  · rw [h]; exact e j
  · exact s i j (b j i h hi)
theorem mt_al3 {P : Nat → Nat → Nat → Prop} (s : ∀ i j k, P j i k → P i j k) (t : ∀ i j k, P i k j → P i j k) (e : ∀ i k, P i i k) (f : ∀ i k, P i k k) (b : ∀ i j k, i < j → j < k → k < 4 → P i j k) : ∀ i j k, i < 4 → j < 4 → k < 4 → P i j k := by
  have A : ∀ i j k, i < j → j < 4 → k < 4 → P i j k := by
    intro i j k h hj hk
    rcases Nat.lt_trichotomy j k with h1 | h1 | h1
    · exact b i j k h h1 hk
    · rw [h1]; exact f i k
    · refine t i j k ?_
      rcases Nat.lt_trichotomy i k with h2 | h2 | h2
      · exact b i k j h2 h1 hj
      · rw [h2]; exact e k j
      · exact s i k j (b k i j h2 h hj)
  intro i j k hi hj hk
  rcases Nat.lt_trichotomy i j with h | h | h
  · exact A i j k h hj hk
  · rw [h]; exact e j k
  · exact s i j k (A j i k h hi hk)
theorem mt_al4 {P : Nat → Nat → Nat → Nat → Prop} (s : ∀ i j k l, P j i k l → P i j k l) (t : ∀ i j k l, P i k j l → P i j k l) (r : ∀ i j k l, P i j l k → P i j k l) (e : ∀ i k l, P i i k l) (f : ∀ i k l, P i k k l) (g : ∀ i k l, P i k l l) (b : ∀ i j k l, i < j → j < k → k < l → l < 4 → P i j k l) : ∀ i j k l, i < 4 → j < 4 → k < 4 → l < 4 → P i j k l := by
  have A3 : ∀ i j k l, i < j → j < k → k < 4 → l < 4 → P i j k l := by
    intro i j k l h h' hk hl
    rcases Nat.lt_trichotomy k l with h1 | h1 | h1
    · exact b i j k l h h' h1 hl
    · rw [h1]; exact g i j l
    · refine r i j k l ?_
      rcases Nat.lt_trichotomy j l with h2 | h2 | h2
      · exact b i j l k h h2 h1 hk
      · rw [h2]; exact f i l k
      · refine t i j l k ?_
        rcases Nat.lt_trichotomy i l with h3 | h3 | h3
        · exact b i l j k h3 h2 h' hk
        · rw [h3]; exact e l j k
        · exact s i l j k (b l i j k h3 h h' hk)
  have A : ∀ i j k l, i < j → j < 4 → k < 4 → l < 4 → P i j k l := by
    intro i j k l h hj hk hl
    rcases Nat.lt_trichotomy j k with h1 | h1 | h1
    · exact A3 i j k l h h1 hk hl
    · rw [h1]; exact f i k l
    · refine t i j k l ?_
      rcases Nat.lt_trichotomy i k with h2 | h2 | h2
      · exact A3 i k j l h2 h1 hj hl
      · rw [h2]; exact e k j l
      · exact s i k j l (A3 k i j l h2 h hj hl)
  intro i j k l hi hj hk hl
  rcases Nat.lt_trichotomy i j with h | h | h
  · exact A i j k l h hj hk hl
  · rw [h]; exact e j k l
  · exact s i j k l (A j i k l h hi hk hl)
theorem mt_self {x : Int} (h : x = -x) : x = 0 := by omega
theorem mt_Z2of {C : Nat → Int} (h : ∀ i j, i < j → j < 4 → ∀ a b, a < b → b < 4 → mt_D2 (mt_R C i) (mt_R C j) a b = 0) : mt_Z2 C := by
  refine mt_al2 (P := fun i j => ∀ a b, a < b → b < 4 → mt_D2 (mt_R C i) (mt_R C j) a b = 0) ?_ ?_ h
  · intro i j k a b ha hb; exact mt_ng (mt_D2s _ _ _ _) (k a b ha hb)
  · intro i a b ha hb; exact mt_self (mt_D2s _ _ _ _)
theorem mt_Z3of {C : Nat → Int} (h : ∀ i j k, i < j → j < k → k < 4 → ∀ a b c, a < b → b < c → c < 4 → mt_D3 (mt_R C i) (mt_R C j) (mt_R C k) a b c = 0) : mt_Z3 C := by
  refine mt_al3 (P := fun i j k => ∀ a b c, a < b → b < c → c < 4 → mt_D3 (mt_R C i) (mt_R C j) (mt_R C k) a b c = 0) ?_ ?_ ?_ ?_ h
  · intro i j k q a b c ha hb hc; exact mt_ng (mt_D3s _ _ _ _ _ _) (q a b c ha hb hc)
  · intro i j k q a b c ha hb hc; exact mt_ng (mt_D3t _ _ _ _ _ _) (q a b c ha hb hc)
  · intro i k a b c ha hb hc; exact mt_self (mt_D3s _ _ _ _ _ _)
  · intro i k a b c ha hb hc; exact mt_self (mt_D3t _ _ _ _ _ _)
theorem mt_Z4of {C : Nat → Int} (h : ∀ i j k l, i < j → j < k → k < l → l < 4 → mt_D4 (mt_R C i) (mt_R C j) (mt_R C k) (mt_R C l) = 0) : mt_Z4 C := by
  refine mt_al4 (P := fun i j k l => mt_D4 (mt_R C i) (mt_R C j) (mt_R C k) (mt_R C l) = 0) ?_ ?_ ?_ ?_ ?_ ?_ h
  · intro i j k l q; exact mt_ng (mt_D4s _ _ _ _) q
  · intro i j k l q; exact mt_ng (mt_D4t _ _ _ _) q
  · intro i j k l q; exact mt_ng (mt_D4r _ _ _ _) q
  · intro i k l; exact mt_self (mt_D4s _ _ _ _)
  · intro i k l; exact mt_self (mt_D4t _ _ _ _)
  · intro i k l; exact mt_self (mt_D4r _ _ _ _)
/-- a zero row at the end -/
theorem mt_D2z {u v : Nat → Int} {a b : Nat} (ha : a < 4) (hb : b < 4) (h : ∀ k, k < 4 → v k = 0) : mt_D2 u v a b = 0 := by
  unfold mt_D2
  rw [h a ha, h b hb, Int.mul_zero, Int.mul_zero]
  rfl
theorem mt_D3z {u v w : Nat → Int} {a b c : Nat} (ha : a < 4) (hb : b < 4) (hc : c < 4) (h : ∀ k, k < 4 → w k = 0) : mt_D3 u v w a b c = 0 := by
  unfold mt_D3
  rw [mt_D2z ha hb h, mt_D2z ha hc h, mt_D2z hb hc h, Int.mul_zero, Int.mul_zero, Int.mul_zero]
  rfl
theorem mt_D4z {u v w z : Nat → Int} (h : ∀ k, k < 4 → z k = 0) : mt_D4 u v w z = 0 := by
  unfold mt_D4
  rw [mt_D3z (by decide) (by decide) (by decide) h, mt_D3z (by decide) (by decide) (by decide) h, mt_D3z (by decide) (by decide) (by decide) h, mt_D3z (by decide) (by decide) (by decide) h, Int.mul_zero, Int.mul_zero, Int.mul_zero, Int.mul_zero]
  rfl
/-- steps: r pivots so far, at the columns p, all columns below c are done -/
def mt_E (r c : Nat) (p : Nat → Nat) (C : Nat → Int) : Prop := (∀ i, i < r → p i < c ∧ mt_R C i (p i) ≠ 0 ∧ ∀ k, k < p i → mt_R C i k = 0) ∧ (∀ i j, i < j → j < r → p i < p j) ∧ (∀ i, r ≤ i → i < 4 → ∀ k, k < c → mt_R C i k = 0)
theorem mt_ne2 {a b : Int} (ha : a ≠ 0) (hb : b ≠ 0) : a * b ≠ 0 := Int.mul_ne_zero ha hb
/-- what the steps say at the end: k-minors vanish above the rank, and not at it -/
def mt_RK (r : Nat) (C : Nat → Int) : Prop := (r = 1 → ¬ mt_Z1 C) ∧ (r = 2 → ¬ mt_Z2 C) ∧ (r = 3 → ¬ mt_Z3 C) ∧ (r = 4 → ¬ mt_Z4 C) ∧ (r < 1 → mt_Z1 C) ∧ (r < 2 → mt_Z2 C) ∧ (r < 3 → mt_Z3 C) ∧ (r < 4 → mt_Z4 C)
theorem mt_EK {r : Nat} {p : Nat → Nat} {C : Nat → Int} (hr : r ≤ 4) (h : mt_E r 4 p C) : mt_RK r C := by
  obtain ⟨h1, h2, h3⟩ := h
  refine ⟨?_, ?_, ?_, ?_, ?_, ?_, ?_, ?_⟩
  · intro e z
    subst e
    exact (h1 0 (by decide)).2.1 (z 0 (by decide) _ (h1 0 (by decide)).1)
  · intro e z
    subst e
    have k := z 0 1 (by decide) (by decide) (p 0) (p 1) (h2 0 1 (by decide) (by decide)) (h1 1 (by decide)).1
    unfold mt_D2 at k
    rw [(h1 1 (by decide)).2.2 (p 0) (h2 0 1 (by decide) (by decide)), Int.mul_zero, Int.sub_zero] at k
    exact mt_ne2 (h1 0 (by decide)).2.1 (h1 1 (by decide)).2.1 k
  · intro e z
    subst e
    have p01 := h2 0 1 (by decide) (by decide)
    have p02 := h2 0 2 (by decide) (by decide)
    have p12 := h2 1 2 (by decide) (by decide)
    have k := z 0 1 2 (by decide) (by decide) (by decide) (p 0) (p 1) (p 2) p01 p12 (h1 2 (by decide)).1
    unfold mt_D3 mt_D2 at k
    rw [(h1 1 (by decide)).2.2 (p 0) p01, (h1 2 (by decide)).2.2 (p 0) p02, (h1 2 (by decide)).2.2 (p 1) p12] at k
    refine mt_ne2 (mt_ne2 (h1 0 (by decide)).2.1 (h1 1 (by decide)).2.1) (h1 2 (by decide)).2.1 ?_
    rw [← k]
    grind
  · intro e z
    subst e
    have p01 := h2 0 1 (by decide) (by decide)
    have p12 := h2 1 2 (by decide) (by decide)
    have p23 := h2 2 3 (by decide) (by decide)
    have p3 := (h1 3 (by decide)).1
    have e0 : p 0 = 0 := by omega
    have e1 : p 1 = 1 := by omega
    have e2 : p 2 = 2 := by omega
    have e3 : p 3 = 3 := by omega
    have k := z 0 1 2 3 (by decide) (by decide) (by decide) (by decide)
    have q0 := (h1 0 (by decide)).2.1
    have q1 := h1 1 (by decide)
    have q2 := h1 2 (by decide)
    have q3 := h1 3 (by decide)
    rw [e0] at q0
    rw [e1] at q1
    rw [e2] at q2
    rw [e3] at q3
    unfold mt_D4 mt_D3 mt_D2 at k
    rw [q1.2.2 0 (by decide), q2.2.2 0 (by decide), q2.2.2 1 (by decide), q3.2.2 0 (by decide), q3.2.2 1 (by decide), q3.2.2 2 (by decide)] at k
    refine mt_ne2 (mt_ne2 (mt_ne2 q0 q1.2.1) q2.2.1) q3.2.1 ?_
    rw [← k]
    grind
  · intro e i hi a ha
    exact h3 i (by omega) hi a ha
  · intro e
    refine mt_Z2of ?_
    intro i j hi hj a b ha hb
    exact mt_D2z (by omega) hb (fun k hk => h3 j (by omega) hj k hk)
  · intro e
    refine mt_Z3of ?_
    intro i j k hi hj hk a b c ha hb hc
    exact mt_D3z (by omega) (by omega) hc (fun x hx => h3 k (by omega) hk x hx)
  · intro e
    refine mt_Z4of ?_
    intro i j k l hi hj hk hl
    exact mt_D4z (fun x hx => h3 l (by omega) hl x hx)
theorem mt_RKE {r : Nat} {B C : Nat → Int} (h : mt_ZE B C) (k : mt_RK r C) : mt_RK r B := by
  unfold mt_RK at *
  rw [h.1, h.2.1, h.2.2.1, h.2.2.2]
  exact k
end
section
/-! the reference's minors against determinants over Int: printed by gen15.py -/
def mt_peI (g : Nat → Int) : Int → List Nat → Int
  | p, [] => p
  | p, j :: l => mt_peI g (p * g j) l
def mt_evI (g : Nat → Int) : Int → List (Bool × List Nat) → Int
  | s, [] => s
  | s, x :: l => mt_evI g (s + mt_peI g (if x.1 = true then -1 else 1) x.2) l
theorem mt_peh {g : Nat → Int32} {B : Nat → Int} (h : ∀ j, g j = Int32.ofInt (B j)) : ∀ (l : List Nat) (p : Int), mt_pe g (Int32.ofInt p) l = Int32.ofInt (mt_peI B p l) := by
  intro l
  induction l with
  | nil => intro p; rfl
  | cons j l ih =>
    intro p
    rw [mt_pe, mt_peI, h j, ← Int32.ofInt_mul]
    exact ih _
theorem mt_evh {g : Nat → Int32} {B : Nat → Int} (h : ∀ j, g j = Int32.ofInt (B j)) : ∀ (l : List (Bool × List Nat)) (s : Int), mt_ev g (Int32.ofInt s) l = Int32.ofInt (mt_evI B s l) := by
  intro l
  induction l with
  | nil => intro s; rfl
  | cons x l ih =>
    intro s
    have e : (if x.1 = true then (-1 : Int32) else 1) = Int32.ofInt (if x.1 = true then -1 else 1) := by
      split <;> rfl
    rw [mt_ev, mt_evI, e, mt_peh h, ← Int32.ofInt_add]
    exact ih _
theorem mt_minI {g : Nat → Int32} {B : Nat → Int} (h : ∀ j, g j = Int32.ofInt (B j)) {r c : Nat} (hr : r < 16) {l : List (Bool × List Nat)} (hl : mt_ms r c 24 0 = l) : mt_minor g r c = Int32.ofInt (mt_evI B 0 l) := by
  rw [mt_minorE g hr hl]
  exact mt_evh h l 0
theorem mt_iftI {a b : Int} : (if true = true then a else b) = a := rfl
theorem mt_iffI {a b : Int} : (if false = true then a else b) = b := rfl
theorem mt_mD1_1 {g : Nat → Int32} {B : Nat → Int} (h : ∀ j, g j = Int32.ofInt (B j)) : mt_minor g 1 1 = Int32.ofInt (mt_R B 0 0) := by
  rw [mt_minI h (by decide) (l := [(false, [0])]) (by decide +kernel)]
  refine congrArg Int32.ofInt ?_
  simp only [mt_evI, mt_peI, mt_iftI, mt_iffI, mt_R, Nat.reduceMul, Nat.reduceAdd]
  grind
theorem mt_mD1_2 {g : Nat → Int32} {B : Nat → Int} (h : ∀ j, g j = Int32.ofInt (B j)) : mt_minor g 1 2 = Int32.ofInt (mt_R B 0 1) := by
  rw [mt_minI h (by decide) (l := [(false, [1])]) (by decide +kernel)]
  refine congrArg Int32.ofInt ?_
  simp only [mt_evI, mt_peI, mt_iftI, mt_iffI, mt_R, Nat.reduceMul, Nat.reduceAdd]
  grind
theorem mt_mD1_4 {g : Nat → Int32} {B : Nat → Int} (h : ∀ j, g j = Int32.ofInt (B j)) : mt_minor g 1 4 = Int32.ofInt (mt_R B 0 2) := by
  rw [mt_minI h (by decide) (l := [(false, [2])]) (by decide +kernel)]
  refine congrArg Int32.ofInt ?_
  simp only [mt_evI, mt_peI, mt_iftI, mt_iffI, mt_R, Nat.reduceMul, Nat.reduceAdd]
  grind
theorem mt_mD1_8 {g : Nat → Int32} {B : Nat → Int} (h : ∀ j, g j = Int32.ofInt (B j)) : mt_minor g 1 8 = Int32.ofInt (mt_R B 0 3) := by
  rw [mt_minI h (by decide) (l := [(false, [3])]) (by decide +kernel)]
  refine congrArg Int32.ofInt ?_
  simp only [mt_evI, mt_peI, mt_iftI, mt_iffI, mt_R, Nat.reduceMul, Nat.reduceAdd]
  grind
theorem mt_mD2_1 {g : Nat → Int32} {B : Nat → Int} (h : ∀ j, g j = Int32.ofInt (B j)) : mt_minor g 2 1 = Int32.ofInt (mt_R B 1 0) := by
  rw [mt_minI h (by decide) (l := [(false, [4])]) (by decide +kernel)]
  refine congrArg Int32.ofInt ?_
  simp only [mt_evI, mt_peI, mt_iftI, mt_iffI, mt_R, Nat.reduceMul, Nat.reduceAdd]
  grind
theorem mt_mD2_2 {g : Nat → Int32} {B : Nat → Int} (h : ∀ j, g j = Int32.ofInt (B j)) : mt_minor g 2 2 = Int32.ofInt (mt_R B 1 1) := by
  rw [mt_minI h (by decide) (l := [(false, [5])]) (by decide +kernel)]
  refine congrArg Int32.ofInt ?_
  simp only [mt_evI, mt_peI, mt_iftI, mt_iffI, mt_R, Nat.reduceMul, Nat.reduceAdd]
  grind
theorem mt_mD2_4 {g : Nat → Int32} {B : Nat → Int} (h : ∀ j, g j = Int32.ofInt (B j)) : mt_minor g 2 4 = Int32.ofInt (mt_R B 1 2) := by
  rw [mt_minI h (by decide) (l := [(false, [6])]) (by decide +kernel)]
  refine congrArg Int32.ofInt ?_
  simp only [mt_evI, mt_peI, mt_iftI, mt_iffI, mt_R, Nat.reduceMul, Nat.reduceAdd]
  grind
theorem mt_mD2_8 {g : Nat → Int32} {B : Nat → Int} (h : ∀ j, g j = Int32.ofInt (B j)) : mt_minor g 2 8 = Int32.ofInt (mt_R B 1 3) := by
  rw [mt_minI h (by decide) (l := [(false, [7])]) (by decide +kernel)]
  refine congrArg Int32.ofInt ?_
  simp only [mt_evI, mt_peI, mt_iftI, mt_iffI, mt_R, Nat.reduceMul, Nat.reduceAdd]
  grind
theorem mt_mD4_1 {g : Nat → Int32} {B : Nat → Int} (h : ∀ j, g j = Int32.ofInt (B j)) : mt_minor g 4 1 = Int32.ofInt (mt_R B 2 0) := by
  rw [mt_minI h (by decide) (l := [(false, [8])]) (by decide +kernel)]
  refine congrArg Int32.ofInt ?_
  simp only [mt_evI, mt_peI, mt_iftI, mt_iffI, mt_R, Nat.reduceMul, Nat.reduceAdd]
  grind
theorem mt_mD4_2 {g : Nat → Int32} {B : Nat → Int} (h : ∀ j, g j = Int32.ofInt (B j)) : mt_minor g 4 2 = Int32.ofInt (mt_R B 2 1) := by
  rw [mt_minI h (by decide) (l := [(false, [9])]) (by decide +kernel)]
  refine congrArg Int32.ofInt ?_
  simp only [mt_evI, mt_peI, mt_iftI, mt_iffI, mt_R, Nat.reduceMul, Nat.reduceAdd]
  grind
theorem mt_mD4_4 {g : Nat → Int32} {B : Nat → Int} (h : ∀ j, g j = Int32.ofInt (B j)) : mt_minor g 4 4 = Int32.ofInt (mt_R B 2 2) := by
  rw [mt_minI h (by decide) (l := [(false, [10])]) (by decide +kernel)]
  refine congrArg Int32.ofInt ?_
  simp only [mt_evI, mt_peI, mt_iftI, mt_iffI, mt_R, Nat.reduceMul, Nat.reduceAdd]
  grind
theorem mt_mD4_8 {g : Nat → Int32} {B : Nat → Int} (h : ∀ j, g j = Int32.ofInt (B j)) : mt_minor g 4 8 = Int32.ofInt (mt_R B 2 3) := by
  rw [mt_minI h (by decide) (l := [(false, [11])]) (by decide +kernel)]
  refine congrArg Int32.ofInt ?_
  simp only [mt_evI, mt_peI, mt_iftI, mt_iffI, mt_R, Nat.reduceMul, Nat.reduceAdd]
  grind
theorem mt_mD8_1 {g : Nat → Int32} {B : Nat → Int} (h : ∀ j, g j = Int32.ofInt (B j)) : mt_minor g 8 1 = Int32.ofInt (mt_R B 3 0) := by
  rw [mt_minI h (by decide) (l := [(false, [12])]) (by decide +kernel)]
  refine congrArg Int32.ofInt ?_
  simp only [mt_evI, mt_peI, mt_iftI, mt_iffI, mt_R, Nat.reduceMul, Nat.reduceAdd]
  grind
theorem mt_mD8_2 {g : Nat → Int32} {B : Nat → Int} (h : ∀ j, g j = Int32.ofInt (B j)) : mt_minor g 8 2 = Int32.ofInt (mt_R B 3 1) := by
  rw [mt_minI h (by decide) (l := [(false, [13])]) (by decide +kernel)]
  refine congrArg Int32.ofInt ?_
  simp only [mt_evI, mt_peI, mt_iftI, mt_iffI, mt_R, Nat.reduceMul, Nat.reduceAdd]
  grind
theorem mt_mD8_4 {g : Nat → Int32} {B : Nat → Int} (h : ∀ j, g j = Int32.ofInt (B j)) : mt_minor g 8 4 = Int32.ofInt (mt_R B 3 2) := by
  rw [mt_minI h (by decide) (l := [(false, [14])]) (by decide +kernel)]
  refine congrArg Int32.ofInt ?_
  simp only [mt_evI, mt_peI, mt_iftI, mt_iffI, mt_R, Nat.reduceMul, Nat.reduceAdd]
  grind
theorem mt_mD8_8 {g : Nat → Int32} {B : Nat → Int} (h : ∀ j, g j = Int32.ofInt (B j)) : mt_minor g 8 8 = Int32.ofInt (mt_R B 3 3) := by
  rw [mt_minI h (by decide) (l := [(false, [15])]) (by decide +kernel)]
  refine congrArg Int32.ofInt ?_
  simp only [mt_evI, mt_peI, mt_iftI, mt_iffI, mt_R, Nat.reduceMul, Nat.reduceAdd]
  grind
theorem mt_mD3_3 {g : Nat → Int32} {B : Nat → Int} (h : ∀ j, g j = Int32.ofInt (B j)) : mt_minor g 3 3 = Int32.ofInt (mt_D2 (mt_R B 0) (mt_R B 1) 0 1) := by
  rw [mt_minI h (by decide) (l := [(true, [1, 4]), (false, [0, 5])]) (by decide +kernel)]
  refine congrArg Int32.ofInt ?_
  simp only [mt_evI, mt_peI, mt_iftI, mt_iffI, mt_D2, mt_R, Nat.reduceMul, Nat.reduceAdd]
  grind
theorem mt_mD3_5 {g : Nat → Int32} {B : Nat → Int} (h : ∀ j, g j = Int32.ofInt (B j)) : mt_minor g 3 5 = Int32.ofInt (mt_D2 (mt_R B 0) (mt_R B 1) 0 2) := by
  rw [mt_minI h (by decide) (l := [(true, [2, 4]), (false, [0, 6])]) (by decide +kernel)]
  refine congrArg Int32.ofInt ?_
  simp only [mt_evI, mt_peI, mt_iftI, mt_iffI, mt_D2, mt_R, Nat.reduceMul, Nat.reduceAdd]
  grind
theorem mt_mD3_9 {g : Nat → Int32} {B : Nat → Int} (h : ∀ j, g j = Int32.ofInt (B j)) : mt_minor g 3 9 = Int32.ofInt (mt_D2 (mt_R B 0) (mt_R B 1) 0 3) := by
  rw [mt_minI h (by decide) (l := [(true, [3, 4]), (false, [0, 7])]) (by decide +kernel)]
  refine congrArg Int32.ofInt ?_
  simp only [mt_evI, mt_peI, mt_iftI, mt_iffI, mt_D2, mt_R, Nat.reduceMul, Nat.reduceAdd]
  grind
theorem mt_mD3_6 {g : Nat → Int32} {B : Nat → Int} (h : ∀ j, g j = Int32.ofInt (B j)) : mt_minor g 3 6 = Int32.ofInt (mt_D2 (mt_R B 0) (mt_R B 1) 1 2) := by
  rw [mt_minI h (by decide) (l := [(true, [2, 5]), (false, [1, 6])]) (by decide +kernel)]
  refine congrArg Int32.ofInt ?_
  simp only [mt_evI, mt_peI, mt_iftI, mt_iffI, mt_D2, mt_R, Nat.reduceMul, Nat.reduceAdd]
  grind
theorem mt_mD3_10 {g : Nat → Int32} {B : Nat → Int} (h : ∀ j, g j = Int32.ofInt (B j)) : mt_minor g 3 10 = Int32.ofInt (mt_D2 (mt_R B 0) (mt_R B 1) 1 3) := by
  rw [mt_minI h (by decide) (l := [(true, [3, 5]), (false, [1, 7])]) (by decide +kernel)]
  refine congrArg Int32.ofInt ?_
  simp only [mt_evI, mt_peI, mt_iftI, mt_iffI, mt_D2, mt_R, Nat.reduceMul, Nat.reduceAdd]
  grind
theorem mt_mD3_12 {g : Nat → Int32} {B : Nat → Int} (h : ∀ j, g j = Int32.ofInt (B j)) : mt_minor g 3 12 = Int32.ofInt (mt_D2 (mt_R B 0) (mt_R B 1) 2 3) := by
  rw [mt_minI h (by decide) (l := [(true, [3, 6]), (false, [2, 7])]) (by decide +kernel)]
  refine congrArg Int32.ofInt ?_
  simp only [mt_evI, mt_peI, mt_iftI, mt_iffI, mt_D2, mt_R, Nat.reduceMul, Nat.reduceAdd]
  grind
theorem mt_mD5_3 {g : Nat → Int32} {B : Nat → Int} (h : ∀ j, g j = Int32.ofInt (B j)) : mt_minor g 5 3 = Int32.ofInt (mt_D2 (mt_R B 0) (mt_R B 2) 0 1) := by
  rw [mt_minI h (by decide) (l := [(true, [1, 8]), (false, [0, 9])]) (by decide +kernel)]
  refine congrArg Int32.ofInt ?_
  simp only [mt_evI, mt_peI, mt_iftI, mt_iffI, mt_D2, mt_R, Nat.reduceMul, Nat.reduceAdd]
  grind
theorem mt_mD5_5 {g : Nat → Int32} {B : Nat → Int} (h : ∀ j, g j = Int32.ofInt (B j)) : mt_minor g 5 5 = Int32.ofInt (mt_D2 (mt_R B 0) (mt_R B 2) 0 2) := by
  rw [mt_minI h (by decide) (l := [(true, [2, 8]), (false, [0, 10])]) (by decide +kernel)]
  refine congrArg Int32.ofInt ?_
  simp only [mt_evI, mt_peI, mt_iftI, mt_iffI, mt_D2, mt_R, Nat.reduceMul, Nat.reduceAdd]
  grind
theorem mt_mD5_9 {g : Nat → Int32} {B : Nat → Int} (h : ∀ j, g j = Int32.ofInt (B j)) : mt_minor g 5 9 = Int32.ofInt (mt_D2 (mt_R B 0) (mt_R B 2) 0 3) := by
  rw [mt_minI h (by decide) (l := [(true, [3, 8]), (false, [0, 11])]) (by decide +kernel)]
  refine congrArg Int32.ofInt ?_
  simp only [mt_evI, mt_peI, mt_iftI, mt_iffI, mt_D2, mt_R, Nat.reduceMul, Nat.reduceAdd]
  grind
theorem mt_mD5_6 {g : Nat → Int32} {B : Nat → Int} (h : ∀ j, g j = Int32.ofInt (B j)) : mt_minor g 5 6 = Int32.ofInt (mt_D2 (mt_R B 0) (mt_R B 2) 1 2) := by
  rw [mt_minI h (by decide) (l := [(true, [2, 9]), (false, [1, 10])]) (by decide +kernel)]
  refine congrArg Int32.ofInt ?_
  simp only [mt_evI, mt_peI, mt_iftI, mt_iffI, mt_D2, mt_R, Nat.reduceMul, Nat.reduceAdd]
  grind
theorem mt_mD5_10 {g : Nat → Int32} {B : Nat → Int} (h : ∀ j, g j = Int32.ofInt (B j)) : mt_minor g 5 10 = Int32.ofInt (mt_D2 (mt_R B 0) (mt_R B 2) 1 3) := by
  rw [mt_minI h (by decide) (l := [(true, [3, 9]), (false, [1, 11])]) (by decide +kernel)]
  refine congrArg Int32.ofInt ?_
  simp only [mt_evI, mt_peI, mt_iftI, mt_iffI, mt_D2, mt_R, Nat.reduceMul, Nat.reduceAdd]
  grind
theorem mt_mD5_12 {g : Nat → Int32} {B : Nat → Int} (h : ∀ j, g j = Int32.ofInt (B j)) : mt_minor g 5 12 = Int32.ofInt (mt_D2 (mt_R B 0) (mt_R B 2) 2 3) := by
  rw [mt_minI h (by decide) (l := [(true, [3, 10]), (false, [2, 11])]) (by decide +kernel)]
  refine congrArg Int32.ofInt ?_
  simp only [mt_evI, mt_peI, mt_iftI, mt_iffI, mt_D2, mt_R, Nat.reduceMul, Nat.reduceAdd]
  grind
theorem mt_mD9_3 {g : Nat → Int32} {B : Nat → Int} (h : ∀ j, g j = Int32.ofInt (B j)) : mt_minor g 9 3 = Int32.ofInt (mt_D2 (mt_R B 0) (mt_R B 3) 0 1) := by
  rw [mt_minI h (by decide) (l := [(true, [1, 12]), (false, [0, 13])]) (by decide +kernel)]
  refine congrArg Int32.ofInt ?_
  simp only [mt_evI, mt_peI, mt_iftI, mt_iffI, mt_D2, mt_R, Nat.reduceMul, Nat.reduceAdd]
  grind
theorem mt_mD9_5 {g : Nat → Int32} {B : Nat → Int} (h : ∀ j, g j = Int32.ofInt (B j)) : mt_minor g 9 5 = Int32.ofInt (mt_D2 (mt_R B 0) (mt_R B 3) 0 2) := by
  rw [mt_minI h (by decide) (l := [(true, [2, 12]), (false, [0, 14])]) (by decide +kernel)]
  refine congrArg Int32.ofInt ?_
  simp only [mt_evI, mt_peI, mt_iftI, mt_iffI, mt_D2, mt_R, Nat.reduceMul, Nat.reduceAdd]
  grind
theorem mt_mD9_9 {g : Nat → Int32} {B : Nat → Int} (h : ∀ j, g j = Int32.ofInt (B j)) : mt_minor g 9 9 = Int32.ofInt (mt_D2 (mt_R B 0) (mt_R B 3) 0 3) := by
  rw [mt_minI h (by decide) (l := [(true, [3, 12]), (false, [0, 15])]) (by decide +kernel)]
  refine congrArg Int32.ofInt ?_
  simp only [mt_evI, mt_peI, mt_iftI, mt_iffI, mt_D2, mt_R, Nat.reduceMul, Nat.reduceAdd]
  grind
theorem mt_mD9_6 {g : Nat → Int32} {B : Nat → Int} (h : ∀ j, g j = Int32.ofInt (B j)) : mt_minor g 9 6 = Int32.ofInt (mt_D2 (mt_R B 0) (mt_R B 3) 1 2) := by
  rw [mt_minI h (by decide) (l := [(true, [2, 13]), (false, [1, 14])]) (by decide +kernel)]
  refine congrArg Int32.ofInt ?_
  simp only [mt_evI, mt_peI, mt_iftI, mt_iffI, mt_D2, mt_R, Nat.reduceMul, Nat.reduceAdd]
  grind
theorem mt_mD9_10 {g : Nat → Int32} {B : Nat → Int} (h : ∀ j, g j = Int32.ofInt (B j)) : mt_minor g 9 10 = Int32.ofInt (mt_D2 (mt_R B 0) (mt_R B 3) 1 3) := by
  rw [mt_minI h (by decide) (l := [(true, [3, 13]), (false, [1, 15])]) (by decide +kernel)]
  refine congrArg Int32.ofInt ?_
  simp only [mt_evI, mt_peI, mt_iftI, mt_iffI, mt_D2, mt_R, Nat.reduceMul, Nat.reduceAdd]
  grind
theorem mt_mD9_12 {g : Nat → Int32} {B : Nat → Int} (h : ∀ j, g j = Int32.ofInt (B j)) : mt_minor g 9 12 = Int32.ofInt (mt_D2 (mt_R B 0) (mt_R B 3) 2 3) := by
  rw [mt_minI h (by decide) (l := [(true, [3, 14]), (false, [2, 15])]) (by decide +kernel)]
  refine congrArg Int32.ofInt ?_
  simp only [mt_evI, mt_peI, mt_iftI, mt_iffI, mt_D2, mt_R, Nat.reduceMul, Nat.reduceAdd]
  grind
theorem mt_mD6_3 {g : Nat → Int32} {B : Nat → Int} (h : ∀ j, g j = Int32.ofInt (B j)) : mt_minor g 6 3 = Int32.ofInt (mt_D2 (mt_R B 1) (mt_R B 2) 0 1) := by
  rw [mt_minI h (by decide) (l := [(true, [5, 8]), (false, [4, 9])]) (by decide +kernel)]
  refine congrArg Int32.ofInt ?_
  simp only [mt_evI, mt_peI, mt_iftI, mt_iffI, mt_D2, mt_R, Nat.reduceMul, Nat.reduceAdd]
  grind
theorem mt_mD6_5 {g : Nat → Int32} {B : Nat → Int} (h : ∀ j, g j = Int32.ofInt (B j)) : mt_minor g 6 5 = Int32.ofInt (mt_D2 (mt_R B 1) (mt_R B 2) 0 2) := by
  rw [mt_minI h (by decide) (l := [(true, [6, 8]), (false, [4, 10])]) (by decide +kernel)]
  refine congrArg Int32.ofInt ?_
  simp only [mt_evI, mt_peI, mt_iftI, mt_iffI, mt_D2, mt_R, Nat.reduceMul, Nat.reduceAdd]
  grind
theorem mt_mD6_9 {g : Nat → Int32} {B : Nat → Int} (h : ∀ j, g j = Int32.ofInt (B j)) : mt_minor g 6 9 = Int32.ofInt (mt_D2 (mt_R B 1) (mt_R B 2) 0 3) := by
  rw [mt_minI h (by decide) (l := [(true, [7, 8]), (false, [4, 11])]) (by decide +kernel)]
  refine congrArg Int32.ofInt ?_
  simp only [mt_evI, mt_peI, mt_iftI, mt_iffI, mt_D2, mt_R, Nat.reduceMul, Nat.reduceAdd]
  grind
theorem mt_mD6_6 {g : Nat → Int32} {B : Nat → Int} (h : ∀ j, g j = Int32.ofInt (B j)) : mt_minor g 6 6 = Int32.ofInt (mt_D2 (mt_R B 1) (mt_R B 2) 1 2) := by
  rw [mt_minI h (by decide) (l := [(true, [6, 9]), (false, [5, 10])]) (by decide +kernel)]
  refine congrArg Int32.ofInt ?_
  simp only [mt_evI, mt_peI, mt_iftI, mt_iffI, mt_D2, mt_R, Nat.reduceMul, Nat.reduceAdd]
  grind
theorem mt_mD6_10 {g : Nat → Int32} {B : Nat → Int} (h : ∀ j, g j = Int32.ofInt (B j)) : mt_minor g 6 10 = Int32.ofInt (mt_D2 (mt_R B 1) (mt_R B 2) 1 3) := by
  rw [mt_minI h (by decide) (l := [(true, [7, 9]), (false, [5, 11])]) (by decide +kernel)]
  refine congrArg Int32.ofInt ?_
  simp only [mt_evI, mt_peI, mt_iftI, mt_iffI, mt_D2, mt_R, Nat.reduceMul, Nat.reduceAdd]
  grind
theorem mt_mD6_12 {g : Nat → Int32} {B : Nat → Int} (h : ∀ j, g j = Int32.ofInt (B j)) : mt_minor g 6 12 = Int32.ofInt (mt_D2 (mt_R B 1) (mt_R B 2) 2 3) := by
  rw [mt_minI h (by decide) (l := [(true, [7, 10]), (false, [6, 11])]) (by decide +kernel)]
  refine congrArg Int32.ofInt ?_
  simp only [mt_evI, mt_peI, mt_iftI, mt_iffI, mt_D2, mt_R, Nat.reduceMul, Nat.reduceAdd]
  grind
theorem mt_mD10_3 {g : Nat → Int32} {B : Nat → Int} (h : ∀ j, g j = Int32.ofInt (B j)) : mt_minor g 10 3 = Int32.ofInt (mt_D2 (mt_R B 1) (mt_R B 3) 0 1) := by
  rw [mt_minI h (by decide) (l := [(true, [5, 12]), (false, [4, 13])]) (by decide +kernel)]
  refine congrArg Int32.ofInt ?_
  simp only [mt_evI, mt_peI, mt_iftI, mt_iffI, mt_D2, mt_R, Nat.reduceMul, Nat.reduceAdd]
  grind
theorem mt_mD10_5 {g : Nat → Int32} {B : Nat → Int} (h : ∀ j, g j = Int32.ofInt (B j)) : mt_minor g 10 5 = Int32.ofInt (mt_D2 (mt_R B 1) (mt_R B 3) 0 2) := by
  rw [mt_minI h (by decide) (l := [(true, [6, 12]), (false, [4, 14])]) (by decide +kernel)]
  refine congrArg Int32.ofInt ?_
  simp only [mt_evI, mt_peI, mt_iftI, mt_iffI, mt_D2, mt_R, Nat.reduceMul, Nat.reduceAdd]
  grind
theorem mt_mD10_9 {g : Nat → Int32} {B : Nat → Int} (h : ∀ j, g j = Int32.ofInt (B j)) : mt_minor g 10 9 = Int32.ofInt (mt_D2 (mt_R B 1) (mt_R B 3) 0 3) := by
  rw [mt_minI h (by decide) (l := [(true, [7, 12]), (false, [4, 15])]) (by decide +kernel)]
  refine congrArg Int32.ofInt ?_
  simp only [mt_evI, mt_peI, mt_iftI, mt_iffI, mt_D2, mt_R, Nat.reduceMul, Nat.reduceAdd]
  grind
theorem mt_mD10_6 {g : Nat → Int32} {B : Nat → Int} (h : ∀ j, g j = Int32.ofInt (B j)) : mt_minor g 10 6 = Int32.ofInt (mt_D2 (mt_R B 1) (mt_R B 3) 1 2) := by
  rw [mt_minI h (by decide) (l := [(true, [6, 13]), (false, [5, 14])]) (by decide +kernel)]
  refine congrArg Int32.ofInt ?_
  simp only [mt_evI, mt_peI, mt_iftI, mt_iffI, mt_D2, mt_R, Nat.reduceMul, Nat.reduceAdd]
  grind
theorem mt_mD10_10 {g : Nat → Int32} {B : Nat → Int} (h : ∀ j, g j = Int32.ofInt (B j)) : mt_minor g 10 10 = Int32.ofInt (mt_D2 (mt_R B 1) (mt_R B 3) 1 3) := by
  rw [mt_minI h (by decide) (l := [(true, [7, 13]), (false, [5, 15])]) (by decide +kernel)]
  refine congrArg Int32.ofInt ?_
  simp only [mt_evI, mt_peI, mt_iftI, mt_iffI, mt_D2, mt_R, Nat.reduceMul, Nat.reduceAdd]
  grind
theorem mt_mD10_12 {g : Nat → Int32} {B : Nat → Int} (h : ∀ j, g j = Int32.ofInt (B j)) : mt_minor g 10 12 = Int32.ofInt (mt_D2 (mt_R B 1) (mt_R B 3) 2 3) := by
  rw [mt_minI h (by decide) (l := [(true, [7, 14]), (false, [6, 15])]) (by decide +kernel)]
  refine congrArg Int32.ofInt ?_
  simp only [mt_evI, mt_peI, mt_iftI, mt_iffI, mt_D2, mt_R, Nat.reduceMul, Nat.reduceAdd]
  grind
theorem mt_mD12_3 {g : Nat → Int32} {B : Nat → Int} (h : ∀ j, g j = Int32.ofInt (B j)) : mt_minor g 12 3 = Int32.ofInt (mt_D2 (mt_R B 2) (mt_R B 3) 0 1) := by
  rw [mt_minI h (by decide) (l := [(true, [9, 12]), (false, [8, 13])]) (by decide +kernel)]
  refine congrArg Int32.ofInt ?_
  simp only [mt_evI, mt_peI, mt_iftI, mt_iffI, mt_D2, mt_R, Nat.reduceMul, Nat.reduceAdd]
  grind
theorem mt_mD12_5 {g : Nat → Int32} {B : Nat → Int} (h : ∀ j, g j = Int32.ofInt (B j)) : mt_minor g 12 5 = Int32.ofInt (mt_D2 (mt_R B 2) (mt_R B 3) 0 2) := by
  rw [mt_minI h (by decide) (l := [(true, [10, 12]), (false, [8, 14])]) (by decide +kernel)]
  refine congrArg Int32.ofInt ?_
  simp only [mt_evI, mt_peI, mt_iftI, mt_iffI, mt_D2, mt_R, Nat.reduceMul, Nat.reduceAdd]
  grind
theorem mt_mD12_9 {g : Nat → Int32} {B : Nat → Int} (h : ∀ j, g j = Int32.ofInt (B j)) : mt_minor g 12 9 = Int32.ofInt (mt_D2 (mt_R B 2) (mt_R B 3) 0 3) := by
  rw [mt_minI h (by decide) (l := [(true, [11, 12]), (false, [8, 15])]) (by decide +kernel)]
  refine congrArg Int32.ofInt ?_
  simp only [mt_evI, mt_peI, mt_iftI, mt_iffI, mt_D2, mt_R, Nat.reduceMul, Nat.reduceAdd]
  grind
theorem mt_mD12_6 {g : Nat → Int32} {B : Nat → Int} (h : ∀ j, g j = Int32.ofInt (B j)) : mt_minor g 12 6 = Int32.ofInt (mt_D2 (mt_R B 2) (mt_R B 3) 1 2) := by
  rw [mt_minI h (by decide) (l := [(true, [10, 13]), (false, [9, 14])]) (by decide +kernel)]
  refine congrArg Int32.ofInt ?_
  simp only [mt_evI, mt_peI, mt_iftI, mt_iffI, mt_D2, mt_R, Nat.reduceMul, Nat.reduceAdd]
  grind
theorem mt_mD12_10 {g : Nat → Int32} {B : Nat → Int} (h : ∀ j, g j = Int32.ofInt (B j)) : mt_minor g 12 10 = Int32.ofInt (mt_D2 (mt_R B 2) (mt_R B 3) 1 3) := by
  rw [mt_minI h (by decide) (l := [(true, [11, 13]), (false, [9, 15])]) (by decide +kernel)]
  refine congrArg Int32.ofInt ?_
  simp only [mt_evI, mt_peI, mt_iftI, mt_iffI, mt_D2, mt_R, Nat.reduceMul, Nat.reduceAdd]
  grind
theorem mt_mD12_12 {g : Nat → Int32} {B : Nat → Int} (h : ∀ j, g j = Int32.ofInt (B j)) : mt_minor g 12 12 = Int32.ofInt (mt_D2 (mt_R B 2) (mt_R B 3) 2 3) := by
  rw [mt_minI h (by decide) (l := [(true, [11, 14]), (false, [10, 15])]) (by decide +kernel)]
  refine congrArg Int32.ofInt ?_
  simp only [mt_evI, mt_peI, mt_iftI, mt_iffI, mt_D2, mt_R, Nat.reduceMul, Nat.reduceAdd]
  grind
theorem mt_mD7_7 {g : Nat → Int32} {B : Nat → Int} (h : ∀ j, g j = Int32.ofInt (B j)) : mt_minor g 7 7 = Int32.ofInt (mt_D3 (mt_R B 0) (mt_R B 1) (mt_R B 2) 0 1 2) := by
  rw [mt_minI h (by decide) (l := [(true, [2, 5, 8]), (false, [1, 6, 8]), (false, [2, 4, 9]), (true, [0, 6, 9]), (true, [1, 4, 10]), (false, [0, 5, 10])]) (by decide +kernel)]
  refine congrArg Int32.ofInt ?_
  simp only [mt_evI, mt_peI, mt_iftI, mt_iffI, mt_D3, mt_D2, mt_R, Nat.reduceMul, Nat.reduceAdd]
  grind
theorem mt_mD7_11 {g : Nat → Int32} {B : Nat → Int} (h : ∀ j, g j = Int32.ofInt (B j)) : mt_minor g 7 11 = Int32.ofInt (mt_D3 (mt_R B 0) (mt_R B 1) (mt_R B 2) 0 1 3) := by
  rw [mt_minI h (by decide) (l := [(true, [3, 5, 8]), (false, [1, 7, 8]), (false, [3, 4, 9]), (true, [0, 7, 9]), (true, [1, 4, 11]), (false, [0, 5, 11])]) (by decide +kernel)]
  refine congrArg Int32.ofInt ?_
  simp only [mt_evI, mt_peI, mt_iftI, mt_iffI, mt_D3, mt_D2, mt_R, Nat.reduceMul, Nat.reduceAdd]
  grind
theorem mt_mD7_13 {g : Nat → Int32} {B : Nat → Int} (h : ∀ j, g j = Int32.ofInt (B j)) : mt_minor g 7 13 = Int32.ofInt (mt_D3 (mt_R B 0) (mt_R B 1) (mt_R B 2) 0 2 3) := by
  rw [mt_minI h (by decide) (l := [(true, [3, 6, 8]), (false, [2, 7, 8]), (false, [3, 4, 10]), (true, [0, 7, 10]), (true, [2, 4, 11]), (false, [0, 6, 11])]) (by decide +kernel)]
  refine congrArg Int32.ofInt ?_
  simp only [mt_evI, mt_peI, mt_iftI, mt_iffI, mt_D3, mt_D2, mt_R, Nat.reduceMul, Nat.reduceAdd]
  grind
theorem mt_mD7_14 {g : Nat → Int32} {B : Nat → Int} (h : ∀ j, g j = Int32.ofInt (B j)) : mt_minor g 7 14 = Int32.ofInt (mt_D3 (mt_R B 0) (mt_R B 1) (mt_R B 2) 1 2 3) := by
  rw [mt_minI h (by decide) (l := [(true, [3, 6, 9]), (false, [2, 7, 9]), (false, [3, 5, 10]), (true, [1, 7, 10]), (true, [2, 5, 11]), (false, [1, 6, 11])]) (by decide +kernel)]
  refine congrArg Int32.ofInt ?_
  simp only [mt_evI, mt_peI, mt_iftI, mt_iffI, mt_D3, mt_D2, mt_R, Nat.reduceMul, Nat.reduceAdd]
  grind
theorem mt_mD11_7 {g : Nat → Int32} {B : Nat → Int} (h : ∀ j, g j = Int32.ofInt (B j)) : mt_minor g 11 7 = Int32.ofInt (mt_D3 (mt_R B 0) (mt_R B 1) (mt_R B 3) 0 1 2) := by
  rw [mt_minI h (by decide) (l := [(true, [2, 5, 12]), (false, [1, 6, 12]), (false, [2, 4, 13]), (true, [0, 6, 13]), (true, [1, 4, 14]), (false, [0, 5, 14])]) (by decide +kernel)]
  refine congrArg Int32.ofInt ?_
  simp only [mt_evI, mt_peI, mt_iftI, mt_iffI, mt_D3, mt_D2, mt_R, Nat.reduceMul, Nat.reduceAdd]
  grind
theorem mt_mD11_11 {g : Nat → Int32} {B : Nat → Int} (h : ∀ j, g j = Int32.ofInt (B j)) : mt_minor g 11 11 = Int32.ofInt (mt_D3 (mt_R B 0) (mt_R B 1) (mt_R B 3) 0 1 3) := by
  rw [mt_minI h (by decide) (l := [(true, [3, 5, 12]), (false, [1, 7, 12]), (false, [3, 4, 13]), (true, [0, 7, 13]), (true, [1, 4, 15]), (false, [0, 5, 15])]) (by decide +kernel)]
  refine congrArg Int32.ofInt ?_
  simp only [mt_evI, mt_peI, mt_iftI, mt_iffI, mt_D3, mt_D2, mt_R, Nat.reduceMul, Nat.reduceAdd]
  grind
theorem mt_mD11_13 {g : Nat → Int32} {B : Nat → Int} (h : ∀ j, g j = Int32.ofInt (B j)) : mt_minor g 11 13 = Int32.ofInt (mt_D3 (mt_R B 0) (mt_R B 1) (mt_R B 3) 0 2 3) := by
  rw [mt_minI h (by decide) (l := [(true, [3, 6, 12]), (false, [2, 7, 12]), (false, [3, 4, 14]), (true, [0, 7, 14]), (true, [2, 4, 15]), (false, [0, 6, 15])]) (by decide +kernel)]
  refine congrArg Int32.ofInt ?_
  simp only [mt_evI, mt_peI, mt_iftI, mt_iffI, mt_D3, mt_D2, mt_R, Nat.reduceMul, Nat.reduceAdd]
  grind
theorem mt_mD11_14 {g : Nat → Int32} {B : Nat → Int} (h : ∀ j, g j = Int32.ofInt (B j)) : mt_minor g 11 14 = Int32.ofInt (mt_D3 (mt_R B 0) (mt_R B 1) (mt_R B 3) 1 2 3) := by
  rw [mt_minI h (by decide) (l := [(true, [3, 6, 13]), (false, [2, 7, 13]), (false, [3, 5, 14]), (true, [1, 7, 14]), (true, [2, 5, 15]), (false, [1, 6, 15])]) (by decide +kernel)]
  refine congrArg Int32.ofInt ?_
  simp only [mt_evI, mt_peI, mt_iftI, mt_iffI, mt_D3, mt_D2, mt_R, Nat.reduceMul, Nat.reduceAdd]
  grind
theorem mt_mD13_7 {g : Nat → Int32} {B : Nat → Int} (h : ∀ j, g j = Int32.ofInt (B j)) : mt_minor g 13 7 = Int32.ofInt (mt_D3 (mt_R B 0) (mt_R B 2) (mt_R B 3) 0 1 2) := by
  rw [mt_minI h (by decide) (l := [(true, [2, 9, 12]), (false, [1, 10, 12]), (false, [2, 8, 13]), (true, [0, 10, 13]), (true, [1, 8, 14]), (false, [0, 9, 14])]) (by decide +kernel)]
  refine congrArg Int32.ofInt ?_
  simp only [mt_evI, mt_peI, mt_iftI, mt_iffI, mt_D3, mt_D2, mt_R, Nat.reduceMul, Nat.reduceAdd]
  grind
theorem mt_mD13_11 {g : Nat → Int32} {B : Nat → Int} (h : ∀ j, g j = Int32.ofInt (B j)) : mt_minor g 13 11 = Int32.ofInt (mt_D3 (mt_R B 0) (mt_R B 2) (mt_R B 3) 0 1 3) := by
  rw [mt_minI h (by decide) (l := [(true, [3, 9, 12]), (false, [1, 11, 12]), (false, [3, 8, 13]), (true, [0, 11, 13]), (true, [1, 8, 15]), (false, [0, 9, 15])]) (by decide +kernel)]
  refine congrArg Int32.ofInt ?_
  simp only [mt_evI, mt_peI, mt_iftI, mt_iffI, mt_D3, mt_D2, mt_R, Nat.reduceMul, Nat.reduceAdd]
  grind
theorem mt_mD13_13 {g : Nat → Int32} {B : Nat → Int} (h : ∀ j, g j = Int32.ofInt (B j)) : mt_minor g 13 13 = Int32.ofInt (mt_D3 (mt_R B 0) (mt_R B 2) (mt_R B 3) 0 2 3) := by
  rw [mt_minI h (by decide) (l := [(true, [3, 10, 12]), (false, [2, 11, 12]), (false, [3, 8, 14]), (true, [0, 11, 14]), (true, [2, 8, 15]), (false, [0, 10, 15])]) (by decide +kernel)]
  refine congrArg Int32.ofInt ?_
  simp only [mt_evI, mt_peI, mt_iftI, mt_iffI, mt_D3, mt_D2, mt_R, Nat.reduceMul, Nat.reduceAdd]
  grind
theorem mt_mD13_14 {g : Nat → Int32} {B : Nat → Int} (h : ∀ j, g j = Int32.ofInt (B j)) : mt_minor g 13 14 = Int32.ofInt (mt_D3 (mt_R B 0) (mt_R B 2) (mt_R B 3) 1 2 3) := by
  rw [mt_minI h (by decide) (l := [(true, [3, 10, 13]), (false, [2, 11, 13]), (false, [3, 9, 14]), (true, [1, 11, 14]), (true, [2, 9, 15]), (false, [1, 10, 15])]) (by decide +kernel)]
  refine congrArg Int32.ofInt ?_
  simp only [mt_evI, mt_peI, mt_iftI, mt_iffI, mt_D3, mt_D2, mt_R, Nat.reduceMul, Nat.reduceAdd]
  grind
theorem mt_mD14_7 {g : Nat → Int32} {B : Nat → Int} (h : ∀ j, g j = Int32.ofInt (B j)) : mt_minor g 14 7 = Int32.ofInt (mt_D3 (mt_R B 1) (mt_R B 2) (mt_R B 3) 0 1 2) := by
  rw [mt_minI h (by decide) (l := [(true, [6, 9, 12]), (false, [5, 10, 12]), (false, [6, 8, 13]), (true, [4, 10, 13]), (true, [5, 8, 14]), (false, [4, 9, 14])]) (by decide +kernel)]
  refine congrArg Int32.ofInt ?_
  simp only [mt_evI, mt_peI, mt_iftI, mt_iffI, mt_D3, mt_D2, mt_R, Nat.reduceMul, Nat.reduceAdd]
  grind
theorem mt_mD14_11 {g : Nat → Int32} {B : Nat → Int} (h : ∀ j, g j = Int32.ofInt (B j)) : mt_minor g 14 11 = Int32.ofInt (mt_D3 (mt_R B 1) (mt_R B 2) (mt_R B 3) 0 1 3) := by
  rw [mt_minI h (by decide) (l := [(true, [7, 9, 12]), (false, [5, 11, 12]), (false, [7, 8, 13]), (true, [4, 11, 13]), (true, [5, 8, 15]), (false, [4, 9, 15])]) (by decide +kernel)]
  refine congrArg Int32.ofInt ?_
  simp only [mt_evI, mt_peI, mt_iftI, mt_iffI, mt_D3, mt_D2, mt_R, Nat.reduceMul, Nat.reduceAdd]
  grind
theorem mt_mD14_13 {g : Nat → Int32} {B : Nat → Int} (h : ∀ j, g j = Int32.ofInt (B j)) : mt_minor g 14 13 = Int32.ofInt (mt_D3 (mt_R B 1) (mt_R B 2) (mt_R B 3) 0 2 3) := by
  rw [mt_minI h (by decide) (l := [(true, [7, 10, 12]), (false, [6, 11, 12]), (false, [7, 8, 14]), (true, [4, 11, 14]), (true, [6, 8, 15]), (false, [4, 10, 15])]) (by decide +kernel)]
  refine congrArg Int32.ofInt ?_
  simp only [mt_evI, mt_peI, mt_iftI, mt_iffI, mt_D3, mt_D2, mt_R, Nat.reduceMul, Nat.reduceAdd]
  grind
theorem mt_mD14_14 {g : Nat → Int32} {B : Nat → Int} (h : ∀ j, g j = Int32.ofInt (B j)) : mt_minor g 14 14 = Int32.ofInt (mt_D3 (mt_R B 1) (mt_R B 2) (mt_R B 3) 1 2 3) := by
  rw [mt_minI h (by decide) (l := [(true, [7, 10, 13]), (false, [6, 11, 13]), (false, [7, 9, 14]), (true, [5, 11, 14]), (true, [6, 9, 15]), (false, [5, 10, 15])]) (by decide +kernel)]
  refine congrArg Int32.ofInt ?_
  simp only [mt_evI, mt_peI, mt_iftI, mt_iffI, mt_D3, mt_D2, mt_R, Nat.reduceMul, Nat.reduceAdd]
  grind
theorem mt_mD15_15 {g : Nat → Int32} {B : Nat → Int} (h : ∀ j, g j = Int32.ofInt (B j)) : mt_minor g 15 15 = Int32.ofInt (mt_D4 (mt_R B 0) (mt_R B 1) (mt_R B 2) (mt_R B 3)) := by
  rw [mt_minI h (by decide) (l := [(false, [3, 6, 9, 12]), (true, [2, 7, 9, 12]), (true, [3, 5, 10, 12]), (false, [1, 7, 10, 12]), (false, [2, 5, 11, 12]), (true, [1, 6, 11, 12]), (true, [3, 6, 8, 13]), (false, [2, 7, 8, 13]), (false, [3, 4, 10, 13]), (true, [0, 7, 10, 13]), (true, [2, 4, 11, 13]), (false, [0, 6, 11, 13]), (false, [3, 5, 8, 14]), (true, [1, 7, 8, 14]), (true, [3, 4, 9, 14]), (false, [0, 7, 9, 14]), (false, [1, 4, 11, 14]), (true, [0, 5, 11, 14]), (true, [2, 5, 8, 15]), (false, [1, 6, 8, 15]), (false, [2, 4, 9, 15]), (true, [0, 6, 9, 15]), (true, [1, 4, 10, 15]), (false, [0, 5, 10, 15])]) (by decide +kernel)]
  refine congrArg Int32.ofInt ?_
  simp only [mt_evI, mt_peI, mt_iftI, mt_iffI, mt_D4, mt_D3, mt_D2, mt_R, Nat.reduceMul, Nat.reduceAdd]
  grind
theorem mt_mn1 {g : Nat → Int32} {B : Nat → Int} (h : ∀ j, g j = Int32.ofInt (B j)) : ∀ i : Nat, i < 4 → ∀ a : Nat, a < 4 → mt_minor g (2 ^ i) (2 ^ a) = Int32.ofInt (mt_R B i a) := by
  intro i h0 a g0
  have q1 : (i = 0) ∨ (i = 1) ∨ (i = 2) ∨ (i = 3) := by omega
  have q2 : (a = 0) ∨ (a = 1) ∨ (a = 2) ∨ (a = 3) := by omega
  rcases q1 with rfl | rfl | rfl | rfl
  · rcases q2 with rfl | rfl | rfl | rfl
    · exact mt_mD1_1 h
    · exact mt_mD1_2 h
    · exact mt_mD1_4 h
    · exact mt_mD1_8 h
  · rcases q2 with rfl | rfl | rfl | rfl
    · exact mt_mD2_1 h
    · exact mt_mD2_2 h
    · exact mt_mD2_4 h
    · exact mt_mD2_8 h
  · rcases q2 with rfl | rfl | rfl | rfl
    · exact mt_mD4_1 h
    · exact mt_mD4_2 h
    · exact mt_mD4_4 h
    · exact mt_mD4_8 h
  · rcases q2 with rfl | rfl | rfl | rfl
    · exact mt_mD8_1 h
    · exact mt_mD8_2 h
    · exact mt_mD8_4 h
    · exact mt_mD8_8 h
theorem mt_mn2 {g : Nat → Int32} {B : Nat → Int} (h : ∀ j, g j = Int32.ofInt (B j)) : ∀ i j : Nat, i < j → j < 4 → ∀ a b : Nat, a < b → b < 4 → mt_minor g (2 ^ i + 2 ^ j) (2 ^ a + 2 ^ b) = Int32.ofInt (mt_D2 (mt_R B i) (mt_R B j) a b) := by
  intro i j h0 h1 a b g0 g1
  have q1 : (i = 0 ∧ j = 1) ∨ (i = 0 ∧ j = 2) ∨ (i = 0 ∧ j = 3) ∨ (i = 1 ∧ j = 2) ∨ (i = 1 ∧ j = 3) ∨ (i = 2 ∧ j = 3) := by omega
  have q2 : (a = 0 ∧ b = 1) ∨ (a = 0 ∧ b = 2) ∨ (a = 0 ∧ b = 3) ∨ (a = 1 ∧ b = 2) ∨ (a = 1 ∧ b = 3) ∨ (a = 2 ∧ b = 3) := by omega
  rcases q1 with ⟨rfl, rfl⟩ | ⟨rfl, rfl⟩ | ⟨rfl, rfl⟩ | ⟨rfl, rfl⟩ | ⟨rfl, rfl⟩ | ⟨rfl, rfl⟩
  · rcases q2 with ⟨rfl, rfl⟩ | ⟨rfl, rfl⟩ | ⟨rfl, rfl⟩ | ⟨rfl, rfl⟩ | ⟨rfl, rfl⟩ | ⟨rfl, rfl⟩
    · exact mt_mD3_3 h
    · exact mt_mD3_5 h
    · exact mt_mD3_9 h
    · exact mt_mD3_6 h
    · exact mt_mD3_10 h
    · exact mt_mD3_12 h
  · rcases q2 with ⟨rfl, rfl⟩ | ⟨rfl, rfl⟩ | ⟨rfl, rfl⟩ | ⟨rfl, rfl⟩ | ⟨rfl, rfl⟩ | ⟨rfl, rfl⟩
    · exact mt_mD5_3 h
    · exact mt_mD5_5 h
    · exact mt_mD5_9 h
    · exact mt_mD5_6 h
    · exact mt_mD5_10 h
    · exact mt_mD5_12 h
  · rcases q2 with ⟨rfl, rfl⟩ | ⟨rfl, rfl⟩ | ⟨rfl, rfl⟩ | ⟨rfl, rfl⟩ | ⟨rfl, rfl⟩ | ⟨rfl, rfl⟩
    · exact mt_mD9_3 h
    · exact mt_mD9_5 h
    · exact mt_mD9_9 h
    · exact mt_mD9_6 h
    · exact mt_mD9_10 h
    · exact mt_mD9_12 h
  · rcases q2 with ⟨rfl, rfl⟩ | ⟨rfl, rfl⟩ | ⟨rfl, rfl⟩ | ⟨rfl, rfl⟩ | ⟨rfl, rfl⟩ | ⟨rfl, rfl⟩
    · exact mt_mD6_3 h
    · exact mt_mD6_5 h
    · exact mt_mD6_9 h
    · exact mt_mD6_6 h
    · exact mt_mD6_10 h
    · exact mt_mD6_12 h
  · rcases q2 with ⟨rfl, rfl⟩ | ⟨rfl, rfl⟩ | ⟨rfl, rfl⟩ | ⟨rfl, rfl⟩ | ⟨rfl, rfl⟩ | ⟨rfl, rfl⟩
    · exact mt_mD10_3 h
    · exact mt_mD10_5 h
    · exact mt_mD10_9 h
    · exact mt_mD10_6 h
    · exact mt_mD10_10 h
    · exact mt_mD10_12 h
  · rcases q2 with ⟨rfl, rfl⟩ | ⟨rfl, rfl⟩ | ⟨rfl, rfl⟩ | ⟨rfl, rfl⟩ | ⟨rfl, rfl⟩ | ⟨rfl, rfl⟩
    · exact mt_mD12_3 h
    · exact mt_mD12_5 h
    · exact mt_mD12_9 h
    · exact mt_mD12_6 h
    · exact mt_mD12_10 h
    · exact mt_mD12_12 h
theorem mt_mn3 {g : Nat → Int32} {B : Nat → Int} (h : ∀ j, g j = Int32.ofInt (B j)) : ∀ i j k : Nat, i < j → j < k → k < 4 → ∀ a b c : Nat, a < b → b < c → c < 4 → mt_minor g (2 ^ i + 2 ^ j + 2 ^ k) (2 ^ a + 2 ^ b + 2 ^ c) = Int32.ofInt (mt_D3 (mt_R B i) (mt_R B j) (mt_R B k) a b c) := by
  intro i j k h0 h1 h2 a b c g0 g1 g2
  have q1 : (i = 0 ∧ j = 1 ∧ k = 2) ∨ (i = 0 ∧ j = 1 ∧ k = 3) ∨ (i = 0 ∧ j = 2 ∧ k = 3) ∨ (i = 1 ∧ j = 2 ∧ k = 3) := by omega
  have q2 : (a = 0 ∧ b = 1 ∧ c = 2) ∨ (a = 0 ∧ b = 1 ∧ c = 3) ∨ (a = 0 ∧ b = 2 ∧ c = 3) ∨ (a = 1 ∧ b = 2 ∧ c = 3) := by omega
  rcases q1 with ⟨rfl, rfl, rfl⟩ | ⟨rfl, rfl, rfl⟩ | ⟨rfl, rfl, rfl⟩ | ⟨rfl, rfl, rfl⟩
  · rcases q2 with ⟨rfl, rfl, rfl⟩ | ⟨rfl, rfl, rfl⟩ | ⟨rfl, rfl, rfl⟩ | ⟨rfl, rfl, rfl⟩
    · exact mt_mD7_7 h
    · exact mt_mD7_11 h
    · exact mt_mD7_13 h
    · exact mt_mD7_14 h
  · rcases q2 with ⟨rfl, rfl, rfl⟩ | ⟨rfl, rfl, rfl⟩ | ⟨rfl, rfl, rfl⟩ | ⟨rfl, rfl, rfl⟩
    · exact mt_mD11_7 h
    · exact mt_mD11_11 h
    · exact mt_mD11_13 h
    · exact mt_mD11_14 h
  · rcases q2 with ⟨rfl, rfl, rfl⟩ | ⟨rfl, rfl, rfl⟩ | ⟨rfl, rfl, rfl⟩ | ⟨rfl, rfl, rfl⟩
    · exact mt_mD13_7 h
    · exact mt_mD13_11 h
    · exact mt_mD13_13 h
    · exact mt_mD13_14 h
  · rcases q2 with ⟨rfl, rfl, rfl⟩ | ⟨rfl, rfl, rfl⟩ | ⟨rfl, rfl, rfl⟩ | ⟨rfl, rfl, rfl⟩
    · exact mt_mD14_7 h
    · exact mt_mD14_11 h
    · exact mt_mD14_13 h
    · exact mt_mD14_14 h
end
section
/-! the reference's rank: the greatest size of a minor that isn't zero -/
def mt_pz (m : Nat) : Nat := m % 2 + m / 2 % 2 + m / 4 % 2 + m / 8 % 2
theorem mt_pzI : ∀ m, m < 16 → ((((nI m &&& 1) + ((nI m >>> ((1 : Int32) &&& 31)) &&& 1)) + ((nI m >>> ((2 : Int32) &&& 31)) &&& 1)) + ((nI m >>> ((3 : Int32) &&& 31)) &&& 1)) = nI (mt_pz m) := by decide +kernel
theorem mt_pz4 : ∀ m, m < 16 → mt_pz m ≤ 4 := by decide +kernel
theorem mt_r15 : ∀ b, b < 256 → (nI b &&& 15) = nI (b % 16) := by decide +kernel
theorem mt_r4 : ∀ b, b < 256 → (nI b >>> ((4 : Int32) &&& 31)) = nI (b / 16) := by decide +kernel
def mt_V (g : Nat → Int32) (k : Nat) : Prop := ∃ b : Nat, b < 256 ∧ mt_pz (b % 16) = k ∧ mt_pz (b / 16) = k ∧ mt_minor g (b % 16) (b / 16) ≠ 0
def mt_YR (g : Nat → Int32) (r : Nat) : Prop := (r = 0 ∨ mt_V g r) ∧ ∀ k, 0 < k → mt_V g k → k ≤ r
section
variable {t pw wk pr W : Nat → Int32}
theorem mt_ysize {post : Int32 → Prop} {m : Nat} (hm : m < 16) (H : post (nI (mt_pz m))) : wpY_size post (t, pw, wk, pr, W) (nI m) := by
  unfold wpY_size
  dsimp only
  rw [mt_pzI m hm]
  exact H
theorem mt_y24 {post : Int32 → SY → Prop} (H : ∀ r, r ≤ 4 → mt_YR wk r → post (nI r) (t, pw, wk, pr, mt_W)) : ∀ (d b r : Nat), b + d = 256 → r ≤ 4 → (r = 0 ∨ mt_V wk r) → (∀ b', b' < b → mt_pz (b' % 16) = mt_pz (b' / 16) → mt_minor wk (b' % 16) (b' / 16) ≠ 0 → mt_pz (b' % 16) ≤ r) → wY_rankAt_24 post t pw wk pr mt_W (d + 1) (nI r) (nI b) := by
  intro d
  induction d with
  | zero =>
    intro b r hb hr h1 h2
    have e : b = 256 := by omega
    subst e
    refine br_t (mt_le 256 (by decide)) (H r hr ⟨h1, ?_⟩)
    intro k hk ⟨b, q1, q2, q3, q4⟩
    rw [← q2]
    exact h2 b q1 (by rw [q2, q3]) q4
  | succ d ih =>
    intro b r hb hr h1 h2
    have hb2 : b < 256 := by omega
    have m1 : b % 16 < 16 := by omega
    have m2 : b / 16 < 16 := by omega
    have z1 := mt_pz4 _ m1
    have z2 := mt_pz4 _ m2
    have N : (mt_pz (b % 16) = mt_pz (b / 16) → mt_minor wk (b % 16) (b / 16) ≠ 0 → mt_pz (b % 16) ≤ r) → wY_rankAt_24 post t pw wk pr mt_W (d + 1) (nI r) (nI (b + 1)) := by
      intro q
      refine ih (b + 1) r (by omega) hr h1 ?_
      intro b' hb' e1 e2
      by_cases e : b' = b
      · rw [e] at e1 e2 ⊢
        exact q e1 e2
      · exact h2 b' (by omega) e1 e2
    refine br_f (mt_ge (e := 256) hb2 (by decide)) (nm_r (mt_r15 b hb2) (nm_r (mt_r4 b hb2) ?_))
    refine mt_ysize m1 (mt_ysize m2 ?_)
    by_cases b1 : mt_pz (b % 16) = mt_pz (b / 16)
    · refine br_t (by rw [b1]) (mt_ysize m1 ?_)
      by_cases b2 : mt_pz (b % 16) ≤ r
      · exact br_t (nI_le b2 (by omega)) (nm_r (mt_up b) (N (fun _ _ => b2)))
      · refine br_f (nI_ge (by omega) (by omega)) (mt_yminor m1 m2 ?_)
        by_cases b3 : mt_minor wk (b % 16) (b / 16) = 0
        · exact br_t b3 (nm_r (mt_up b) (N (fun _ q => absurd b3 q)))
        · refine br_f b3 (mt_ysize m1 (nm_r (mt_up b) ?_))
          refine ih (b + 1) _ (by omega) z1 (Or.inr ⟨b, hb2, rfl, b1.symm, b3⟩) ?_
          intro b' hb' e1 e2
          by_cases e : b' = b
          · rw [e]; exact Nat.le_refl _
          · have := h2 b' (by omega) e1 e2
            omega
    · exact br_f (fun z => b1 ((nI_eq (by omega) (by omega)).mp z)) (nm_r (mt_up b) (N (fun q _ => absurd q b1)))
theorem mt_yrank {post : Int32 → SY → Prop} (H : ∀ r, r ≤ 4 → mt_YR wk r → post (nI r) (t, pw, wk, pr, mt_W)) : ∃ n, wY_rankAt_24 post t pw wk pr mt_W n 0 1 := by
  refine ⟨256, mt_y24 H 255 1 0 rfl (by decide) (Or.inl rfl) ?_⟩
  intro b' hb' _ _
  have e : b' = 0 := by omega
  rw [e]
  decide
end
/-- masks of a size -/
theorem mt_k1 : ∀ m, m < 16 → mt_pz m = 1 → m = 2 ^ 0 ∨ m = 2 ^ 1 ∨ m = 2 ^ 2 ∨ m = 2 ^ 3 := by decide +kernel
theorem mt_k2 : ∀ m, m < 16 → mt_pz m = 2 → m = 2 ^ 0 + 2 ^ 1 ∨ m = 2 ^ 0 + 2 ^ 2 ∨ m = 2 ^ 0 + 2 ^ 3 ∨ m = 2 ^ 1 + 2 ^ 2 ∨ m = 2 ^ 1 + 2 ^ 3 ∨ m = 2 ^ 2 + 2 ^ 3 := by decide +kernel
theorem mt_k3 : ∀ m, m < 16 → mt_pz m = 3 → m = 2 ^ 0 + 2 ^ 1 + 2 ^ 2 ∨ m = 2 ^ 0 + 2 ^ 1 + 2 ^ 3 ∨ m = 2 ^ 0 + 2 ^ 2 + 2 ^ 3 ∨ m = 2 ^ 1 + 2 ^ 2 + 2 ^ 3 := by decide +kernel
theorem mt_k4 : ∀ m, m < 16 → mt_pz m = 4 → m = 15 := by decide +kernel
theorem mt_w1 {m : Nat} (hm : m < 16) (h : mt_pz m = 1) : ∃ i, i < 4 ∧ m = 2 ^ i := by
  rcases mt_k1 m hm h with e | e | e | e
  · exact ⟨0, by decide, e⟩
  · exact ⟨1, by decide, e⟩
  · exact ⟨2, by decide, e⟩
  · exact ⟨3, by decide, e⟩
theorem mt_w2 {m : Nat} (hm : m < 16) (h : mt_pz m = 2) : ∃ i j, i < j ∧ j < 4 ∧ m = 2 ^ i + 2 ^ j := by
  rcases mt_k2 m hm h with e | e | e | e | e | e
  · exact ⟨0, 1, by decide, by decide, e⟩
  · exact ⟨0, 2, by decide, by decide, e⟩
  · exact ⟨0, 3, by decide, by decide, e⟩
  · exact ⟨1, 2, by decide, by decide, e⟩
  · exact ⟨1, 3, by decide, by decide, e⟩
  · exact ⟨2, 3, by decide, by decide, e⟩
theorem mt_w3 {m : Nat} (hm : m < 16) (h : mt_pz m = 3) : ∃ i j k, i < j ∧ j < k ∧ k < 4 ∧ m = 2 ^ i + 2 ^ j + 2 ^ k := by
  rcases mt_k3 m hm h with e | e | e | e
  · exact ⟨0, 1, 2, by decide, by decide, by decide, e⟩
  · exact ⟨0, 1, 3, by decide, by decide, by decide, e⟩
  · exact ⟨0, 2, 3, by decide, by decide, by decide, e⟩
  · exact ⟨1, 2, 3, by decide, by decide, by decide, e⟩
theorem mt_u1 : ∀ i, i < 4 → mt_pz (2 ^ i) = 1 ∧ 2 ^ i < 16 := by decide +kernel
theorem mt_u2 : ∀ j, j < 4 → ∀ i, i < j → mt_pz (2 ^ i + 2 ^ j) = 2 ∧ 2 ^ i + 2 ^ j < 16 := by decide +kernel
theorem mt_u3 : ∀ k, k < 4 → ∀ j, j < k → ∀ i, i < j → mt_pz (2 ^ i + 2 ^ j + 2 ^ k) = 3 ∧ 2 ^ i + 2 ^ j + 2 ^ k < 16 := by decide +kernel
theorem mt_Vof {g : Nat → Int32} {k r c : Nat} (hr : r < 16) (hc : c < 16) (pr : mt_pz r = k) (pc : mt_pz c = k) (h : mt_minor g r c ≠ 0) : mt_V g k := by
  have e1 : (r + 16 * c) % 16 = r := by omega
  have e2 : (r + 16 * c) / 16 = c := by omega
  exact ⟨r + 16 * c, by omega, by rw [e1, pr], by rw [e2, pc], by rw [e1, e2]; exact h⟩
theorem mt_ofz {x : Int} (h1 : -2147483648 ≤ x) (h2 : x < 2147483648) (h : Int32.ofInt x = 0) : x = 0 := by
  have e := Int32.toInt_ofInt_of_le (n := x) (by omega) (by omega)
  rw [h, mt_z0] at e
  exact e.symm
def mt_BI (b : Int) (x : Int) : Prop := -b ≤ x ∧ x ≤ b
theorem mt_BIm {b c d x y : Int} (hx : mt_BI b x) (hy : mt_BI c y) (hd : b * c = d) : mt_BI d (x * y) := by
  rw [← hd]
  exact mt_absmul hx.1 hx.2 hy.1 hy.2
theorem mt_D2B {u v : Nat → Int} (hu : ∀ k, mt_BI 49 (u k)) (hv : ∀ k, mt_BI 49 (v k)) (a b : Nat) : mt_BI 4802 (mt_D2 u v a b) := by
  have q1 := mt_BIm (d := 2401) (hu a) (hv b) (by decide)
  have q2 := mt_BIm (d := 2401) (hu b) (hv a) (by decide)
  unfold mt_BI mt_D2 at *
  omega
theorem mt_D3B {u v w : Nat → Int} (hu : ∀ k, mt_BI 49 (u k)) (hv : ∀ k, mt_BI 49 (v k)) (hw : ∀ k, mt_BI 49 (w k)) (a b c : Nat) : mt_BI 705894 (mt_D3 u v w a b c) := by
  have q1 := mt_BIm (d := 235298) (hu a) (mt_D2B hv hw b c) (by decide)
  have q2 := mt_BIm (d := 235298) (hu b) (mt_D2B hv hw a c) (by decide)
  have q3 := mt_BIm (d := 235298) (hu c) (mt_D2B hv hw a b) (by decide)
  unfold mt_D3
  unfold mt_BI at *
  omega
theorem mt_D4B {u v w z : Nat → Int} (hu : ∀ k, mt_BI 49 (u k)) (hv : ∀ k, mt_BI 49 (v k)) (hw : ∀ k, mt_BI 49 (w k)) (hz : ∀ k, mt_BI 49 (z k)) : mt_BI 138355224 (mt_D4 u v w z) := by
  have q1 := mt_BIm (d := 34588806) (hu 0) (mt_D3B hv hw hz 1 2 3) (by decide)
  have q2 := mt_BIm (d := 34588806) (hu 1) (mt_D3B hv hw hz 0 2 3) (by decide)
  have q3 := mt_BIm (d := 34588806) (hu 2) (mt_D3B hv hw hz 0 1 3) (by decide)
  have q4 := mt_BIm (d := 34588806) (hu 3) (mt_D3B hv hw hz 0 1 2) (by decide)
  unfold mt_D4
  unfold mt_BI at *
  omega
section
variable {g : Nat → Int32} {B : Nat → Int}
theorem mt_V1a (h : ∀ j, g j = Int32.ofInt (B j)) (z : mt_Z1 B) : ¬ mt_V g 1 := by
  intro ⟨b, hb, e1, e2, n⟩
  obtain ⟨i, hi, x⟩ := mt_w1 (by omega) e1
  obtain ⟨a, ha, y⟩ := mt_w1 (by omega) e2
  refine n ?_
  rw [x, y, mt_mn1 h i hi a ha, z i hi a ha]
  rfl
theorem mt_V2a (h : ∀ j, g j = Int32.ofInt (B j)) (z : mt_Z2 B) : ¬ mt_V g 2 := by
  intro ⟨b, hb, e1, e2, n⟩
  obtain ⟨i, j, hi, hj, x⟩ := mt_w2 (by omega) e1
  obtain ⟨a, c, ha, hc, y⟩ := mt_w2 (by omega) e2
  refine n ?_
  rw [x, y, mt_mn2 h i j hi hj a c ha hc, z i j (by omega) hj a c ha hc]
  rfl
theorem mt_V3a (h : ∀ j, g j = Int32.ofInt (B j)) (z : mt_Z3 B) : ¬ mt_V g 3 := by
  intro ⟨b, hb, e1, e2, n⟩
  obtain ⟨i, j, k, hi, hj, hk, x⟩ := mt_w3 (by omega) e1
  obtain ⟨a, c, d, ha, hc, hd, y⟩ := mt_w3 (by omega) e2
  refine n ?_
  rw [x, y, mt_mn3 h i j k hi hj hk a c d ha hc hd, z i j k (by omega) (by omega) hk a c d ha hc hd]
  rfl
theorem mt_V4a (h : ∀ j, g j = Int32.ofInt (B j)) (z : mt_Z4 B) : ¬ mt_V g 4 := by
  intro ⟨b, hb, e1, e2, n⟩
  refine n ?_
  rw [mt_k4 _ (by omega) e1, mt_k4 _ (by omega) e2, mt_mD15_15 h, z 0 1 2 3 (by decide) (by decide) (by decide) (by decide)]
  rfl
theorem mt_V1b (h : ∀ j, g j = Int32.ofInt (B j)) (hB : ∀ j, mt_BI 49 (B j)) (z : ¬ mt_V g 1) : mt_Z1 B := by
  intro i hi a ha
  have u := mt_u1 i hi
  have v := mt_u1 a ha
  by_cases e : mt_minor g (2 ^ i) (2 ^ a) = 0
  · rw [mt_mn1 h i hi a ha] at e
    have q : mt_BI 49 (mt_R B i a) := hB _
    have q1 := q.1
    have q2 := q.2
    exact mt_ofz (by omega) (by omega) e
  · exact absurd (mt_Vof u.2 v.2 u.1 v.1 e) z
theorem mt_V2b (h : ∀ j, g j = Int32.ofInt (B j)) (hB : ∀ j, mt_BI 49 (B j)) (z : ¬ mt_V g 2) : mt_Z2 B := by
  refine mt_Z2of ?_
  intro i j hi hj a b ha hb
  have u := mt_u2 j hj i hi
  have v := mt_u2 b hb a ha
  by_cases e : mt_minor g (2 ^ i + 2 ^ j) (2 ^ a + 2 ^ b) = 0
  · rw [mt_mn2 h i j hi hj a b ha hb] at e
    have q := mt_D2B (u := mt_R B i) (v := mt_R B j) (fun k => hB _) (fun k => hB _) a b
    have q1 := q.1
    have q2 := q.2
    exact mt_ofz (by omega) (by omega) e
  · exact absurd (mt_Vof u.2 v.2 u.1 v.1 e) z
theorem mt_V3b (h : ∀ j, g j = Int32.ofInt (B j)) (hB : ∀ j, mt_BI 49 (B j)) (z : ¬ mt_V g 3) : mt_Z3 B := by
  refine mt_Z3of ?_
  intro i j k hi hj hk a b c ha hb hc
  have u := mt_u3 k hk j hj i hi
  have v := mt_u3 c hc b hb a ha
  by_cases e : mt_minor g (2 ^ i + 2 ^ j + 2 ^ k) (2 ^ a + 2 ^ b + 2 ^ c) = 0
  · rw [mt_mn3 h i j k hi hj hk a b c ha hb hc] at e
    have q := mt_D3B (u := mt_R B i) (v := mt_R B j) (w := mt_R B k) (fun k => hB _) (fun k => hB _) (fun k => hB _) a b c
    have q1 := q.1
    have q2 := q.2
    exact mt_ofz (by omega) (by omega) e
  · exact absurd (mt_Vof u.2 v.2 u.1 v.1 e) z
theorem mt_V4b (h : ∀ j, g j = Int32.ofInt (B j)) (hB : ∀ j, mt_BI 49 (B j)) (z : ¬ mt_V g 4) : mt_Z4 B := by
  refine mt_Z4of ?_
  intro i j k l hi hj hk hl
  have e0 : i = 0 := by omega
  have e1 : j = 1 := by omega
  have e2 : k = 2 := by omega
  have e3 : l = 3 := by omega
  subst e0 e1 e2 e3
  by_cases e : mt_minor g 15 15 = 0
  · rw [mt_mD15_15 h] at e
    have q := mt_D4B (u := mt_R B 0) (v := mt_R B 1) (w := mt_R B 2) (z := mt_R B 3) (fun k => hB _) (fun k => hB _) (fun k => hB _) (fun k => hB _)
    have q1 := q.1
    have q2 := q.2
    exact mt_ofz (by omega) (by omega) e
  · exact absurd (mt_Vof (by decide) (by decide) (by decide) (by decide) e) z
/-- one rank -/
theorem mt_one (h : ∀ j, g j = Int32.ofInt (B j)) (hB : ∀ j, mt_BI 49 (B j)) {r s : Nat} (hr : r ≤ 4) (hs : s ≤ 4) (x : mt_RK r B) (y : mt_YR g s) : s = r := by
  obtain ⟨n1, n2, n3, n4, z1, z2, z3, z4⟩ := x
  obtain ⟨y1, y2⟩ := y
  have up : s ≤ r := by
    rcases y1 with e | v
    · omega
    · by_cases c : s ≤ r
      · exact c
      · have q : s = 1 ∨ s = 2 ∨ s = 3 ∨ s = 4 := by omega
        rcases q with e | e | e | e <;> subst e
        · exact absurd v (mt_V1a h (z1 (by omega)))
        · exact absurd v (mt_V2a h (z2 (by omega)))
        · exact absurd v (mt_V3a h (z3 (by omega)))
        · exact absurd v (mt_V4a h (z4 (by omega)))
  have lo : r ≤ s := by
    have q : r = 0 ∨ r = 1 ∨ r = 2 ∨ r = 3 ∨ r = 4 := by omega
    rcases q with e | e | e | e | e
    · omega
    · by_cases v : mt_V g 1
      · rw [e]; exact y2 1 (by decide) v
      · exact absurd (mt_V1b h hB v) (n1 e)
    · by_cases v : mt_V g 2
      · rw [e]; exact y2 2 (by decide) v
      · exact absurd (mt_V2b h hB v) (n2 e)
    · by_cases v : mt_V g 3
      · rw [e]; exact y2 3 (by decide) v
      · exact absurd (mt_V3b h hB v) (n3 e)
    · by_cases v : mt_V g 4
      · rw [e]; exact y2 4 (by decide) v
      · exact absurd (mt_V4b h hB v) (n4 e)
  omega
end
end
section
/-! the component's rank: steps of elimination in longs -/
def mt_I (w : Nat → Int64) : Nat → Int := fun j => (w j).toInt
def mt_bt (r : Nat) : Int := if r = 0 then 49 else if r = 1 then 4802 else if r = 2 then 46118408 else 4253815112908928
theorem mt_bm64 {x : Int} (h1 : -9223372036854775808 ≤ x) (h2 : x < 9223372036854775808) : x.bmod (2 ^ 64) = x := Int.bmod_eq_of_le (by omega) (by omega)
theorem mt_cross {x y u v : Int64} {b d : Int} (hx : mt_BI b x.toInt) (hy : mt_BI b y.toInt) (hu : mt_BI b u.toInt) (hv : mt_BI b v.toInt) (hd : b * b = d) (h : 2 * d < 9223372036854775808) : (x * y - u * v).toInt = x.toInt * y.toInt - u.toInt * v.toInt ∧ mt_BI (2 * d) (x.toInt * y.toInt - u.toInt * v.toInt) := by
  have q1 := mt_BIm hx hy hd
  have q2 := mt_BIm hu hv hd
  have a1 := q1.1
  have a2 := q1.2
  have a3 := q2.1
  have a4 := q2.2
  have e1 : (x * y).toInt = x.toInt * y.toInt := by
    rw [Int64.toInt_mul]
    exact mt_bm64 (by omega) (by omega)
  have e2 : (u * v).toInt = u.toInt * v.toInt := by
    rw [Int64.toInt_mul]
    exact mt_bm64 (by omega) (by omega)
  refine ⟨?_, ?_⟩
  · rw [Int64.toInt_sub, e1, e2]
    exact mt_bm64 (by omega) (by omega)
  · unfold mt_BI
    omega
theorem mt_z64 : (0 : Int64).toInt = 0 := by decide
theorem mt_nz64 {x : Int64} (h : ¬ x = 0) : x.toInt ≠ 0 := fun z => h (Int64.toInt_inj.mp (by rw [z, mt_z64]))
theorem mt_loopF (W : Nat → Nat → Prop) (i0 e : Nat) (h0 : i0 ≤ e) (hx : ∀ n, W (n + 1) e) (hs : ∀ n i, i0 ≤ i → i < e → W n (i + 1) → W (n + 1) i) : ∃ n, W n i0 := by
  obtain ⟨n, h⟩ := mt_loop (fun n i => i0 ≤ i → W n i) i0 e h0 (fun n _ => hx n) (fun n i hi h hle => hs n i hle hi (h (by omega)))
  exact ⟨n, h (Nat.le_refl i0)⟩
/-- cells from lo to n hold f -/
def mt_fr {α : Type} (lo n : Nat) (f a : Nat → α) : Nat → α := fun j => if lo ≤ j ∧ j < n then f j else a j
theorem mt_fr0 {α : Type} (lo : Nat) (f a : Nat → α) : mt_fr lo lo f a = a := by
  funext j
  exact if_neg (by omega)
theorem mt_frin {α : Type} {lo n j : Nat} {f a : Nat → α} (h1 : lo ≤ j) (h2 : j < n) : mt_fr lo n f a j = f j := if_pos ⟨h1, h2⟩
theorem mt_frlo {α : Type} {lo n j : Nat} {f a : Nat → α} (h1 : j < lo) : mt_fr lo n f a j = a j := if_neg (by omega)
theorem mt_frhi {α : Type} {lo n j : Nat} {f a : Nat → α} (h1 : n ≤ j) : mt_fr lo n f a j = a j := if_neg (by omega)
theorem mt_fru {lo n : Nat} {f a : Nat → Int64} {x : Int64} (hl : lo ≤ n) (hx : x = f n) : vp_updL (mt_fr lo n f a) n x = mt_fr lo (n + 1) f a := by
  funext j
  by_cases h : j = n
  · rw [h, pk_uLs, mt_frin hl (Nat.lt_succ_self n), hx]
  · rw [pk_uLn h]
    by_cases h2 : lo ≤ j ∧ j < n
    · rw [mt_frin h2.1 h2.2, mt_frin h2.1 (by omega)]
    · unfold mt_fr
      rw [if_neg h2, if_neg (by omega)]
/-- rows a and b exchanged -/
def mt_sx (a b i : Nat) : Nat := if i = a then b else if i = b then a else i
theorem mt_sxlt {a b i : Nat} (ha : a < 4) (hb : b < 4) (hi : i < 4) : mt_sx a b i < 4 := by
  unfold mt_sx
  split
  · exact hb
  · split
    · exact ha
    · exact hi
theorem mt_sxsx (a b i : Nat) : mt_sx a b (mt_sx a b i) = i := by
  unfold mt_sx
  by_cases h1 : i = a
  · rw [if_pos h1]
    by_cases h2 : b = a
    · rw [if_pos h2, h2, h1]
    · rw [if_neg h2, if_pos rfl, h1]
  · rw [if_neg h1]
    by_cases h2 : i = b
    · rw [if_pos h2, if_pos rfl, h2]
    · rw [if_neg h2, if_neg h1, if_neg h2]
section
variable {rd : Int32} {t c s m p q : Nat → Int32}
theorem mt_xpiv {post : Int32 → Prop} {w : Nat → Int64} {r0 col : Nat} (hcol : col < 4) (H : ∀ r, r0 ≤ r → r ≤ 4 → (∀ i, r0 ≤ i → i < r → w (i * 4 + col) = 0) → (r < 4 → ¬ w (r * 4 + col) = 0) → post (nI r)) : ∀ (d r : Nat), r + d = 4 → r0 ≤ r → (∀ i, r0 ≤ i → i < r → w (i * 4 + col) = 0) → wX_pivotRow_2 post (nI col) rd t c s m p q w (d + 1) (nI r) := by
  intro d
  induction d with
  | zero =>
    intro r hr h0 hz
    have e : r = 4 := by omega
    subst e
    exact br_t (mt_le 4 (by decide)) (H 4 h0 (by decide) hz (fun z => absurd z (by decide)))
  | succ d ih =>
    intro r hr h0 hz
    refine br_f (mt_ge (e := 4) (by omega) (by decide)) ?_
    rw [mt_ix, mt_cl (i := r * 4 + col) (by omega)]
    refine ⟨mt_vin (by omega) (by decide), br_c (fun z => ?_) (fun z => ?_)⟩
    · refine nm_r (mt_up r) (ih (r + 1) (by omega) (by omega) ?_)
      intro i h1 h2
      by_cases e : i = r
      · rw [e]; exact z
      · exact hz i h1 (by omega)
    · exact H r h0 (by omega) hz (fun _ => z)
theorem mt_xswr {post : SX → Prop} {w : Nat → Int64} {a b : Nat} (ha : a < 4) (hb : b < 4) (H : ∀ w' : Nat → Int64, (∀ i k, i < 4 → k < 4 → w' (i * 4 + k) = w (mt_sx a b i * 4 + k)) → post (rd, t, c, s, m, p, q, w')) : ∀ (d x : Nat) (w' : Nat → Int64), x + d = 4 → (∀ i k, i < 4 → k < 4 → w' (i * 4 + k) = if k < x then w (mt_sx a b i * 4 + k) else w (i * 4 + k)) → wX_swapRows_2 post (nI a) (nI b) rd (d + 1) (nI x) t c s m p q w' := by
  intro d
  induction d with
  | zero =>
    intro x w' hx hw
    have e : x = 4 := by omega
    subst e
    refine br_t (mt_le 4 (by decide)) (H w' ?_)
    intro i k hi hk
    rw [hw i k hi hk, if_pos hk]
  | succ d ih =>
    intro x w' hx hw
    have va : vp_in (nI (a * 4 + x)) 16 := mt_vin (by omega) (by decide)
    have vb : vp_in (nI (b * 4 + x)) 16 := mt_vin (by omega) (by decide)
    refine br_f (mt_ge (e := 4) (by omega) (by decide)) ?_
    rw [mt_ix, mt_ix, mt_cl (i := a * 4 + x) (by omega), mt_cl (i := b * 4 + x) (by omega)]
    refine ⟨va, nm_e ⟨vb, va, nm_e ⟨vb, nm_e (nm_r (mt_up x) (ih (x + 1) _ (by omega) ?_))⟩⟩⟩
    intro i k hi hk
    by_cases ek : k = x
    · subst ek
      rw [if_pos (Nat.lt_succ_self k)]
      have old : ∀ i, i < 4 → w' (i * 4 + k) = w (i * 4 + k) := by
        intro i hi
        rw [hw i k hi hk, if_neg (Nat.lt_irrefl k)]
      by_cases eb : i = b
      · subst eb
        rw [pk_uLs, old a ha]
        unfold mt_sx
        by_cases ea : i = a
        · rw [if_pos ea, ea]
        · rw [if_neg ea, if_pos rfl]
      · rw [pk_uLn (by omega)]
        by_cases ea : i = a
        · subst ea
          rw [pk_uLs, old b hb]
          unfold mt_sx
          rw [if_pos rfl]
        · rw [pk_uLn (by omega), old i hi]
          unfold mt_sx
          rw [if_neg ea, if_neg eb]
    · rw [pk_uLn (by omega), pk_uLn (by omega), hw i k hi hk]
      by_cases l : k < x
      · rw [if_pos l, if_pos (by omega)]
      · rw [if_neg l, if_neg (by omega)]
theorem mt_xswapRows {post : SX → Prop} {w : Nat → Int64} {a b : Nat} (ha : a < 4) (hb : b < 4) (H : ∀ w' : Nat → Int64, (∀ i k, i < 4 → k < 4 → w' (i * 4 + k) = w (mt_sx a b i * 4 + k)) → post (rd, t, c, s, m, p, q, w')) : wpX_swapRows post (rd, t, c, s, m, p, q, w) (nI a) (nI b) :=
  ⟨5, mt_xswr ha hb H 4 0 w rfl (fun i k _ _ => (if_neg (Nat.not_lt_zero k)).symm)⟩
def mt_cb (w : Nat → Int64) (row col j : Nat) : Int64 := w j * w (row * 4 + col) - w (row * 4 + j % 4) * w (j / 4 * 4 + col)
theorem mt_xclear {post : SX → Prop} {w : Nat → Int64} {row col : Nat} (hr : row < 4) (hcol : col < 4) (H : ∀ w' : Nat → Int64, (∀ i k, i < 4 → k < 4 → w' (i * 4 + k) = if row < i then w (i * 4 + k) * w (row * 4 + col) - w (row * 4 + k) * w (i * 4 + col) else w (i * 4 + k)) → post (rd, t, c, s, m, p, q, w')) : wpX_clearBelow post (rd, t, c, s, m, p, q, w) (nI row) (nI col) := by
  unfold wpX_clearBelow
  dsimp only
  rw [mt_ix, mt_cl (i := row * 4 + col) (by omega)]
  refine ⟨mt_vin (by omega) (by decide), nm_e (nm_r (mt_up row) ?_)⟩
  have L := mt_loopF (fun n i => wX_clearBelow_16 post (nI row) (nI col) (w (row * 4 + col)) rd n (nI i) t c s m p q (mt_fr ((row + 1) * 4) (i * 4) (mt_cb w row col) w)) (row + 1) 4 (by omega) (by
    intro n
    refine br_t (mt_le 4 (by decide)) (H _ ?_)
    intro i k hi hk
    by_cases l : row < i
    · rw [if_pos l, mt_frin (by omega) (by omega), mt_cb, show (i * 4 + k) % 4 = k from by omega, show (i * 4 + k) / 4 = i from by omega]
    · rw [if_neg l, mt_frlo (by omega)]) (by
    intro n i hi0 hi h
    · refine br_f (mt_ge hi (by decide)) ?_
      rw [mt_ix, mt_cl (i := i * 4 + col) (by omega), mt_frhi (j := i * 4 + col) (by omega)]
      refine ⟨mt_vin (by omega) (by decide), nm_e ?_⟩
      exact mt_loop (fun n' k => wX_clearBelow_38 post (wX_clearBelow_16 post (nI row) (nI col) (w (row * 4 + col)) rd n) (nI row) (nI col) (w (row * 4 + col)) (nI i) (w (i * 4 + col)) rd n' (nI k) t c s m p q (mt_fr ((row + 1) * 4) (i * 4 + k) (mt_cb w row col) w)) 0 4 (by decide) (by
        intro n'
        rw [show (i + 1) * 4 = i * 4 + 4 from by omega] at h
        exact br_t (mt_le 4 (by decide)) (nm_r (mt_up i) h)) (by
        intro n' k hk h2
        have v1 : vp_in (nI (i * 4 + k)) 16 := mt_vin (by omega) (by decide)
        refine br_f (mt_ge hk (by decide)) ?_
        rw [mt_ix, mt_ix, mt_cl (i := i * 4 + k) (by omega), mt_cl (i := row * 4 + k) (by omega), mt_frhi (j := i * 4 + k) (by omega), mt_frlo (j := row * 4 + k) (by omega)]
        refine ⟨v1, mt_vin (by omega) (by decide), v1, nm_r (mt_fru (by omega) ?_) (nm_r (mt_up k) h2)⟩
        rw [mt_cb, show (i * 4 + k) % 4 = k from by omega, show (i * 4 + k) / 4 = i from by omega]))
  simp only [mt_fr0] at L
  exact L
end
end
section
/-! the component's rank: the steps keep the minors' sizes -/
/-- the column of the new pivot -/
def mt_np (r col : Nat) (pc : Nat → Nat) : Nat → Nat := fun i => if i = r then col else pc i
theorem mt_npr (r col : Nat) (pc : Nat → Nat) : mt_np r col pc r = col := if_pos rfl
theorem mt_npl {r col i : Nat} {pc : Nat → Nat} (h : i < r) : mt_np r col pc i = pc i := if_neg (by omega)
theorem mt_LVs {u x : Nat → Int} (h : ∀ k, k < 4 → u k = x k) : mt_LV u x x 1 1 0 := by
  intro k hk
  rw [h k hk]
  omega
/-- rows exchanged -/
theorem mt_swZE {C C' : Nat → Int} {a b : Nat} (ha : a < 4) (hb : b < 4) (h : ∀ i k, i < 4 → k < 4 → C' (i * 4 + k) = C (mt_sx a b i * 4 + k)) : mt_ZE C C' := by
  refine mt_ZEof ?_ ?_
  · intro i hi
    have l := mt_sxlt ha hb hi
    exact ⟨mt_sx a b i, mt_sx a b i, 1, 1, 0, l, l, by decide, mt_LVs (fun k hk => h i k hi hk)⟩
  · intro i hi
    have l := mt_sxlt ha hb hi
    refine ⟨mt_sx a b i, mt_sx a b i, 1, 1, 0, l, l, by decide, mt_LVs (fun k hk => ?_)⟩
    have e := h (mt_sx a b i) k l hk
    rw [mt_sxsx] at e
    exact e.symm
/-- rows below lose their entry -/
theorem mt_clZE {C C' : Nat → Int} {row col : Nat} (hr : row < 4) (hcol : col < 4) (hp : C (row * 4 + col) ≠ 0) (h : ∀ i k, i < 4 → k < 4 → C' (i * 4 + k) = if row < i then C (i * 4 + k) * C (row * 4 + col) - C (row * 4 + k) * C (i * 4 + col) else C (i * 4 + k)) : mt_ZE C C' := by
  refine mt_ZEof ?_ ?_
  · intro i hi
    by_cases l : row < i
    · refine ⟨i, row, 1, C (row * 4 + col), -C (i * 4 + col), hi, hr, by decide, ?_⟩
      intro k hk
      show 1 * C' (i * 4 + k) = C (row * 4 + col) * C (i * 4 + k) + -C (i * 4 + col) * C (row * 4 + k)
      rw [h i k hi hk, if_pos l]
      grind
    · refine ⟨i, i, 1, 1, 0, hi, hi, by decide, mt_LVs (fun k hk => ?_)⟩
      show C' (i * 4 + k) = C (i * 4 + k)
      rw [h i k hi hk, if_neg l]
  · intro i hi
    by_cases l : row < i
    · refine ⟨i, row, C (row * 4 + col), 1, C (i * 4 + col), hi, hr, hp, ?_⟩
      intro k hk
      show C (row * 4 + col) * C (i * 4 + k) = 1 * C' (i * 4 + k) + C (i * 4 + col) * C' (row * 4 + k)
      rw [h i k hi hk, if_pos l, h row k hr hk, if_neg (Nat.lt_irrefl row)]
      grind
    · refine ⟨i, i, 1, 1, 0, hi, hi, by decide, mt_LVs (fun k hk => ?_)⟩
      show C (i * 4 + k) = C' (i * 4 + k)
      rw [h i k hi hk, if_neg l]
/-- a step keeps the form -/
theorem mt_Enx {C C' : Nat → Int} {row col : Nat} {pc : Nat → Nat} (hr : row < 4) (hcol : col < 4) (hp : C (row * 4 + col) ≠ 0) (E : mt_E row col pc C) (h : ∀ i k, i < 4 → k < 4 → C' (i * 4 + k) = if row < i then C (i * 4 + k) * C (row * 4 + col) - C (row * 4 + k) * C (i * 4 + col) else C (i * 4 + k)) : mt_E (row + 1) (col + 1) (mt_np row col pc) C' := by
  obtain ⟨e1, e2, e3⟩ := E
  have same : ∀ i k, i ≤ row → k < 4 → mt_R C' i k = mt_R C i k := by
    intro i k hi hk
    show C' (i * 4 + k) = C (i * 4 + k)
    rw [h i k (by omega) hk, if_neg (by omega)]
  refine ⟨?_, ?_, ?_⟩
  · intro i hi
    by_cases e : i = row
    · subst e
      rw [mt_npr]
      refine ⟨Nat.lt_succ_self col, ?_, ?_⟩
      · rw [same i col (Nat.le_refl i) hcol]
        exact hp
      · intro k hk
        rw [same i k (Nat.le_refl i) (by omega)]
        exact e3 i (Nat.le_refl i) hr k hk
    · have hlt : i < row := by omega
      have q := e1 i hlt
      rw [mt_npl hlt]
      refine ⟨by have := q.1; omega, ?_, ?_⟩
      · rw [same i _ (by omega) (by have := q.1; omega)]
        exact q.2.1
      · intro k hk
        rw [same i k (by omega) (by have := q.1; omega)]
        exact q.2.2 k hk
  · intro i j hij hj
    rw [mt_npl (i := i) (by omega)]
    by_cases e : j = row
    · rw [e, mt_npr]
      exact (e1 i (by omega)).1
    · rw [mt_npl (i := j) (by omega)]
      exact e2 i j hij (by omega)
  · intro i hi hi4 k hk
    show C' (i * 4 + k) = 0
    rw [h i k hi4 (by omega), if_pos (by omega)]
    by_cases e : k = col
    · rw [e, Int.mul_comm]
      exact Int.sub_self _
    · have z1 : C (i * 4 + k) = 0 := e3 i (by omega) hi4 k (by omega)
      have z2 : C (row * 4 + k) = 0 := e3 row (Nat.le_refl row) hr k (by omega)
      rw [z1, z2, Int.zero_mul, Int.zero_mul]
      rfl
theorem mt_Esw {C C' : Nat → Int} {r row col : Nat} {pc : Nat → Nat} (hr : row ≤ r) (hr4 : r < 4) (hcol : col < 4) (E : mt_E row col pc C) (h : ∀ i k, i < 4 → k < 4 → C' (i * 4 + k) = C (mt_sx r row i * 4 + k)) : mt_E row col pc C' := by
  obtain ⟨e1, e2, e3⟩ := E
  refine ⟨?_, e2, ?_⟩
  · intro i hi
    have q := e1 i hi
    have s : mt_sx r row i = i := by
      unfold mt_sx
      rw [if_neg (by omega), if_neg (by omega)]
    have same : ∀ k, k < 4 → mt_R C' i k = mt_R C i k := by
      intro k hk
      show C' (i * 4 + k) = C (i * 4 + k)
      rw [h i k (by omega) hk, s]
    refine ⟨q.1, ?_, ?_⟩
    · rw [same _ (by have := q.1; omega)]
      exact q.2.1
    · intro k hk
      rw [same k (by have := q.1; omega)]
      exact q.2.2 k hk
  · intro i hi hi4 k hk
    show C' (i * 4 + k) = 0
    rw [h i k hi4 (by omega)]
    have l := mt_sxlt (a := r) (b := row) hr4 (by omega) hi4
    refine e3 (mt_sx r row i) ?_ l k hk
    unfold mt_sx
    split
    · exact Nat.le_refl row
    · split
      · exact hr
      · exact hi
theorem mt_btm {r : Nat} (hr : r < 4) : mt_bt r ≤ mt_bt (r + 1) := by
  have q : r = 0 ∨ r = 1 ∨ r = 2 ∨ r = 3 := by omega
  rcases q with e | e | e | e <;> subst e <;> decide
/-- a step's numbers -/
theorem mt_stepI {w w' : Nat → Int64} {row col : Nat} (hr : row < 4) (hcol : col < 4) (hb : ∀ j, j < 16 → mt_BI (mt_bt row) (w j).toInt) (h : ∀ i k, i < 4 → k < 4 → w' (i * 4 + k) = if row < i then w (i * 4 + k) * w (row * 4 + col) - w (row * 4 + k) * w (i * 4 + col) else w (i * 4 + k)) :
    (∀ i k, i < 4 → k < 4 → mt_I w' (i * 4 + k) = if row < i then mt_I w (i * 4 + k) * mt_I w (row * 4 + col) - mt_I w (row * 4 + k) * mt_I w (i * 4 + col) else mt_I w (i * 4 + k)) ∧ (∀ j, j < 16 → mt_BI (mt_bt (row + 1)) (w' j).toInt) := by
  have A : ∀ i k, i < 4 → k < 4 → row < i → mt_I w' (i * 4 + k) = mt_I w (i * 4 + k) * mt_I w (row * 4 + col) - mt_I w (row * 4 + k) * mt_I w (i * 4 + col) ∧ mt_BI (mt_bt (row + 1)) (w' (i * 4 + k)).toInt := by
    intro i k hi hk l
    have hx := hb (i * 4 + k) (by omega)
    have hy := hb (row * 4 + col) (by omega)
    have hu := hb (row * 4 + k) (by omega)
    have hv := hb (i * 4 + col) (by omega)
    have q : row = 0 ∨ row = 1 ∨ row = 2 := by omega
    have c : ∃ d, mt_bt row * mt_bt row = d ∧ 2 * d < 9223372036854775808 ∧ 2 * d = mt_bt (row + 1) := by
      rcases q with e | e | e <;> subst e
      · exact ⟨2401, by decide, by decide, by decide⟩
      · exact ⟨23059204, by decide, by decide, by decide⟩
      · exact ⟨2126907556454464, by decide, by decide, by decide⟩
    obtain ⟨d, d1, d2, d3⟩ := c
    have k1 := mt_cross hx hy hu hv d1 d2
    have e : w' (i * 4 + k) = w (i * 4 + k) * w (row * 4 + col) - w (row * 4 + k) * w (i * 4 + col) := by rw [h i k hi hk, if_pos l]
    refine ⟨?_, ?_⟩
    · show (w' (i * 4 + k)).toInt = _
      rw [e]
      exact k1.1
    · rw [e, k1.1, ← d3]
      exact k1.2
  have B : ∀ i k, i < 4 → k < 4 → ¬ row < i → w' (i * 4 + k) = w (i * 4 + k) := by
    intro i k hi hk l
    rw [h i k hi hk, if_neg l]
  refine ⟨?_, ?_⟩
  · intro i k hi hk
    by_cases l : row < i
    · rw [if_pos l]
      exact (A i k hi hk l).1
    · rw [if_neg l]
      show (w' (i * 4 + k)).toInt = (w (i * 4 + k)).toInt
      rw [B i k hi hk l]
  · intro j hj
    refine mt_jik (P := fun j => mt_BI (mt_bt (row + 1)) (w' j).toInt) ?_ hj
    intro i k hi hk
    show mt_BI (mt_bt (row + 1)) (w' (i * 4 + k)).toInt
    by_cases l : row < i
    · exact (A i k hi hk l).2
    · rw [B i k hi hk l]
      have q := hb (i * 4 + k) (by omega)
      have m := mt_btm hr
      exact ⟨by have := q.1; omega, by have := q.2; omega⟩
section
variable {rd : Int32} {t c s m p q : Nat → Int32}
theorem mt_x64 {post : Int32 → SX → Prop} {B : Nat → Int} (H : ∀ (r : Nat) (w' : Nat → Int64), r ≤ 4 → mt_RK r B → post (nI r) (rd, t, c, s, m, p, q, w')) : ∀ (d col r : Nat) (pc : Nat → Nat) (w : Nat → Int64), col + d = 4 → r ≤ col → mt_E r col pc (mt_I w) → (∀ j, j < 16 → mt_BI (mt_bt r) (w j).toInt) → mt_ZE B (mt_I w) → wX_rankAt_64 post (d + 1) (nI r) (nI col) rd t c s m p q w := by
  intro d
  induction d with
  | zero =>
    intro col r pc w hc hr E hb Z
    have e : col = 4 := by omega
    subst e
    exact br_t (mt_le 4 (by decide)) (H r w hr (mt_RKE Z (mt_EK hr E)))
  | succ d ih =>
    intro col r pc w hc hr E hb Z
    have hcol : col < 4 := by omega
    have hr4 : r < 4 := by omega
    -- a step, the pivot in its place
    have S : ∀ w2 : Nat → Int64, mt_E r col pc (mt_I w2) → (∀ j, j < 16 → mt_BI (mt_bt r) (w2 j).toInt) → mt_ZE B (mt_I w2) → ¬ w2 (r * 4 + col) = 0 → wX_rankAt_96 post (wX_rankAt_64 post (d + 1)) (nI r) (nI col) rd t c s m p q w2 := by
      intro w2 E2 hb2 Z2 hp
      unfold wX_rankAt_96
      refine mt_xclear hr4 hcol ?_
      intro w3 h3
      have k := mt_stepI hr4 hcol hb2 h3
      have hp2 : mt_I w2 (r * 4 + col) ≠ 0 := mt_nz64 hp
      exact nm_r (mt_up r) (nm_r (mt_up col) (ih (col + 1) (r + 1) (mt_np r col pc) w3 (by omega) (by omega) (mt_Enx hr4 hcol hp2 E2 k.1) k.2 (mt_ZEtr Z2 (mt_clZE hr4 hcol hp2 k.1))))
    refine br_f (mt_ge (e := 4) hcol (by decide)) ?_
    refine ⟨4 - r + 1, mt_xpiv (r0 := r) hcol ?_ (4 - r) r (by omega) (Nat.le_refl r) (fun i h1 h2 => absurd h2 (by omega))⟩
    intro r' h1 h2 h3 h4
    by_cases e4 : r' = 4
    · subst e4
      refine br_t (mt_le 4 (by decide)) (nm_r (mt_up col) (ih (col + 1) r pc w (by omega) (by omega) ?_ hb Z))
      obtain ⟨e1, e2, e3⟩ := E
      refine ⟨fun i hi => ⟨by have := (e1 i hi).1; omega, (e1 i hi).2⟩, e2, ?_⟩
      intro i hi hi4 k hk
      by_cases e : k = col
      · rw [e]
        show (w (i * 4 + col)).toInt = 0
        rw [h3 i hi hi4, mt_z64]
      · exact e3 i hi hi4 k (by omega)
    · have hr' : r' < 4 := by omega
      refine br_f (mt_ge (e := 4) hr' (by decide)) ?_
      by_cases er : r' = r
      · subst er
        exact br_t rfl (S w E hb Z (h4 hr'))
      · refine br_f (fun z => er ((nI_eq (by omega) (by omega)).mp z)) (mt_xswapRows hr' hr4 ?_)
        intro w2 hw2
        have hI : ∀ i k, i < 4 → k < 4 → mt_I w2 (i * 4 + k) = mt_I w (mt_sx r' r i * 4 + k) := by
          intro i k hi hk
          show (w2 (i * 4 + k)).toInt = (w (mt_sx r' r i * 4 + k)).toInt
          rw [hw2 i k hi hk]
        refine S w2 (mt_Esw h1 hr' hcol E hI) ?_ (mt_ZEtr Z (mt_swZE hr' hr4 hI)) ?_
        · intro j hj
          refine mt_jik (P := fun j => mt_BI (mt_bt r) (w2 j).toInt) ?_ hj
          intro i k hi hk
          show mt_BI (mt_bt r) (w2 (i * 4 + k)).toInt
          have l := mt_sxlt hr' hr4 hi
          rw [hw2 i k hi hk]
          exact hb _ (by omega)
        · rw [hw2 r col hr4 hcol]
          have s : mt_sx r' r r = r' := by
            unfold mt_sx
            rw [if_neg (by omega), if_pos rfl]
          rw [s]
          exact h4 hr'
/-- the table less x on its diagonal, as longs -/
def mt_lw (t : Nat → Int32) (x : Int32) (j : Nat) : Int64 := if j % 5 = 0 then (t j - x).toInt64 else (t j).toInt64
theorem mt_lwI (t : Nat → Int32) (x : Int32) (j : Nat) : (mt_lw t x j).toInt = (mt_ld t x j).toInt := by
  unfold mt_lw mt_ld
  split
  · exact Int32.toInt_toInt64 _
  · rw [Int32.sub_zero]
    exact Int32.toInt_toInt64 _
theorem mt_ldB {t : Nat → Int32} (h : ∀ j, mt_Bd 9 (t j)) {x : Int32} (hx : mt_Bd 40 x) (j : Nat) : mt_Bd 49 (mt_ld t x j) := by
  unfold mt_ld
  split
  · exact mt_bs 49 (h j) hx (by decide) (by decide)
  · rw [Int32.sub_zero]
    exact mt_Bdw (h j) (by decide)
theorem mt_xrank {post : Int32 → SX → Prop} {x : Int32} {w : Nat → Int64} (h : ∀ j, mt_Bd 9 (t j)) (hx : mt_Bd 40 x) (H : ∀ (r : Nat) (w' : Nat → Int64), r ≤ 4 → mt_RK r (fun j => (mt_ld t x j).toInt) → post (nI r) (rd, t, c, s, m, p, q, w')) : ∃ n, wX_rankAt_17 post x rd n 0 t c s m p q w := by
  have L := mt_loop (fun n i => wX_rankAt_17 post x rd n (nI i) t c s m p q (mt_fl i (mt_lw t x) w)) 0 16 (by decide) (by
    intro n
    refine br_t (mt_le 16 (by decide)) ⟨5, ?_⟩
    have e : ∀ j, j < 16 → mt_I (mt_fl 16 (mt_lw t x) w) j = (mt_ld t x j).toInt := by
      intro j hj
      show (mt_fl 16 (mt_lw t x) w j).toInt = _
      rw [mt_fllt hj]
      exact mt_lwI t x j
    refine mt_x64 H 4 0 0 (fun _ => 0) _ rfl (Nat.le_refl 0) ?_ ?_ ?_
    · exact ⟨fun i hi => absurd hi (Nat.not_lt_zero i), fun i j _ hj => absurd hj (Nat.not_lt_zero j), fun i _ _ k hk => absurd hk (Nat.not_lt_zero k)⟩
    · intro j hj
      have k := e j hj
      show mt_BI 49 (mt_I (mt_fl 16 (mt_lw t x) w) j)
      rw [k]
      exact mt_ldB h hx j
    · refine mt_ZEof ?_ ?_
      · intro i hi
        exact ⟨i, i, 1, 1, 0, hi, hi, by decide, mt_LVs (fun k hk => e (i * 4 + k) (by omega))⟩
      · intro i hi
        exact ⟨i, i, 1, 1, 0, hi, hi, by decide, mt_LVs (fun k hk => (e (i * 4 + k) (by omega)).symm)⟩) (by
    intro n i hi h2
    have hv : vp_in (nI i) 16 := mt_vin hi (by decide)
    refine br_f (mt_ge hi (by decide)) ⟨by decide, ?_⟩
    rw [mt_cl (i := i) (by omega)]
    by_cases b : i % 5 = 0
    · refine br_t ((mt_rem5z (by omega)).mpr b) ⟨hv, hv, nm_r (mt_fluL (by rw [mt_lw, if_pos b])) (nm_r (mt_up i) h2)⟩
    · refine br_f (fun z => b ((mt_rem5z (by omega)).mp z)) ⟨hv, hv, nm_r (mt_fluL (by rw [mt_lw, if_neg b])) (nm_r (mt_up i) h2)⟩)
  simp only [mt_fl0] at L
  exact L
end
end
section
/-! the rest of the walks -/
theorem mt_ev16 (n a : Nat) : nI n * 16 + nI a = nI (n * 16 + a) := mt_ix16 n a
theorem mt_ev16' (n : Nat) : nI n * 16 = nI (n * 16) := by
  rw [show (16 : Int32) = nI 16 from rfl, pk_mul]
theorem mt_hole : ∀ i, i < 4 → ((15 : Int32) &&& (((1 : Int32) <<< (nI i &&& 31)) ^^^ (-1))) = nI (15 - 2 ^ i) := by decide +kernel
theorem mt_par : ∀ i, i < 4 → ∀ k, k < 4 → (((nI i + nI k) - (nI i + nI k) / 2 * 2) = 0 ↔ (i + k) % 2 = 0) := by decide +kernel
theorem mt_cofE {t : Nat → Int32} (h : ∀ j, mt_Bd 9 (t j)) {i k : Nat} (hi : i < 4) (hk : k < 4) : -mt_S4 t (k * 4 + i) = if (i + k) % 2 = 0 then mt_minor t (15 - 2 ^ i) (15 - 2 ^ k) else -mt_minor t (15 - 2 ^ i) (15 - 2 ^ k) := by
  have q1 : i = 0 ∨ i = 1 ∨ i = 2 ∨ i = 3 := by omega
  have q2 : k = 0 ∨ k = 1 ∨ k = 2 ∨ k = 3 := by omega
  rcases q1 with e | e | e | e <;> subst e
  · rcases q2 with e | e | e | e <;> subst e
    · exact (mt_cof0_0 h).trans (if_pos (by decide)).symm
    · exact (mt_cof0_1 h).trans (if_neg (by decide)).symm
    · exact (mt_cof0_2 h).trans (if_pos (by decide)).symm
    · exact (mt_cof0_3 h).trans (if_neg (by decide)).symm
  · rcases q2 with e | e | e | e <;> subst e
    · exact (mt_cof1_0 h).trans (if_neg (by decide)).symm
    · exact (mt_cof1_1 h).trans (if_pos (by decide)).symm
    · exact (mt_cof1_2 h).trans (if_neg (by decide)).symm
    · exact (mt_cof1_3 h).trans (if_pos (by decide)).symm
  · rcases q2 with e | e | e | e <;> subst e
    · exact (mt_cof2_0 h).trans (if_pos (by decide)).symm
    · exact (mt_cof2_1 h).trans (if_neg (by decide)).symm
    · exact (mt_cof2_2 h).trans (if_pos (by decide)).symm
    · exact (mt_cof2_3 h).trans (if_neg (by decide)).symm
  · rcases q2 with e | e | e | e <;> subst e
    · exact (mt_cof3_0 h).trans (if_neg (by decide)).symm
    · exact (mt_cof3_1 h).trans (if_pos (by decide)).symm
    · exact (mt_cof3_2 h).trans (if_neg (by decide)).symm
    · exact (mt_cof3_3 h).trans (if_pos (by decide)).symm
section
variable {t pw wk pr W : Nat → Int32}
theorem mt_y21 {post : Int32 → SY → Prop} {x : Int32} : ∀ (k : Nat) (a : Int32) (pr : Nat → Int32), k ≤ 5 → (∀ pr' : Nat → Int32, post (mt_hs (mt_cf t) x k a) (t, pw, wk, pr', mt_W)) → wY_valueAt_21 post x (k + 1) a (nI k + (-1)) t pw wk pr mt_W := by
  intro k
  induction k with
  | zero => intro a pr _ H; exact br_t (by decide) (H pr)
  | succ k ih =>
    intro a pr hk H
    rw [pk_m1]
    refine br_f (mt_nlt0 (by omega)) (mt_ycoef (by omega) ?_)
    intro pr'
    exact nm_e (nm_e (ih _ pr' (by omega) H))
theorem mt_ydet {post : Int32 → SY → Prop} (H : ∀ wk' : Nat → Int32, post (mt_e4 t) (t, pw, wk', pr, mt_W)) : wpY_determinant post (t, pw, wk, pr, mt_W) := by
  unfold wpY_determinant
  dsimp only
  refine mt_yload ?_
  intro wk' hw
  dsimp only
  refine mt_yminor (r := 15) (c := 15) (by decide) (by decide) ?_
  have e : mt_minor wk' 15 15 = mt_e4 t := by
    rw [mt_minorc (g' := t) (fun j hj => by rw [hw j hj, mt_ld0]), mt_mn15]
  rw [e]
  exact H wk'
theorem mt_ycof {post : Int32 → SY → Prop} {i k : Nat} (h : ∀ j, mt_Bd 9 (t j)) (hi : i < 4) (hk : k < 4) (O : mt_OkL (nI i) (nI k)) (H : ∀ wk' : Nat → Int32, post (-mt_S4 t (k * 4 + i)) (t, pw, wk', pr, mt_W)) : wpY_cofactor post (t, pw, wk, pr, mt_W) (nI i) (nI k) := by
  unfold wpY_cofactor
  dsimp only
  refine O.2 _ _ _ _ _ _ (br_t rfl (mt_yload ?_))
  intro wk' hw
  dsimp only
  rw [mt_hole i hi, mt_hole k hk]
  refine mt_yminor (Nat.lt_of_le_of_lt (Nat.sub_le _ _) (by decide)) (Nat.lt_of_le_of_lt (Nat.sub_le _ _) (by decide)) ⟨by decide, ?_⟩
  have e : mt_minor wk' (15 - 2 ^ i) (15 - 2 ^ k) = mt_minor t (15 - 2 ^ i) (15 - 2 ^ k) := mt_minorc (fun j hj => by rw [hw j hj, mt_ld0]) _ _
  have K := H wk'
  rw [mt_cofE h hi hk] at K
  rw [e]
  by_cases b : (i + k) % 2 = 0
  · rw [if_pos b] at K
    exact br_t ((mt_par i hi k hk).mpr b) K
  · rw [if_neg b] at K
    exact br_f (fun z => b ((mt_par i hi k hk).mp z)) K
theorem mt_y5 {post : Int32 → SY → Prop} (H : ∀ wk' : Nat → Int32, post (mt_rc (fun x => mt_minor (mt_ld t x) 15 15) 73) (t, pw, wk', pr, mt_W)) : ∀ (d i : Nat) (wk : Nat → Int32), i + d = 73 → wY_roots_5 post (d + 1) (mt_rc (fun x => mt_minor (mt_ld t x) 15 15) i) (mt_rx i) t pw wk pr mt_W := by
  intro d
  induction d with
  | zero =>
    intro i wk h
    have e : i = 73 := by omega
    subst e
    exact br_t mt_rxE (H wk)
  | succ d ih =>
    intro i wk h
    refine br_f (mt_rxL i (by omega)) (mt_yload ?_)
    intro wk' hw
    dsimp only
    refine mt_yminor (r := 15) (c := 15) (by decide) (by decide) ?_
    have e : mt_minor wk' 15 15 = mt_minor (mt_ld t (mt_rx i)) 15 15 := mt_minorc hw 15 15
    rw [e]
    have K := ih (i + 1) wk' (by omega)
    rw [mt_rc] at K
    by_cases b : mt_minor (mt_ld t (mt_rx i)) 15 15 = 0
    · rw [if_pos b] at K
      exact br_t b (nm_e (nm_r (mt_rxU i) K))
    · rw [if_neg b] at K
      exact br_f b (nm_r (mt_rxU i) K)
theorem mt_yroots {post : Int32 → SY → Prop} (H : ∀ wk' : Nat → Int32, post (mt_rc (fun x => mt_minor (mt_ld t x) 15 15) 73) (t, pw, wk', pr, mt_W)) : wpY_roots post (t, pw, wk, pr, mt_W) :=
  ⟨74, mt_y5 H 73 0 wk rfl⟩
theorem mt_y7 {post : Int32 → SY → Prop} (H1 : (∀ j, j < 16 → pw j = 0) → post 1 (t, pw, wk, pr, W)) (H0 : ¬ (∀ j, j < 16 → pw j = 0) → post 0 (t, pw, wk, pr, W)) : ∀ (d i : Nat), i + d = 16 → (∀ j, j < i → pw j = 0) → wY_vanishes_7 post t pw wk pr W (d + 1) (nI i) := by
  intro d
  induction d with
  | zero =>
    intro i h hz
    have e : i = 16 := by omega
    subst e
    exact br_t (mt_le 16 (by decide)) (H1 hz)
  | succ d ih =>
    intro i h hz
    refine br_f (mt_ge (e := 16) (by omega) (by decide)) ⟨mt_vin (by omega) (by decide), ?_⟩
    rw [mt_cl (i := i) (by omega)]
    refine br_c (fun z => ?_) (fun z => ?_)
    · refine nm_r (mt_up i) (ih (i + 1) (by omega) ?_)
      intro j hj
      by_cases e : j = i
      · rw [e]; exact z
      · exact hz j (by omega)
    · exact H0 (fun y => z (y i (by omega)))
theorem mt_yvan {post : Int32 → SY → Prop} (H1 : (∀ j, j < 16 → mt_P t 4 j = 0) → ∀ pw' wk' : Nat → Int32, post 1 (t, pw', wk', pr, W)) (H0 : ¬ (∀ j, j < 16 → mt_P t 4 j = 0) → ∀ pw' wk' : Nat → Int32, post 0 (t, pw', wk', pr, W)) : wpY_vanishes post (t, pw, wk, pr, W) := by
  unfold wpY_vanishes
  dsimp only
  refine mt_yraise (n := 4) (by decide) ?_
  intro pw' wk' hp
  dsimp only
  refine ⟨17, mt_y7 (fun z => H1 (fun j hj => ?_) pw' wk') (fun z => H0 (fun y => z (fun j hj => ?_)) pw' wk') 16 0 rfl (fun j hj => absurd hj (Nat.not_lt_zero j))⟩
  · rw [← mt_QP t 4 j hj, ← hp j hj]
    exact z j hj
  · rw [hp j hj, mt_QP t 4 j hj]
    exact y j hj
end
section
variable {rd : Int32} {t c s m p q : Nat → Int32} {w : Nat → Int64}
theorem mt_xpt {post : Int32 → Prop} {n : Nat} (hn : n < 4) (hq : ∀ n, n < 4 → ∀ j, j < 16 → q (n * 16 + j) = mt_P t n j) (H : post (mt_tr (mt_P t n))) : wpX_powersTrace post (rd, t, c, s, m, p, q, w) (nI n) := by
  have e5 : nI n * 16 + 5 = nI (n * 16 + 5) := mt_ix16 n 5
  have e10 : nI n * 16 + 10 = nI (n * 16 + 10) := mt_ix16 n 10
  have e15 : nI n * 16 + 15 = nI (n * 16 + 15) := mt_ix16 n 15
  unfold wpX_powersTrace
  dsimp only
  rw [e5, e10, e15, mt_ev16', mt_cl (i := n * 16) (by omega), mt_cl (i := n * 16 + 5) (by omega), mt_cl (i := n * 16 + 10) (by omega), mt_cl (i := n * 16 + 15) (by omega)]
  have q0 : q (n * 16) = mt_P t n 0 := hq n hn 0 (by decide)
  rw [q0, hq n hn 5 (by decide), hq n hn 10 (by decide), hq n hn 15 (by decide)]
  exact ⟨mt_vin (by omega) (by decide), mt_vin (by omega) (by decide), mt_vin (by omega) (by decide), mt_vin (by omega) (by decide), H⟩
theorem mt_xvan {A1 A0 : Prop} {c : Nat → Int32} (H1 : c 0 = 0 ∧ c 1 = 0 ∧ c 2 = 0 ∧ c 3 = 0 → A1) (H0 : ¬ (c 0 = 0 ∧ c 1 = 0 ∧ c 2 = 0 ∧ c 3 = 0) → A0) : (((c 0) = 0 → ((((c 1) = 0 → ((((c 2) = 0 → ((((c 3) = 0 → A1) ∧ (¬ (c 3) = 0 → A0)))) ∧ (¬ (c 2) = 0 → A0)))) ∧ (¬ (c 1) = 0 → A0)))) ∧ (¬ (c 0) = 0 → A0)) := by
  refine br_c (fun a => br_c (fun b => br_c (fun d => br_c (fun e => H1 ⟨a, b, d, e⟩) (fun e => H0 (fun z => e z.2.2.2))) (fun d => H0 (fun z => d z.2.2.1))) (fun b => H0 (fun z => b z.2.1))) (fun a => H0 (fun z => a z.1))
end
end
section
/-! the owed statements -/
def i_Rel (k : Nat) (u : SX) (v : SY) : Prop :=
  ∃ (rd : Int32) (t c s m p q : Nat → Int32) (w : Nat → Int64) (pw wk pr : Nat → Int32), u = (rd, t, c, s, m, p, q, w) ∧ v = (t, pw, wk, pr, mt_W) ∧ (∀ j, mt_Bd 9 (t j)) ∧ (¬ rd = 0 → mt_CA t c m q)
theorem mt_rel {k : Nat} {rd : Int32} {t c s m p q : Nat → Int32} {w : Nat → Int64} {pw wk pr : Nat → Int32} (hb : ∀ j, mt_Bd 9 (t j)) (hc : ¬ rd = 0 → mt_CA t c m q) : i_Rel k (rd, t, c, s, m, p, q, w) (t, pw, wk, pr, mt_W) :=
  ⟨rd, t, c, s, m, p, q, w, pw, wk, pr, rfl, rfl, hb, hc⟩
theorem mt_no {P : Prop} : ¬ (0 : Int32) = 0 → P := fun z => absurd rfl z
theorem mt_Bd00 : mt_Bd 9 (0 : Int32) := ⟨by decide, by decide⟩
theorem mt_Bd0 (j : Nat) : mt_Bd 9 ((fun _ => (0 : Int32)) j) := mt_Bd00
theorem mt_in9 {x : Int32} (h1 : ¬ x < -9) (h2 : x ≤ 9) : mt_Bd 9 x := by
  rw [Int32.lt_iff_toInt_lt, show (-9 : Int32).toInt = -9 from by decide] at h1
  rw [Int32.le_iff_toInt_le, show (9 : Int32).toInt = 9 from by decide] at h2
  exact ⟨by omega, h2⟩
theorem mt_in40 {x : Int32} (h1 : ¬ x < -40) (h2 : x ≤ 40) : mt_Bd 40 x := by
  rw [Int32.lt_iff_toInt_lt, show (-40 : Int32).toInt = -40 from by decide] at h1
  rw [Int32.le_iff_toInt_le, show (40 : Int32).toInt = 40 from by decide] at h2
  exact ⟨by omega, h2⟩
theorem mt_updB {t : Nat → Int32} {x : Int32} (h : ∀ j, mt_Bd 9 (t j)) (hx : mt_Bd 9 x) (i : Nat) : ∀ j, mt_Bd 9 (upd t i x j) := by
  intro j
  by_cases e : j = i
  · rw [e, pk_us]; exact hx
  · rw [pk_un e]; exact h j
theorem mt_YRc {g g' : Nat → Int32} (h : ∀ j, j < 16 → g j = g' j) {r : Nat} (y : mt_YR g r) : mt_YR g' r := by
  have V : ∀ k, mt_V g k ↔ mt_V g' k := by
    intro k
    unfold mt_V
    constructor
    · intro ⟨b, h1, h2, h3, h4⟩
      exact ⟨b, h1, h2, h3, by rw [← mt_minorc h]; exact h4⟩
    · intro ⟨b, h1, h2, h3, h4⟩
      exact ⟨b, h1, h2, h3, by rw [mt_minorc h]; exact h4⟩
  unfold mt_YR at *
  refine ⟨y.1.imp id (V r).mp, fun k hk v => y.2 k hk ((V k).mpr v)⟩
theorem i_up {k : Nat} {u : SX} {v : SY} (h : i_Rel k u v) : i_Rel (k + 4) u v := h
theorem i_vc0 : wpX_init (fun u => wpY_init (fun v => i_Rel 0 u v)) := by
  unfold wpX_init
  exact mt_yinit (mt_rel mt_Bd0 mt_no)
theorem i_vc_set {k : Nat} {u : SX} {v : SY} (I : i_Rel k u v) (hk : k + 4 ≤ 2048) (v1 : Int32) (v2 : Int32) (v3 : Int32) : wpX_set (fun r u' => wpY_set (fun r' v' => r' = r ∧ i_Rel (k + 4) u' v') v v1 v2 v3) u v1 v2 v3 := by
  obtain ⟨rd, t, c, s, m, p, q, w, pw, wk, pr, rfl, rfl, hb, hc⟩ := I
  unfold wpX_set
  dsimp only
  rcases mt_bad v1 v2 with ⟨i, j, hi, hj, rfl, rfl, O⟩ | O
  · refine O.1 _ (br_t rfl ?_)
    by_cases a : v3 < -9
    · refine br_t a ?_
      unfold wpY_set
      dsimp only
      exact O.2 _ _ _ _ _ _ (br_t rfl (br_t a ⟨rfl, mt_rel hb hc⟩))
    · by_cases b : v3 ≤ 9
      · refine br_f a (br_t b ?_)
        rw [mt_ix, mt_cl (i := i * 4 + j) (by omega)]
        refine ⟨mt_vin (by omega) (by decide), nm_e ?_⟩
        unfold wpY_set
        dsimp only
        refine O.2 _ _ _ _ _ _ (br_t rfl (br_f a (br_t b ?_)))
        rw [mt_ix, mt_cl (i := i * 4 + j) (by omega)]
        exact ⟨mt_vin (by omega) (by decide), nm_e ⟨rfl, mt_rel (mt_updB hb (mt_in9 a b) _) mt_no⟩⟩
      · refine br_f a (br_f b ?_)
        unfold wpY_set
        dsimp only
        exact O.2 _ _ _ _ _ _ (br_t rfl (br_f a (br_f b ⟨rfl, mt_rel hb hc⟩)))
  · refine O.1 _ (br_f (by decide) ?_)
    unfold wpY_set
    dsimp only
    exact O.2 _ _ _ _ _ _ (br_f (by decide) ⟨rfl, mt_rel hb hc⟩)
theorem i_vc_flip {k : Nat} {u : SX} {v : SY} (I : i_Rel k u v) (hk : k + 4 ≤ 2048) : wpX_flip (fun u' => wpY_flip (fun v' => i_Rel (k + 4) u' v') v) u := by
  obtain ⟨rd, t, c, s, m, p, q, w, pw, wk, pr, rfl, rfl, hb, hc⟩ := I
  refine mt_xflip (mt_yflip ?_)
  rw [← mt_fXY]
  exact mt_rel (mt_fXB hb) mt_no
theorem i_vc_relabel {k : Nat} {u : SX} {v : SY} (I : i_Rel k u v) (hk : k + 4 ≤ 2048) (v1 : Int32) (v2 : Int32) : wpX_relabel (fun r u' => wpY_relabel (fun r' v' => r' = r ∧ i_Rel (k + 4) u' v') v v1 v2) u v1 v2 := by
  obtain ⟨rd, t, c, s, m, p, q, w, pw, wk, pr, rfl, rfl, hb, hc⟩ := I
  rcases mt_bad v1 v2 with ⟨i, j, hi, hj, rfl, rfl, O⟩ | O
  · exact mt_xrelabel hi hj O (mt_yrelabel hi hj O ⟨rfl, mt_rel (mt_rlB hb) mt_no⟩)
  · unfold wpX_relabel
    dsimp only
    refine O.1 _ (br_f (by decide) ?_)
    unfold wpY_relabel
    dsimp only
    exact O.2 _ _ _ _ _ _ (br_f (by decide) ⟨rfl, mt_rel hb hc⟩)
theorem i_vc_negate {k : Nat} {u : SX} {v : SY} (I : i_Rel k u v) (hk : k + 4 ≤ 2048) : wpX_negate (fun u' => wpY_negate (fun v' => i_Rel (k + 4) u' v') v) u := by
  obtain ⟨rd, t, c, s, m, p, q, w, pw, wk, pr, rfl, rfl, hb, hc⟩ := I
  exact mt_xneg (mt_yneg (mt_rel (mt_ngB (by decide) hb) mt_no))
theorem i_vc_entry {k : Nat} {u : SX} {v : SY} (I : i_Rel k u v) (hk : k + 4 ≤ 2048) (v1 : Int32) (v2 : Int32) : wpX_entry (fun r => wpY_entry (fun r' => r' = r ∧ i_Rel (k + 4) u v) v v1 v2) u v1 v2 := by
  obtain ⟨rd, t, c, s, m, p, q, w, pw, wk, pr, rfl, rfl, hb, hc⟩ := I
  unfold wpX_entry
  dsimp only
  rcases mt_bad v1 v2 with ⟨i, j, hi, hj, rfl, rfl, O⟩ | O
  · refine O.1 _ (br_t rfl ?_)
    rw [mt_ix, mt_cl (i := i * 4 + j) (by omega)]
    refine ⟨mt_vin (by omega) (by decide), ?_⟩
    unfold wpY_entry
    dsimp only
    refine O.2 _ _ _ _ _ _ (br_t rfl ?_)
    rw [mt_ix, mt_cl (i := i * 4 + j) (by omega)]
    exact ⟨mt_vin (by omega) (by decide), rfl, mt_rel hb hc⟩
  · refine O.1 _ (br_f (by decide) ?_)
    unfold wpY_entry
    dsimp only
    exact O.2 _ _ _ _ _ _ (br_f (by decide) ⟨rfl, mt_rel hb hc⟩)
theorem i_vc_coefficient {k : Nat} {u : SX} {v : SY} (I : i_Rel k u v) (hk : k + 4 ≤ 2048) (v1 : Int32) : wpX_coefficient (fun r u' => wpY_coefficient (fun r' v' => r' = r ∧ i_Rel (k + 4) u' v') v v1) u v1 := by
  obtain ⟨rd, t, c, s, m, p, q, w, pw, wk, pr, rfl, rfl, hb, hc⟩ := I
  by_cases a : v1 < 0
  · exact br_t a (br_t a ⟨rfl, mt_rel hb hc⟩)
  · by_cases b : v1 ≤ 4
    · refine br_f a (br_t b (mt_xprep hc ?_))
      obtain ⟨j, hj, rfl⟩ := nI_of2 (M := 4) (n := 4) (by decide) a b
      intro rd' c' s' m' p' q' CA
      dsimp only
      rw [mt_cl (i := j) (by omega)]
      refine ⟨mt_vin (by omega) (by decide), mt_ycoef (by omega) ?_⟩
      intro pr'
      exact ⟨by rw [CA.1 j (by omega), mt_cXf hb (by omega)], mt_rel hb (fun _ => CA)⟩
    · exact br_f a (br_f b (br_f a (br_f b ⟨rfl, mt_rel hb hc⟩)))
theorem i_vc_valueAt {k : Nat} {u : SX} {v : SY} (I : i_Rel k u v) (hk : k + 4 ≤ 2048) (v1 : Int32) : wpX_valueAt (fun r u' => wpY_valueAt (fun r' v' => r' = r ∧ i_Rel (k + 4) u' v') v v1) u v1 := by
  obtain ⟨rd, t, c, s, m, p, q, w, pw, wk, pr, rfl, rfl, hb, hc⟩ := I
  by_cases a : v1 < -1000
  · exact br_t a (br_t a ⟨rfl, mt_rel hb hc⟩)
  · by_cases b : v1 ≤ 1000
    · refine br_f a (br_t b (mt_xprep hc ?_))
      intro rd' c' s' m' p' q' CA
      dsimp only
      refine mt_xeval ?_
      refine br_f a (br_t b ⟨6, mt_y21 5 0 pr (by decide) ?_⟩)
      intro pr'
      exact ⟨mt_hsc 5 0 (fun j hj => by rw [CA.1 j hj, mt_cXf hb hj]), mt_rel hb (fun _ => CA)⟩
    · exact br_f a (br_f b (br_f a (br_f b ⟨rfl, mt_rel hb hc⟩)))
theorem i_vc_determinant {k : Nat} {u : SX} {v : SY} (I : i_Rel k u v) (hk : k + 4 ≤ 2048) : wpX_determinant (fun r u' => wpY_determinant (fun r' v' => r' = r ∧ i_Rel (k + 4) u' v') v) u := by
  obtain ⟨rd, t, c, s, m, p, q, w, pw, wk, pr, rfl, rfl, hb, hc⟩ := I
  unfold wpX_determinant
  dsimp only
  refine mt_xprep hc ?_
  intro rd' c' s' m' p' q' CA
  dsimp only
  refine mt_ydet ?_
  intro wk'
  exact ⟨by rw [CA.1 0 (by decide), mt_cX0 hb], mt_rel hb (fun _ => CA)⟩
theorem i_vc_cofactor {k : Nat} {u : SX} {v : SY} (I : i_Rel k u v) (hk : k + 4 ≤ 2048) (v1 : Int32) (v2 : Int32) : wpX_cofactor (fun r u' => wpY_cofactor (fun r' v' => r' = r ∧ i_Rel (k + 4) u' v') v v1 v2) u v1 v2 := by
  obtain ⟨rd, t, c, s, m, p, q, w, pw, wk, pr, rfl, rfl, hb, hc⟩ := I
  unfold wpX_cofactor
  dsimp only
  rcases mt_bad v1 v2 with ⟨i, j, hi, hj, rfl, rfl, O⟩ | O
  · refine O.1 _ (br_t rfl (mt_xprep hc ?_))
    intro rd' c' s' m' p' q' CA
    dsimp only
    rw [mt_ix, mt_cl (i := j * 4 + i) (by omega)]
    refine ⟨mt_vin (by omega) (by decide), mt_ycof hb hi hj O ?_⟩
    intro wk'
    exact ⟨(CA.2.1 _ (by omega)).symm, mt_rel hb (fun _ => CA)⟩
  · refine O.1 _ (br_f (by decide) ?_)
    unfold wpY_cofactor
    dsimp only
    exact O.2 _ _ _ _ _ _ (br_f (by decide) ⟨rfl, mt_rel hb hc⟩)
theorem i_vc_powerTrace {k : Nat} {u : SX} {v : SY} (I : i_Rel k u v) (hk : k + 4 ≤ 2048) (v1 : Int32) : wpX_powerTrace (fun r u' => wpY_powerTrace (fun r' v' => r' = r ∧ i_Rel (k + 4) u' v') v v1) u v1 := by
  obtain ⟨rd, t, c, s, m, p, q, w, pw, wk, pr, rfl, rfl, hb, hc⟩ := I
  by_cases a : v1 < 0
  · exact br_t a (br_t a ⟨rfl, mt_rel hb hc⟩)
  · by_cases b : v1 ≤ 60
    · refine br_f a (br_t b (mt_xprep hc ?_))
      obtain ⟨n, hn, rfl⟩ := nI_of2 (M := 60) (n := 60) (by decide) a b
      intro rd' c' s' m' p' q' CA
      dsimp only
      refine mt_xpt (n := 0) (by decide) CA.2.2 (mt_xpt (n := 1) (by decide) CA.2.2 (mt_xpt (n := 2) (by decide) CA.2.2 (mt_xpt (n := 3) (by decide) CA.2.2 ?_)))
      refine mt_x16 (by omega) (fun n => mt_tr (mt_P t n)) ?_ ?_
      · intro n
        rw [CA.1 0 (by decide), CA.1 1 (by decide), CA.1 2 (by decide), CA.1 3 (by decide)]
        exact mt_CHt hb n
      · refine br_f a (br_t b (mt_yraise (by omega) ?_))
        intro pw' wk' hp
        dsimp only
        refine ⟨?_, mt_rel hb (fun _ => CA)⟩
        rw [hp 0 (by decide), hp 5 (by decide), hp 10 (by decide), hp 15 (by decide), mt_QP t n 0 (by decide), mt_QP t n 5 (by decide), mt_QP t n 10 (by decide), mt_QP t n 15 (by decide)]
        rfl
    · exact br_f a (br_f b (br_f a (br_f b ⟨rfl, mt_rel hb hc⟩)))
theorem i_vc_powerEntry {k : Nat} {u : SX} {v : SY} (I : i_Rel k u v) (hk : k + 4 ≤ 2048) (v1 : Int32) (v2 : Int32) (v3 : Int32) : wpX_powerEntry (fun r u' => wpY_powerEntry (fun r' v' => r' = r ∧ i_Rel (k + 4) u' v') v v1 v2 v3) u v1 v2 v3 := by
  obtain ⟨rd, t, c, s, m, p, q, w, pw, wk, pr, rfl, rfl, hb, hc⟩ := I
  unfold wpX_powerEntry
  dsimp only
  rcases mt_bad v1 v2 with ⟨i, j, hi, hj, rfl, rfl, O⟩ | O
  · refine O.1 _ (br_t rfl ?_)
    by_cases a : v3 < 0
    · refine br_t a ?_
      unfold wpY_powerEntry
      dsimp only
      exact O.2 _ _ _ _ _ _ (br_t rfl (br_t a ⟨rfl, mt_rel hb hc⟩))
    · by_cases b : v3 ≤ 60
      · refine br_f a (br_t b (mt_xprep hc ?_))
        obtain ⟨n, hn, rfl⟩ := nI_of2 (M := 60) (n := 60) (by decide) a b
        intro rd' c' s' m' p' q' CA
        dsimp only
        have e16 : (16 : Int32) + nI (i * 4 + j) = nI (1 * 16 + (i * 4 + j)) := nI_add 16 _
        have e32 : (32 : Int32) + nI (i * 4 + j) = nI (2 * 16 + (i * 4 + j)) := nI_add 32 _
        have e48 : (48 : Int32) + nI (i * 4 + j) = nI (3 * 16 + (i * 4 + j)) := nI_add 48 _
        refine nm_r (mt_ix i j) ?_
        rw [e16, e32, e48, mt_cl (i := i * 4 + j) (by omega), mt_cl (i := 1 * 16 + (i * 4 + j)) (by omega), mt_cl (i := 2 * 16 + (i * 4 + j)) (by omega), mt_cl (i := 3 * 16 + (i * 4 + j)) (by omega)]
        have q0 : q' (i * 4 + j) = mt_P t 0 (i * 4 + j) := by
          have k0 := CA.2.2 0 (by decide) (i * 4 + j) (by omega)
          rw [Nat.zero_mul, Nat.zero_add] at k0
          exact k0
        rw [q0, CA.2.2 1 (by decide) (i * 4 + j) (by omega), CA.2.2 2 (by decide) (i * 4 + j) (by omega), CA.2.2 3 (by decide) (i * 4 + j) (by omega)]
        refine ⟨mt_vin (by omega) (by decide), mt_vin (by omega) (by decide), mt_vin (by omega) (by decide), mt_vin (by omega) (by decide), ?_⟩
        refine mt_x16 (by omega) (fun n => mt_P t n (i * 4 + j)) ?_ ?_
        · intro n
          rw [CA.1 0 (by decide), CA.1 1 (by decide), CA.1 2 (by decide), CA.1 3 (by decide)]
          exact mt_CHr hb n (by omega)
        · unfold wpY_powerEntry
          dsimp only
          refine O.2 _ _ _ _ _ _ (br_t rfl (br_f a (br_t b (mt_yraise (by omega) ?_))))
          intro pw' wk' hp
          dsimp only
          rw [mt_ix, mt_cl (i := i * 4 + j) (by omega)]
          refine ⟨mt_vin (by omega) (by decide), ?_, mt_rel hb (fun _ => CA)⟩
          rw [hp _ (by omega), mt_QP t n _ (by omega)]
      · refine br_f a (br_f b ?_)
        unfold wpY_powerEntry
        dsimp only
        exact O.2 _ _ _ _ _ _ (br_t rfl (br_f a (br_f b ⟨rfl, mt_rel hb hc⟩)))
  · refine O.1 _ (br_f (by decide) ?_)
    unfold wpY_powerEntry
    dsimp only
    exact O.2 _ _ _ _ _ _ (br_f (by decide) ⟨rfl, mt_rel hb hc⟩)
theorem i_vc_roots {k : Nat} {u : SX} {v : SY} (I : i_Rel k u v) (hk : k + 4 ≤ 2048) : wpX_roots (fun r u' => wpY_roots (fun r' v' => r' = r ∧ i_Rel (k + 4) u' v') v) u := by
  obtain ⟨rd, t, c, s, m, p, q, w, pw, wk, pr, rfl, rfl, hb, hc⟩ := I
  unfold wpX_roots
  dsimp only
  refine mt_xprep hc ?_
  intro rd' c' s' m' p' q' CA
  dsimp only
  refine mt_xroots (mt_yroots ?_)
  intro wk'
  refine ⟨?_, mt_rel hb (fun _ => CA)⟩
  refine congrArg (fun f => mt_rc f 73) (funext fun x => ?_)
  rw [← mt_root hb x]
  exact (mt_hsc 5 0 (fun j hj => CA.1 j hj)).symm
theorem i_vc_rankAt {k : Nat} {u : SX} {v : SY} (I : i_Rel k u v) (hk : k + 4 ≤ 2048) (v1 : Int32) : wpX_rankAt (fun r u' => wpY_rankAt (fun r' v' => r' = r ∧ i_Rel (k + 4) u' v') v v1) u v1 := by
  obtain ⟨rd, t, c, s, m, p, q, w, pw, wk, pr, rfl, rfl, hb, hc⟩ := I
  by_cases a : v1 < -40
  · exact br_t a (br_t a ⟨rfl, mt_rel hb hc⟩)
  · by_cases b : v1 ≤ 40
    · refine br_f a (br_t b (mt_xrank hb (mt_in40 a b) ?_))
      intro r w' hr hk2
      refine br_f a (br_t b (mt_yload ?_))
      intro wk' hw
      dsimp only
      refine mt_yrank ?_
      intro r' hr' y
      refine ⟨?_, mt_rel hb hc⟩
      have y2 := mt_YRc hw y
      rw [mt_one (g := mt_ld t v1) (B := fun j => (mt_ld t v1 j).toInt) (fun j => (Int32.ofInt_toInt _).symm) (fun j => mt_ldB hb (mt_in40 a b) j) hr hr' hk2 y2]
    · exact br_f a (br_f b (br_f a (br_f b ⟨rfl, mt_rel hb hc⟩)))
theorem i_vc_vanishes {k : Nat} {u : SX} {v : SY} (I : i_Rel k u v) (hk : k + 4 ≤ 2048) : wpX_vanishes (fun r u' => wpY_vanishes (fun r' v' => r' = r ∧ i_Rel (k + 4) u' v') v) u := by
  obtain ⟨rd, t, c, s, m, p, q, w, pw, wk, pr, rfl, rfl, hb, hc⟩ := I
  unfold wpX_vanishes
  dsimp only
  refine mt_xprep hc ?_
  intro rd' c' s' m' p' q' CA
  dsimp only
  have e : (c' 0 = 0 ∧ c' 1 = 0 ∧ c' 2 = 0 ∧ c' 3 = 0) ↔ ∀ j, j < 16 → mt_P t 4 j = 0 := by
    rw [CA.1 0 (by decide), CA.1 1 (by decide), CA.1 2 (by decide), CA.1 3 (by decide)]
    exact ⟨fun z j hj => mt_nilI hb z.1 z.2.1 z.2.2.1 z.2.2.2 hj, fun z => mt_nil hb z⟩
  refine mt_xvan (c := c') ?_ ?_
  · intro z
    exact mt_yvan (fun _ _ _ => ⟨rfl, mt_rel hb (fun _ => CA)⟩) (fun y => absurd (e.mp z) y)
  · intro z
    exact mt_yvan (fun y => absurd (e.mpr y) z) (fun _ _ _ => ⟨rfl, mt_rel hb (fun _ => CA)⟩)
end

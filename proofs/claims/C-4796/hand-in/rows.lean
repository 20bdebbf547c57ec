section
/-! pure rows to paste: stores, nI and lN arithmetic, masks, shifts, narrowing, branches by naturals (pk_le, pk_lt, pk_eq), loops (lp1 .. lp16: the measure of the state; rp1 ..: recursion), negatives. Take what you need -/
theorem pk_us {f : Nat → Int32} {k : Nat} {x : Int32} : upd f k x k = x := if_pos rfl
theorem pk_un {f : Nat → Int32} {k j : Nat} {x : Int32} (h : j ≠ k) : upd f k x j = f j := if_neg h
theorem pk_uLs {f : Nat → Int64} {k : Nat} {x : Int64} : vp_updL f k x k = x := if_pos rfl
theorem pk_uLn {f : Nat → Int64} {k j : Nat} {x : Int64} (h : j ≠ k) : vp_updL f k x j = f j := if_neg h
theorem pk_sub {a b : Nat} (h : b ≤ a) : nI a - nI b = nI (a - b) := by
  obtain ⟨c, rfl⟩ : ∃ c, a = c + b := ⟨a - b, by omega⟩
  rw [← nI_add, Int32.add_sub_cancel, Nat.add_sub_cancel]
theorem pk_m1 (n : Nat) : nI (n + 1) + (-1) = nI n := by
  rw [← nI_1, Int32.add_assoc, show (1 : Int32) + (-1) = 0 from rfl, Int32.add_zero]
theorem pk_mul (a b : Nat) : nI a * nI b = nI (a * b) := (Int32.ofNat_mul a b).symm
theorem pk_div {a d : Nat} (ha : a < 2 ^ 31) (h0 : 0 < d) (hd : d < 2 ^ 31) : nI a / nI d = nI (a / d) := by
  apply Int32.toInt_inj.mp
  rw [lg_idiv_nonneg (by rw [nI_toInt ha]; omega) (by rw [nI_toInt hd]; omega), nI_toInt ha, nI_toInt hd, nI_toInt (Nat.lt_of_le_of_lt (Nat.div_le_self a d) ha)]
  first | rfl | exact (Int.natCast_ediv _ _).symm
theorem pk_rem {a d : Nat} (ha : a < 2 ^ 31) (h0 : 0 < d) (hd : d < 2 ^ 31) : nI a - nI a / nI d * nI d = nI (a % d) := by
  rw [pk_div ha h0 hd, pk_mul, pk_sub (Nat.div_mul_le_self a d)]
  exact congrArg nI (by have := Nat.div_add_mod' a d; omega)
theorem pk_sub_toInt {a b : Nat} (ha : a < 2 ^ 30) (hb : b < 2 ^ 30) : (nI a - nI b).toInt = (a : Int) - b := by
  rw [Int32.toInt_sub, nI_toInt (by omega), nI_toInt (by omega)]
  exact Int.bmod_eq_of_le (by omega) (by omega)
theorem pk_sneg {a b : Nat} (hb : b < 2 ^ 30) (h : a < b) : nI a - nI b < 0 := by
  rw [Int32.lt_iff_toInt_lt, pk_sub_toInt (by omega) hb, show (0 : Int32).toInt = 0 from by decide]
  omega
theorem pk_ix (x : Int32) {n : Nat} (hn : n < 2 ^ 31) : x < 0 ∨ nI n ≤ x ∨ ∃ j : Nat, j < n ∧ x = nI j := by
  by_cases h : x < 0
  · exact Or.inl h
  · obtain ⟨j, hj, rfl⟩ := nI_of h
    by_cases h2 : j < n
    · exact Or.inr (Or.inr ⟨j, h2, rfl⟩)
    · exact Or.inr (Or.inl (nI_le (by omega) hj))
theorem pk_le {x y : Int32} {A B : Prop} (a b : Nat) (f : a ≤ b → A) (g : b < a → B) (hx : x = nI a := by rfl) (hy : y = nI b := by rfl) (ha : a < 2 ^ 31 := by omega) (hb : b < 2 ^ 31 := by omega) : (x ≤ y → A) ∧ (¬ x ≤ y → B) := by
  subst hx hy
  rw [nI_leI ha hb]
  exact ⟨f, fun z => g (by omega)⟩
theorem pk_lt {x y : Int32} {A B : Prop} (a b : Nat) (f : a < b → A) (g : b ≤ a → B) (hx : x = nI a := by rfl) (hy : y = nI b := by rfl) (ha : a < 2 ^ 31 := by omega) (hb : b < 2 ^ 31 := by omega) : (x < y → A) ∧ (¬ x < y → B) := by
  subst hx hy
  rw [nI_ltI ha hb]
  exact ⟨f, fun z => g (by omega)⟩
theorem pk_eq {x y : Int32} {A B : Prop} (a b : Nat) (f : a = b → A) (g : a ≠ b → B) (hx : x = nI a := by rfl) (hy : y = nI b := by rfl) (ha : a < 2 ^ 31 := by omega) (hb : b < 2 ^ 31 := by omega) : (x = y → A) ∧ (¬ x = y → B) := by
  subst hx hy
  rw [nI_eq ha hb]
  exact ⟨f, g⟩
theorem pk_in {x : Int32} (n N : Nat) (h : n < N) (hx : x = nI n := by rfl) (hN : N < 2 ^ 31 := by omega) : vp_in x N := by
  subst hx
  exact vp_in_nI h hN
theorem pk_cl {x : Int32} (n : Nat) (hx : x = nI n := by rfl) (h : n < 2 ^ 31 := by omega) : x.toNatClampNeg = n := by
  subst hx
  exact nI_clamp h
theorem pk_tn {n : Nat} (h : n < 2 ^ 32) : (nI n).toBitVec.toNat = n := Nat.mod_eq_of_lt h
theorem pk_and (x : Int32) {m : Int32} (k : Nat) (hm : m.toBitVec.toNat = 2 ^ k - 1) : x &&& m = nI (x.toBitVec.toNat % 2 ^ k) := by
  apply Int32.toBitVec_inj.mp
  apply BitVec.eq_of_toNat_eq
  rw [Int32.toBitVec_and, BitVec.toNat_and, hm, Nat.and_two_pow_sub_one_eq_mod]
  show _ = (BitVec.ofNat 32 _).toNat
  rw [BitVec.toNat_ofNat]
  exact (Nat.mod_eq_of_lt (Nat.lt_of_le_of_lt (Nat.mod_le _ _) x.toBitVec.isLt)).symm
theorem pk_andN {n : Nat} (h : n < 2 ^ 32) {m : Int32} (k : Nat) (hm : m.toBitVec.toNat = 2 ^ k - 1) : nI n &&& m = nI (n % 2 ^ k) := by
  rw [pk_and _ k hm, pk_tn h]
theorem pk_andE (x : Int32) {m : Int32} (k : Nat) (hm : m.toBitVec.toNat = 2 ^ k - 1) : ∃ j : Nat, j < 2 ^ k ∧ x &&& m = nI j := ⟨_, Nat.mod_lt _ (Nat.two_pow_pos k), pk_and x k hm⟩
theorem pk_andIn (x : Int32) {m : Int32} (k : Nat) (hm : m.toBitVec.toNat = 2 ^ k - 1) (hk : k ≤ 30) : vp_in (x &&& m) (2 ^ k) := by
  obtain ⟨j, hj, e⟩ := pk_andE x k hm
  rw [e]
  exact vp_in_nI hj (Nat.lt_of_le_of_lt (Nat.pow_le_pow_right (by decide) hk) (by decide))
theorem pk_shl (a s : Int32) (k : Nat) (hs : (s.toBitVec.smod 32).toNat = k) : (a <<< s).toBitVec.toNat = a.toBitVec.toNat * 2 ^ k % 2 ^ 32 := by
  show (a.toBitVec <<< (s.toBitVec.smod 32).toNat).toNat = _
  rw [hs, BitVec.toNat_shiftLeft, Nat.shiftLeft_eq]
theorem pk_shlN {n : Nat} (s : Int32) (k : Nat) (hs : (s.toBitVec.smod 32).toNat = k) (h : n * 2 ^ k < 2 ^ 32) : nI n <<< s = nI (n * 2 ^ k) := by
  apply Int32.toBitVec_inj.mp
  apply BitVec.eq_of_toNat_eq
  have hn : n < 2 ^ 32 := Nat.lt_of_le_of_lt (Nat.le_mul_of_pos_right n (Nat.two_pow_pos k)) h
  rw [pk_shl _ _ k hs, pk_tn hn, pk_tn h, Nat.mod_eq_of_lt h]
theorem pk_shr (a s : Int32) (k : Nat) (hs : (s.toBitVec.smod 32).toNat = k) : (a >>> s).toInt = a.toInt >>> k := by
  show (a.toBitVec.sshiftRight (s.toBitVec.smod 32).toNat).toInt = _
  rw [hs, BitVec.toInt_sshiftRight]
  rfl
theorem pk_shrN {n : Nat} (h : n < 2 ^ 31) (s : Int32) (k : Nat) (hs : (s.toBitVec.smod 32).toNat = k) : nI n >>> s = nI (n / 2 ^ k) := by
  apply Int32.toInt_inj.mp
  have h2 : n / 2 ^ k ≤ n := Nat.div_le_self _ _
  rw [pk_shr _ _ k hs, nI_toInt h, nI_toInt (by omega), Int.shiftRight_eq_div_pow]
  rfl
theorem pk_ushr (x s : Int32) (k : Nat) (hs : ((s.toUInt32 &&& Int32.toUInt32 31).toBitVec % 32).toNat = k) : (x.toUInt32 >>> (s.toUInt32 &&& Int32.toUInt32 31)).toInt32.toBitVec.toNat = x.toBitVec.toNat / 2 ^ k := by
  have e : (x.toUInt32 >>> (s.toUInt32 &&& Int32.toUInt32 31)).toInt32.toBitVec = x.toBitVec >>> k := by
    rw [← hs]
    exact UInt32.toBitVec_shiftRight _ _
  rw [e, BitVec.toNat_ushiftRight, Nat.shiftRight_eq_div_pow]
theorem pk_ushrN {n : Nat} (hn : n < 2 ^ 32) (s : Int32) (k : Nat) (hs : ((s.toUInt32 &&& Int32.toUInt32 31).toBitVec % 32).toNat = k) : ((nI n).toUInt32 >>> (s.toUInt32 &&& Int32.toUInt32 31)).toInt32 = nI (n / 2 ^ k) := by
  apply Int32.toBitVec_inj.mp
  apply BitVec.eq_of_toNat_eq
  rw [pk_ushr _ s k hs, pk_tn hn, pk_tn (Nat.lt_of_le_of_lt (Nat.div_le_self _ _) hn)]
theorem pk_nb (z : Int32) : narrow .byte (.int z.toInt8.toInt32) = .int z.toInt8.toInt32 := congrArg Value.int (by simp)
theorem pk_ns (z : Int32) : narrow .short (.int z.toInt16.toInt32) = .int z.toInt16.toInt32 := congrArg Value.int (by simp)
theorem pk_fb (r : Int32) : fits .byte (.int r.toInt8.toInt32) = true := by
  have ⟨a, b⟩ := lg_i2b_range r
  have h1 : (-128 : Int32).toInt = -128 := by decide
  have h2 : (127 : Int32).toInt = 127 := by decide
  simp only [fits, Bool.and_eq_true, decide_eq_true_eq, Int32.le_iff_toInt_le, h1, h2]
  omega
theorem pk_fs (r : Int32) : fits .short (.int r.toInt16.toInt32) = true := by
  have ⟨a, b⟩ := lg_i2s_range r
  have h1 : (-32768 : Int32).toInt = -32768 := by decide
  have h2 : (32767 : Int32).toInt = 32767 := by decide
  simp only [fits, Bool.and_eq_true, decide_eq_true_eq, Int32.le_iff_toInt_le, h1, h2]
  omega
theorem pk_charN {q : Nat} (hq : q < 65536) : narrow .char (.int (nI q)) = .int (nI q) ∧ fits .char (.int (nI q)) = true := by
  constructor
  · have e : (nI q).toUInt32.toUInt16.toUInt32.toInt32 = nI q := by
      apply Int32.toBitVec_inj.mp
      apply BitVec.eq_of_toNat_eq
      show (nI q).toUInt32.toUInt16.toUInt32.toNat = q % 2 ^ 32
      rw [UInt16.toNat_toUInt32, UInt32.toNat_toUInt16, show (nI q).toUInt32.toNat = q % 2 ^ 32 from rfl]
      omega
    exact congrArg Value.int e
  · have a : (0 : Int32) ≤ nI q := nI_pos' (by omega)
    have b : nI q ≤ 65535 := nI_le (b := 65535) (by omega) (by decide)
    show (decide ((0 : Int32) ≤ nI q) && decide (nI q ≤ 65535)) = true
    rw [decide_eq_true a, decide_eq_true b]
    rfl
theorem pk_char (x : Int32) : (x.toUInt32 % 65536).toInt32 = nI (x.toBitVec.toNat % 65536) := by
  apply Int32.toBitVec_inj.mp
  apply BitVec.eq_of_toNat_eq
  rw [pk_tn (by omega)]
  show (x.toUInt32 % 65536).toNat = _
  rw [UInt32.toNat_mod]
  rfl
theorem pk_nc (x : Int32) : narrow .char (.int (x.toUInt32 % 65536).toInt32) = .int (x.toUInt32 % 65536).toInt32 := by
  rw [pk_char]
  exact (pk_charN (Nat.mod_lt _ (by decide))).1
theorem pk_fc (x : Int32) : fits .char (.int (x.toUInt32 % 65536).toInt32) = true := by
  rw [pk_char]
  exact (pk_charN (Nat.mod_lt _ (by decide))).2
theorem pk_vb (z : Int32) : vp_nar .byte z.toInt8.toInt32 = z.toInt8.toInt32 := by rw [vp_nar_byte]; simp
theorem pk_vs (z : Int32) : vp_nar .short z.toInt16.toInt32 = z.toInt16.toInt32 := by rw [vp_nar_short]; simp
theorem pk_vc (z : Int32) : vp_nar .char (z.toUInt32 % 65536).toInt32 = (z.toUInt32 % 65536).toInt32 := Value.int.inj (pk_nc z)
theorem pk_lT {n : Nat} (h : n < 2 ^ 63) : (lN n).toInt = (n : Int) := lg_ofNat_toInt h
theorem pk_lLT {a b : Nat} (ha : a < 2 ^ 63) (hb : b < 2 ^ 63) : lN a < lN b ↔ a < b := by
  rw [Int64.lt_iff_toInt_lt, pk_lT ha, pk_lT hb]; omega
theorem pk_lLE {a b : Nat} (ha : a < 2 ^ 63) (hb : b < 2 ^ 63) : lN a ≤ lN b ↔ a ≤ b := by
  rw [Int64.le_iff_toInt_le, pk_lT ha, pk_lT hb]; omega
theorem pk_lEQ {a b : Nat} (ha : a < 2 ^ 63) (hb : b < 2 ^ 63) : lN a = lN b ↔ a = b := by
  rw [← Int64.toInt_inj, pk_lT ha, pk_lT hb]; omega
theorem pk_lOf {x : Int64} (h : ¬ x < 0) : ∃ k : Nat, k < 2 ^ 63 ∧ x = lN k := by
  rw [Int64.lt_iff_toInt_lt] at h
  have h0 : (0 : Int64).toInt = 0 := by decide
  have hx := Int64.toInt_lt x
  refine ⟨x.toInt.toNat, by omega, Int64.toInt_inj.mp ?_⟩
  rw [pk_lT (by omega)]
  omega
theorem pk_lDiv {a b : Nat} (ha : a < 2 ^ 63) (h0 : 0 < b) (hb : b < 2 ^ 63) : lN a / lN b = lN (a / b) := by
  apply Int64.toInt_inj.mp
  rw [lg_ldiv_nonneg (by rw [pk_lT ha]; omega) (by rw [pk_lT hb]; omega), pk_lT ha, pk_lT hb, pk_lT (Nat.lt_of_le_of_lt (Nat.div_le_self a b) ha)]
  rfl
theorem pk_lRem {a b : Nat} (ha : a < 2 ^ 63) (h0 : 0 < b) (hb : b < 2 ^ 63) : lN a - lN a / lN b * lN b = lN (a % b) := by
  rw [pk_lDiv ha h0 hb, lN_mul, lN_sub (Nat.div_mul_le_self a b)]
  exact congrArg lN (by have := Nat.div_add_mod' a b; omega)
theorem pk_loop {σ : Type} (W : Nat → Nat → σ → Prop) (I : Nat → σ → Prop) (e i0 : Nat) (s : σ) (hi : i0 ≤ e) (h0 : I i0 s) (hx : ∀ n s, I e s → W (n + 1) e s)
    (hs : ∀ n i s, i < e → I i s → (∀ s', I (i + 1) s' → W n (i + 1) s') → W (n + 1) i s) : ∃ n, W n i0 s :=
  ⟨e + 1, loop_i W I e hx hs (e + 1) i0 s hi (by omega) h0⟩
theorem pk_loopD {σ : Type} (W : Nat → Nat → σ → Prop) (I : Nat → σ → Prop) (hx : ∀ n s, I 0 s → W (n + 1) 0 s)
    (hs : ∀ n i s, I (i + 1) s → (∀ s', I i s' → W n i s') → W (n + 1) (i + 1) s) : ∀ (e : Nat) (s : σ), I e s → W (e + 1) e s := by
  intro e
  induction e with
  | zero => exact fun s h => hx 0 s h
  | succ e ih => exact fun s h => hs (e + 1) e s h (fun s' h' => ih s' h')
theorem lp1 {A1 : Type} (W : Nat → A1 → Prop) (I : A1 → Prop) (μ : A1 → Nat) (hs : ∀ (n : Nat) (a1 : A1), I a1 → (∀ (b1 : A1), I b1 → μ b1 < μ a1 → W n b1) → W (n + 1) a1) (a1 : A1) (h : I a1) : ∃ n, W n a1 :=
  loop_m (σ := A1) (fun n s => W n s) (fun s => I s) (fun s => μ s) (fun n s hI hk => hs n s hI (fun b1 h9 hm => hk b1 h9 hm)) a1 h
theorem lp2 {A1 A2 : Type} (W : Nat → A1 → A2 → Prop) (I : A1 → A2 → Prop) (μ : A1 → A2 → Nat) (hs : ∀ (n : Nat) (a1 : A1) (a2 : A2), I a1 a2 → (∀ (b1 : A1) (b2 : A2), I b1 b2 → μ b1 b2 < μ a1 a2 → W n b1 b2) → W (n + 1) a1 a2) (a1 : A1) (a2 : A2) (h : I a1 a2) : ∃ n, W n a1 a2 :=
  loop_m (σ := A1 × A2) (fun n s => W n s.1 s.2) (fun s => I s.1 s.2) (fun s => μ s.1 s.2) (fun n s hI hk => hs n s.1 s.2 hI (fun b1 b2 h9 hm => hk (b1, b2) h9 hm)) (a1, a2) h
theorem lp3 {A1 A2 A3 : Type} (W : Nat → A1 → A2 → A3 → Prop) (I : A1 → A2 → A3 → Prop) (μ : A1 → A2 → A3 → Nat) (hs : ∀ (n : Nat) (a1 : A1) (a2 : A2) (a3 : A3), I a1 a2 a3 → (∀ (b1 : A1) (b2 : A2) (b3 : A3), I b1 b2 b3 → μ b1 b2 b3 < μ a1 a2 a3 → W n b1 b2 b3) → W (n + 1) a1 a2 a3) (a1 : A1) (a2 : A2) (a3 : A3) (h : I a1 a2 a3) : ∃ n, W n a1 a2 a3 :=
  loop_m (σ := A1 × A2 × A3) (fun n s => W n s.1 s.2.1 s.2.2) (fun s => I s.1 s.2.1 s.2.2) (fun s => μ s.1 s.2.1 s.2.2) (fun n s hI hk => hs n s.1 s.2.1 s.2.2 hI (fun b1 b2 b3 h9 hm => hk (b1, b2, b3) h9 hm)) (a1, a2, a3) h
theorem lp4 {A1 A2 A3 A4 : Type} (W : Nat → A1 → A2 → A3 → A4 → Prop) (I : A1 → A2 → A3 → A4 → Prop) (μ : A1 → A2 → A3 → A4 → Nat) (hs : ∀ (n : Nat) (a1 : A1) (a2 : A2) (a3 : A3) (a4 : A4), I a1 a2 a3 a4 → (∀ (b1 : A1) (b2 : A2) (b3 : A3) (b4 : A4), I b1 b2 b3 b4 → μ b1 b2 b3 b4 < μ a1 a2 a3 a4 → W n b1 b2 b3 b4) → W (n + 1) a1 a2 a3 a4) (a1 : A1) (a2 : A2) (a3 : A3) (a4 : A4) (h : I a1 a2 a3 a4) : ∃ n, W n a1 a2 a3 a4 :=
  loop_m (σ := A1 × A2 × A3 × A4) (fun n s => W n s.1 s.2.1 s.2.2.1 s.2.2.2) (fun s => I s.1 s.2.1 s.2.2.1 s.2.2.2) (fun s => μ s.1 s.2.1 s.2.2.1 s.2.2.2) (fun n s hI hk => hs n s.1 s.2.1 s.2.2.1 s.2.2.2 hI (fun b1 b2 b3 b4 h9 hm => hk (b1, b2, b3, b4) h9 hm)) (a1, a2, a3, a4) h
theorem lp5 {A1 A2 A3 A4 A5 : Type} (W : Nat → A1 → A2 → A3 → A4 → A5 → Prop) (I : A1 → A2 → A3 → A4 → A5 → Prop) (μ : A1 → A2 → A3 → A4 → A5 → Nat) (hs : ∀ (n : Nat) (a1 : A1) (a2 : A2) (a3 : A3) (a4 : A4) (a5 : A5), I a1 a2 a3 a4 a5 → (∀ (b1 : A1) (b2 : A2) (b3 : A3) (b4 : A4) (b5 : A5), I b1 b2 b3 b4 b5 → μ b1 b2 b3 b4 b5 < μ a1 a2 a3 a4 a5 → W n b1 b2 b3 b4 b5) → W (n + 1) a1 a2 a3 a4 a5) (a1 : A1) (a2 : A2) (a3 : A3) (a4 : A4) (a5 : A5) (h : I a1 a2 a3 a4 a5) : ∃ n, W n a1 a2 a3 a4 a5 :=
  loop_m (σ := A1 × A2 × A3 × A4 × A5) (fun n s => W n s.1 s.2.1 s.2.2.1 s.2.2.2.1 s.2.2.2.2) (fun s => I s.1 s.2.1 s.2.2.1 s.2.2.2.1 s.2.2.2.2) (fun s => μ s.1 s.2.1 s.2.2.1 s.2.2.2.1 s.2.2.2.2) (fun n s hI hk => hs n s.1 s.2.1 s.2.2.1 s.2.2.2.1 s.2.2.2.2 hI (fun b1 b2 b3 b4 b5 h9 hm => hk (b1, b2, b3, b4, b5) h9 hm)) (a1, a2, a3, a4, a5) h
theorem lp6 {A1 A2 A3 A4 A5 A6 : Type} (W : Nat → A1 → A2 → A3 → A4 → A5 → A6 → Prop) (I : A1 → A2 → A3 → A4 → A5 → A6 → Prop) (μ : A1 → A2 → A3 → A4 → A5 → A6 → Nat) (hs : ∀ (n : Nat) (a1 : A1) (a2 : A2) (a3 : A3) (a4 : A4) (a5 : A5) (a6 : A6), I a1 a2 a3 a4 a5 a6 → (∀ (b1 : A1) (b2 : A2) (b3 : A3) (b4 : A4) (b5 : A5) (b6 : A6), I b1 b2 b3 b4 b5 b6 → μ b1 b2 b3 b4 b5 b6 < μ a1 a2 a3 a4 a5 a6 → W n b1 b2 b3 b4 b5 b6) → W (n + 1) a1 a2 a3 a4 a5 a6) (a1 : A1) (a2 : A2) (a3 : A3) (a4 : A4) (a5 : A5) (a6 : A6) (h : I a1 a2 a3 a4 a5 a6) : ∃ n, W n a1 a2 a3 a4 a5 a6 :=
  loop_m (σ := A1 × A2 × A3 × A4 × A5 × A6) (fun n s => W n s.1 s.2.1 s.2.2.1 s.2.2.2.1 s.2.2.2.2.1 s.2.2.2.2.2) (fun s => I s.1 s.2.1 s.2.2.1 s.2.2.2.1 s.2.2.2.2.1 s.2.2.2.2.2) (fun s => μ s.1 s.2.1 s.2.2.1 s.2.2.2.1 s.2.2.2.2.1 s.2.2.2.2.2) (fun n s hI hk => hs n s.1 s.2.1 s.2.2.1 s.2.2.2.1 s.2.2.2.2.1 s.2.2.2.2.2 hI (fun b1 b2 b3 b4 b5 b6 h9 hm => hk (b1, b2, b3, b4, b5, b6) h9 hm)) (a1, a2, a3, a4, a5, a6) h
theorem lp7 {A1 A2 A3 A4 A5 A6 A7 : Type} (W : Nat → A1 → A2 → A3 → A4 → A5 → A6 → A7 → Prop) (I : A1 → A2 → A3 → A4 → A5 → A6 → A7 → Prop) (μ : A1 → A2 → A3 → A4 → A5 → A6 → A7 → Nat) (hs : ∀ (n : Nat) (a1 : A1) (a2 : A2) (a3 : A3) (a4 : A4) (a5 : A5) (a6 : A6) (a7 : A7), I a1 a2 a3 a4 a5 a6 a7 → (∀ (b1 : A1) (b2 : A2) (b3 : A3) (b4 : A4) (b5 : A5) (b6 : A6) (b7 : A7), I b1 b2 b3 b4 b5 b6 b7 → μ b1 b2 b3 b4 b5 b6 b7 < μ a1 a2 a3 a4 a5 a6 a7 → W n b1 b2 b3 b4 b5 b6 b7) → W (n + 1) a1 a2 a3 a4 a5 a6 a7) (a1 : A1) (a2 : A2) (a3 : A3) (a4 : A4) (a5 : A5) (a6 : A6) (a7 : A7) (h : I a1 a2 a3 a4 a5 a6 a7) : ∃ n, W n a1 a2 a3 a4 a5 a6 a7 :=
  loop_m (σ := A1 × A2 × A3 × A4 × A5 × A6 × A7) (fun n s => W n s.1 s.2.1 s.2.2.1 s.2.2.2.1 s.2.2.2.2.1 s.2.2.2.2.2.1 s.2.2.2.2.2.2) (fun s => I s.1 s.2.1 s.2.2.1 s.2.2.2.1 s.2.2.2.2.1 s.2.2.2.2.2.1 s.2.2.2.2.2.2) (fun s => μ s.1 s.2.1 s.2.2.1 s.2.2.2.1 s.2.2.2.2.1 s.2.2.2.2.2.1 s.2.2.2.2.2.2) (fun n s hI hk => hs n s.1 s.2.1 s.2.2.1 s.2.2.2.1 s.2.2.2.2.1 s.2.2.2.2.2.1 s.2.2.2.2.2.2 hI (fun b1 b2 b3 b4 b5 b6 b7 h9 hm => hk (b1, b2, b3, b4, b5, b6, b7) h9 hm)) (a1, a2, a3, a4, a5, a6, a7) h
theorem lp8 {A1 A2 A3 A4 A5 A6 A7 A8 : Type} (W : Nat → A1 → A2 → A3 → A4 → A5 → A6 → A7 → A8 → Prop) (I : A1 → A2 → A3 → A4 → A5 → A6 → A7 → A8 → Prop) (μ : A1 → A2 → A3 → A4 → A5 → A6 → A7 → A8 → Nat) (hs : ∀ (n : Nat) (a1 : A1) (a2 : A2) (a3 : A3) (a4 : A4) (a5 : A5) (a6 : A6) (a7 : A7) (a8 : A8), I a1 a2 a3 a4 a5 a6 a7 a8 → (∀ (b1 : A1) (b2 : A2) (b3 : A3) (b4 : A4) (b5 : A5) (b6 : A6) (b7 : A7) (b8 : A8), I b1 b2 b3 b4 b5 b6 b7 b8 → μ b1 b2 b3 b4 b5 b6 b7 b8 < μ a1 a2 a3 a4 a5 a6 a7 a8 → W n b1 b2 b3 b4 b5 b6 b7 b8) → W (n + 1) a1 a2 a3 a4 a5 a6 a7 a8) (a1 : A1) (a2 : A2) (a3 : A3) (a4 : A4) (a5 : A5) (a6 : A6) (a7 : A7) (a8 : A8) (h : I a1 a2 a3 a4 a5 a6 a7 a8) : ∃ n, W n a1 a2 a3 a4 a5 a6 a7 a8 :=
  loop_m (σ := A1 × A2 × A3 × A4 × A5 × A6 × A7 × A8) (fun n s => W n s.1 s.2.1 s.2.2.1 s.2.2.2.1 s.2.2.2.2.1 s.2.2.2.2.2.1 s.2.2.2.2.2.2.1 s.2.2.2.2.2.2.2) (fun s => I s.1 s.2.1 s.2.2.1 s.2.2.2.1 s.2.2.2.2.1 s.2.2.2.2.2.1 s.2.2.2.2.2.2.1 s.2.2.2.2.2.2.2) (fun s => μ s.1 s.2.1 s.2.2.1 s.2.2.2.1 s.2.2.2.2.1 s.2.2.2.2.2.1 s.2.2.2.2.2.2.1 s.2.2.2.2.2.2.2) (fun n s hI hk => hs n s.1 s.2.1 s.2.2.1 s.2.2.2.1 s.2.2.2.2.1 s.2.2.2.2.2.1 s.2.2.2.2.2.2.1 s.2.2.2.2.2.2.2 hI (fun b1 b2 b3 b4 b5 b6 b7 b8 h9 hm => hk (b1, b2, b3, b4, b5, b6, b7, b8) h9 hm)) (a1, a2, a3, a4, a5, a6, a7, a8) h
theorem lp9 {A1 A2 A3 A4 A5 A6 A7 A8 A9 : Type} (W : Nat → A1 → A2 → A3 → A4 → A5 → A6 → A7 → A8 → A9 → Prop) (I : A1 → A2 → A3 → A4 → A5 → A6 → A7 → A8 → A9 → Prop) (μ : A1 → A2 → A3 → A4 → A5 → A6 → A7 → A8 → A9 → Nat) (hs : ∀ (n : Nat) (a1 : A1) (a2 : A2) (a3 : A3) (a4 : A4) (a5 : A5) (a6 : A6) (a7 : A7) (a8 : A8) (a9 : A9), I a1 a2 a3 a4 a5 a6 a7 a8 a9 → (∀ (b1 : A1) (b2 : A2) (b3 : A3) (b4 : A4) (b5 : A5) (b6 : A6) (b7 : A7) (b8 : A8) (b9 : A9), I b1 b2 b3 b4 b5 b6 b7 b8 b9 → μ b1 b2 b3 b4 b5 b6 b7 b8 b9 < μ a1 a2 a3 a4 a5 a6 a7 a8 a9 → W n b1 b2 b3 b4 b5 b6 b7 b8 b9) → W (n + 1) a1 a2 a3 a4 a5 a6 a7 a8 a9) (a1 : A1) (a2 : A2) (a3 : A3) (a4 : A4) (a5 : A5) (a6 : A6) (a7 : A7) (a8 : A8) (a9 : A9) (h : I a1 a2 a3 a4 a5 a6 a7 a8 a9) : ∃ n, W n a1 a2 a3 a4 a5 a6 a7 a8 a9 :=
  loop_m (σ := A1 × A2 × A3 × A4 × A5 × A6 × A7 × A8 × A9) (fun n s => W n s.1 s.2.1 s.2.2.1 s.2.2.2.1 s.2.2.2.2.1 s.2.2.2.2.2.1 s.2.2.2.2.2.2.1 s.2.2.2.2.2.2.2.1 s.2.2.2.2.2.2.2.2) (fun s => I s.1 s.2.1 s.2.2.1 s.2.2.2.1 s.2.2.2.2.1 s.2.2.2.2.2.1 s.2.2.2.2.2.2.1 s.2.2.2.2.2.2.2.1 s.2.2.2.2.2.2.2.2) (fun s => μ s.1 s.2.1 s.2.2.1 s.2.2.2.1 s.2.2.2.2.1 s.2.2.2.2.2.1 s.2.2.2.2.2.2.1 s.2.2.2.2.2.2.2.1 s.2.2.2.2.2.2.2.2) (fun n s hI hk => hs n s.1 s.2.1 s.2.2.1 s.2.2.2.1 s.2.2.2.2.1 s.2.2.2.2.2.1 s.2.2.2.2.2.2.1 s.2.2.2.2.2.2.2.1 s.2.2.2.2.2.2.2.2 hI (fun b1 b2 b3 b4 b5 b6 b7 b8 b9 h9 hm => hk (b1, b2, b3, b4, b5, b6, b7, b8, b9) h9 hm)) (a1, a2, a3, a4, a5, a6, a7, a8, a9) h
theorem lp10 {A1 A2 A3 A4 A5 A6 A7 A8 A9 A10 : Type} (W : Nat → A1 → A2 → A3 → A4 → A5 → A6 → A7 → A8 → A9 → A10 → Prop) (I : A1 → A2 → A3 → A4 → A5 → A6 → A7 → A8 → A9 → A10 → Prop) (μ : A1 → A2 → A3 → A4 → A5 → A6 → A7 → A8 → A9 → A10 → Nat) (hs : ∀ (n : Nat) (a1 : A1) (a2 : A2) (a3 : A3) (a4 : A4) (a5 : A5) (a6 : A6) (a7 : A7) (a8 : A8) (a9 : A9) (a10 : A10), I a1 a2 a3 a4 a5 a6 a7 a8 a9 a10 → (∀ (b1 : A1) (b2 : A2) (b3 : A3) (b4 : A4) (b5 : A5) (b6 : A6) (b7 : A7) (b8 : A8) (b9 : A9) (b10 : A10), I b1 b2 b3 b4 b5 b6 b7 b8 b9 b10 → μ b1 b2 b3 b4 b5 b6 b7 b8 b9 b10 < μ a1 a2 a3 a4 a5 a6 a7 a8 a9 a10 → W n b1 b2 b3 b4 b5 b6 b7 b8 b9 b10) → W (n + 1) a1 a2 a3 a4 a5 a6 a7 a8 a9 a10) (a1 : A1) (a2 : A2) (a3 : A3) (a4 : A4) (a5 : A5) (a6 : A6) (a7 : A7) (a8 : A8) (a9 : A9) (a10 : A10) (h : I a1 a2 a3 a4 a5 a6 a7 a8 a9 a10) : ∃ n, W n a1 a2 a3 a4 a5 a6 a7 a8 a9 a10 :=
  loop_m (σ := A1 × A2 × A3 × A4 × A5 × A6 × A7 × A8 × A9 × A10) (fun n s => W n s.1 s.2.1 s.2.2.1 s.2.2.2.1 s.2.2.2.2.1 s.2.2.2.2.2.1 s.2.2.2.2.2.2.1 s.2.2.2.2.2.2.2.1 s.2.2.2.2.2.2.2.2.1 s.2.2.2.2.2.2.2.2.2) (fun s => I s.1 s.2.1 s.2.2.1 s.2.2.2.1 s.2.2.2.2.1 s.2.2.2.2.2.1 s.2.2.2.2.2.2.1 s.2.2.2.2.2.2.2.1 s.2.2.2.2.2.2.2.2.1 s.2.2.2.2.2.2.2.2.2) (fun s => μ s.1 s.2.1 s.2.2.1 s.2.2.2.1 s.2.2.2.2.1 s.2.2.2.2.2.1 s.2.2.2.2.2.2.1 s.2.2.2.2.2.2.2.1 s.2.2.2.2.2.2.2.2.1 s.2.2.2.2.2.2.2.2.2) (fun n s hI hk => hs n s.1 s.2.1 s.2.2.1 s.2.2.2.1 s.2.2.2.2.1 s.2.2.2.2.2.1 s.2.2.2.2.2.2.1 s.2.2.2.2.2.2.2.1 s.2.2.2.2.2.2.2.2.1 s.2.2.2.2.2.2.2.2.2 hI (fun b1 b2 b3 b4 b5 b6 b7 b8 b9 b10 h9 hm => hk (b1, b2, b3, b4, b5, b6, b7, b8, b9, b10) h9 hm)) (a1, a2, a3, a4, a5, a6, a7, a8, a9, a10) h
theorem lp11 {A1 A2 A3 A4 A5 A6 A7 A8 A9 A10 A11 : Type} (W : Nat → A1 → A2 → A3 → A4 → A5 → A6 → A7 → A8 → A9 → A10 → A11 → Prop) (I : A1 → A2 → A3 → A4 → A5 → A6 → A7 → A8 → A9 → A10 → A11 → Prop) (μ : A1 → A2 → A3 → A4 → A5 → A6 → A7 → A8 → A9 → A10 → A11 → Nat) (hs : ∀ (n : Nat) (a1 : A1) (a2 : A2) (a3 : A3) (a4 : A4) (a5 : A5) (a6 : A6) (a7 : A7) (a8 : A8) (a9 : A9) (a10 : A10) (a11 : A11), I a1 a2 a3 a4 a5 a6 a7 a8 a9 a10 a11 → (∀ (b1 : A1) (b2 : A2) (b3 : A3) (b4 : A4) (b5 : A5) (b6 : A6) (b7 : A7) (b8 : A8) (b9 : A9) (b10 : A10) (b11 : A11), I b1 b2 b3 b4 b5 b6 b7 b8 b9 b10 b11 → μ b1 b2 b3 b4 b5 b6 b7 b8 b9 b10 b11 < μ a1 a2 a3 a4 a5 a6 a7 a8 a9 a10 a11 → W n b1 b2 b3 b4 b5 b6 b7 b8 b9 b10 b11) → W (n + 1) a1 a2 a3 a4 a5 a6 a7 a8 a9 a10 a11) (a1 : A1) (a2 : A2) (a3 : A3) (a4 : A4) (a5 : A5) (a6 : A6) (a7 : A7) (a8 : A8) (a9 : A9) (a10 : A10) (a11 : A11) (h : I a1 a2 a3 a4 a5 a6 a7 a8 a9 a10 a11) : ∃ n, W n a1 a2 a3 a4 a5 a6 a7 a8 a9 a10 a11 :=
  loop_m (σ := A1 × A2 × A3 × A4 × A5 × A6 × A7 × A8 × A9 × A10 × A11) (fun n s => W n s.1 s.2.1 s.2.2.1 s.2.2.2.1 s.2.2.2.2.1 s.2.2.2.2.2.1 s.2.2.2.2.2.2.1 s.2.2.2.2.2.2.2.1 s.2.2.2.2.2.2.2.2.1 s.2.2.2.2.2.2.2.2.2.1 s.2.2.2.2.2.2.2.2.2.2) (fun s => I s.1 s.2.1 s.2.2.1 s.2.2.2.1 s.2.2.2.2.1 s.2.2.2.2.2.1 s.2.2.2.2.2.2.1 s.2.2.2.2.2.2.2.1 s.2.2.2.2.2.2.2.2.1 s.2.2.2.2.2.2.2.2.2.1 s.2.2.2.2.2.2.2.2.2.2) (fun s => μ s.1 s.2.1 s.2.2.1 s.2.2.2.1 s.2.2.2.2.1 s.2.2.2.2.2.1 s.2.2.2.2.2.2.1 s.2.2.2.2.2.2.2.1 s.2.2.2.2.2.2.2.2.1 s.2.2.2.2.2.2.2.2.2.1 s.2.2.2.2.2.2.2.2.2.2) (fun n s hI hk => hs n s.1 s.2.1 s.2.2.1 s.2.2.2.1 s.2.2.2.2.1 s.2.2.2.2.2.1 s.2.2.2.2.2.2.1 s.2.2.2.2.2.2.2.1 s.2.2.2.2.2.2.2.2.1 s.2.2.2.2.2.2.2.2.2.1 s.2.2.2.2.2.2.2.2.2.2 hI (fun b1 b2 b3 b4 b5 b6 b7 b8 b9 b10 b11 h9 hm => hk (b1, b2, b3, b4, b5, b6, b7, b8, b9, b10, b11) h9 hm)) (a1, a2, a3, a4, a5, a6, a7, a8, a9, a10, a11) h
theorem lp12 {A1 A2 A3 A4 A5 A6 A7 A8 A9 A10 A11 A12 : Type} (W : Nat → A1 → A2 → A3 → A4 → A5 → A6 → A7 → A8 → A9 → A10 → A11 → A12 → Prop) (I : A1 → A2 → A3 → A4 → A5 → A6 → A7 → A8 → A9 → A10 → A11 → A12 → Prop) (μ : A1 → A2 → A3 → A4 → A5 → A6 → A7 → A8 → A9 → A10 → A11 → A12 → Nat) (hs : ∀ (n : Nat) (a1 : A1) (a2 : A2) (a3 : A3) (a4 : A4) (a5 : A5) (a6 : A6) (a7 : A7) (a8 : A8) (a9 : A9) (a10 : A10) (a11 : A11) (a12 : A12), I a1 a2 a3 a4 a5 a6 a7 a8 a9 a10 a11 a12 → (∀ (b1 : A1) (b2 : A2) (b3 : A3) (b4 : A4) (b5 : A5) (b6 : A6) (b7 : A7) (b8 : A8) (b9 : A9) (b10 : A10) (b11 : A11) (b12 : A12), I b1 b2 b3 b4 b5 b6 b7 b8 b9 b10 b11 b12 → μ b1 b2 b3 b4 b5 b6 b7 b8 b9 b10 b11 b12 < μ a1 a2 a3 a4 a5 a6 a7 a8 a9 a10 a11 a12 → W n b1 b2 b3 b4 b5 b6 b7 b8 b9 b10 b11 b12) → W (n + 1) a1 a2 a3 a4 a5 a6 a7 a8 a9 a10 a11 a12) (a1 : A1) (a2 : A2) (a3 : A3) (a4 : A4) (a5 : A5) (a6 : A6) (a7 : A7) (a8 : A8) (a9 : A9) (a10 : A10) (a11 : A11) (a12 : A12) (h : I a1 a2 a3 a4 a5 a6 a7 a8 a9 a10 a11 a12) : ∃ n, W n a1 a2 a3 a4 a5 a6 a7 a8 a9 a10 a11 a12 :=
  loop_m (σ := A1 × A2 × A3 × A4 × A5 × A6 × A7 × A8 × A9 × A10 × A11 × A12) (fun n s => W n s.1 s.2.1 s.2.2.1 s.2.2.2.1 s.2.2.2.2.1 s.2.2.2.2.2.1 s.2.2.2.2.2.2.1 s.2.2.2.2.2.2.2.1 s.2.2.2.2.2.2.2.2.1 s.2.2.2.2.2.2.2.2.2.1 s.2.2.2.2.2.2.2.2.2.2.1 s.2.2.2.2.2.2.2.2.2.2.2) (fun s => I s.1 s.2.1 s.2.2.1 s.2.2.2.1 s.2.2.2.2.1 s.2.2.2.2.2.1 s.2.2.2.2.2.2.1 s.2.2.2.2.2.2.2.1 s.2.2.2.2.2.2.2.2.1 s.2.2.2.2.2.2.2.2.2.1 s.2.2.2.2.2.2.2.2.2.2.1 s.2.2.2.2.2.2.2.2.2.2.2) (fun s => μ s.1 s.2.1 s.2.2.1 s.2.2.2.1 s.2.2.2.2.1 s.2.2.2.2.2.1 s.2.2.2.2.2.2.1 s.2.2.2.2.2.2.2.1 s.2.2.2.2.2.2.2.2.1 s.2.2.2.2.2.2.2.2.2.1 s.2.2.2.2.2.2.2.2.2.2.1 s.2.2.2.2.2.2.2.2.2.2.2) (fun n s hI hk => hs n s.1 s.2.1 s.2.2.1 s.2.2.2.1 s.2.2.2.2.1 s.2.2.2.2.2.1 s.2.2.2.2.2.2.1 s.2.2.2.2.2.2.2.1 s.2.2.2.2.2.2.2.2.1 s.2.2.2.2.2.2.2.2.2.1 s.2.2.2.2.2.2.2.2.2.2.1 s.2.2.2.2.2.2.2.2.2.2.2 hI (fun b1 b2 b3 b4 b5 b6 b7 b8 b9 b10 b11 b12 h9 hm => hk (b1, b2, b3, b4, b5, b6, b7, b8, b9, b10, b11, b12) h9 hm)) (a1, a2, a3, a4, a5, a6, a7, a8, a9, a10, a11, a12) h
theorem lp13 {A1 A2 A3 A4 A5 A6 A7 A8 A9 A10 A11 A12 A13 : Type} (W : Nat → A1 → A2 → A3 → A4 → A5 → A6 → A7 → A8 → A9 → A10 → A11 → A12 → A13 → Prop) (I : A1 → A2 → A3 → A4 → A5 → A6 → A7 → A8 → A9 → A10 → A11 → A12 → A13 → Prop) (μ : A1 → A2 → A3 → A4 → A5 → A6 → A7 → A8 → A9 → A10 → A11 → A12 → A13 → Nat) (hs : ∀ (n : Nat) (a1 : A1) (a2 : A2) (a3 : A3) (a4 : A4) (a5 : A5) (a6 : A6) (a7 : A7) (a8 : A8) (a9 : A9) (a10 : A10) (a11 : A11) (a12 : A12) (a13 : A13), I a1 a2 a3 a4 a5 a6 a7 a8 a9 a10 a11 a12 a13 → (∀ (b1 : A1) (b2 : A2) (b3 : A3) (b4 : A4) (b5 : A5) (b6 : A6) (b7 : A7) (b8 : A8) (b9 : A9) (b10 : A10) (b11 : A11) (b12 : A12) (b13 : A13), I b1 b2 b3 b4 b5 b6 b7 b8 b9 b10 b11 b12 b13 → μ b1 b2 b3 b4 b5 b6 b7 b8 b9 b10 b11 b12 b13 < μ a1 a2 a3 a4 a5 a6 a7 a8 a9 a10 a11 a12 a13 → W n b1 b2 b3 b4 b5 b6 b7 b8 b9 b10 b11 b12 b13) → W (n + 1) a1 a2 a3 a4 a5 a6 a7 a8 a9 a10 a11 a12 a13) (a1 : A1) (a2 : A2) (a3 : A3) (a4 : A4) (a5 : A5) (a6 : A6) (a7 : A7) (a8 : A8) (a9 : A9) (a10 : A10) (a11 : A11) (a12 : A12) (a13 : A13) (h : I a1 a2 a3 a4 a5 a6 a7 a8 a9 a10 a11 a12 a13) : ∃ n, W n a1 a2 a3 a4 a5 a6 a7 a8 a9 a10 a11 a12 a13 :=
  loop_m (σ := A1 × A2 × A3 × A4 × A5 × A6 × A7 × A8 × A9 × A10 × A11 × A12 × A13) (fun n s => W n s.1 s.2.1 s.2.2.1 s.2.2.2.1 s.2.2.2.2.1 s.2.2.2.2.2.1 s.2.2.2.2.2.2.1 s.2.2.2.2.2.2.2.1 s.2.2.2.2.2.2.2.2.1 s.2.2.2.2.2.2.2.2.2.1 s.2.2.2.2.2.2.2.2.2.2.1 s.2.2.2.2.2.2.2.2.2.2.2.1 s.2.2.2.2.2.2.2.2.2.2.2.2) (fun s => I s.1 s.2.1 s.2.2.1 s.2.2.2.1 s.2.2.2.2.1 s.2.2.2.2.2.1 s.2.2.2.2.2.2.1 s.2.2.2.2.2.2.2.1 s.2.2.2.2.2.2.2.2.1 s.2.2.2.2.2.2.2.2.2.1 s.2.2.2.2.2.2.2.2.2.2.1 s.2.2.2.2.2.2.2.2.2.2.2.1 s.2.2.2.2.2.2.2.2.2.2.2.2) (fun s => μ s.1 s.2.1 s.2.2.1 s.2.2.2.1 s.2.2.2.2.1 s.2.2.2.2.2.1 s.2.2.2.2.2.2.1 s.2.2.2.2.2.2.2.1 s.2.2.2.2.2.2.2.2.1 s.2.2.2.2.2.2.2.2.2.1 s.2.2.2.2.2.2.2.2.2.2.1 s.2.2.2.2.2.2.2.2.2.2.2.1 s.2.2.2.2.2.2.2.2.2.2.2.2) (fun n s hI hk => hs n s.1 s.2.1 s.2.2.1 s.2.2.2.1 s.2.2.2.2.1 s.2.2.2.2.2.1 s.2.2.2.2.2.2.1 s.2.2.2.2.2.2.2.1 s.2.2.2.2.2.2.2.2.1 s.2.2.2.2.2.2.2.2.2.1 s.2.2.2.2.2.2.2.2.2.2.1 s.2.2.2.2.2.2.2.2.2.2.2.1 s.2.2.2.2.2.2.2.2.2.2.2.2 hI (fun b1 b2 b3 b4 b5 b6 b7 b8 b9 b10 b11 b12 b13 h9 hm => hk (b1, b2, b3, b4, b5, b6, b7, b8, b9, b10, b11, b12, b13) h9 hm)) (a1, a2, a3, a4, a5, a6, a7, a8, a9, a10, a11, a12, a13) h
theorem lp14 {A1 A2 A3 A4 A5 A6 A7 A8 A9 A10 A11 A12 A13 A14 : Type} (W : Nat → A1 → A2 → A3 → A4 → A5 → A6 → A7 → A8 → A9 → A10 → A11 → A12 → A13 → A14 → Prop) (I : A1 → A2 → A3 → A4 → A5 → A6 → A7 → A8 → A9 → A10 → A11 → A12 → A13 → A14 → Prop) (μ : A1 → A2 → A3 → A4 → A5 → A6 → A7 → A8 → A9 → A10 → A11 → A12 → A13 → A14 → Nat) (hs : ∀ (n : Nat) (a1 : A1) (a2 : A2) (a3 : A3) (a4 : A4) (a5 : A5) (a6 : A6) (a7 : A7) (a8 : A8) (a9 : A9) (a10 : A10) (a11 : A11) (a12 : A12) (a13 : A13) (a14 : A14), I a1 a2 a3 a4 a5 a6 a7 a8 a9 a10 a11 a12 a13 a14 → (∀ (b1 : A1) (b2 : A2) (b3 : A3) (b4 : A4) (b5 : A5) (b6 : A6) (b7 : A7) (b8 : A8) (b9 : A9) (b10 : A10) (b11 : A11) (b12 : A12) (b13 : A13) (b14 : A14), I b1 b2 b3 b4 b5 b6 b7 b8 b9 b10 b11 b12 b13 b14 → μ b1 b2 b3 b4 b5 b6 b7 b8 b9 b10 b11 b12 b13 b14 < μ a1 a2 a3 a4 a5 a6 a7 a8 a9 a10 a11 a12 a13 a14 → W n b1 b2 b3 b4 b5 b6 b7 b8 b9 b10 b11 b12 b13 b14) → W (n + 1) a1 a2 a3 a4 a5 a6 a7 a8 a9 a10 a11 a12 a13 a14) (a1 : A1) (a2 : A2) (a3 : A3) (a4 : A4) (a5 : A5) (a6 : A6) (a7 : A7) (a8 : A8) (a9 : A9) (a10 : A10) (a11 : A11) (a12 : A12) (a13 : A13) (a14 : A14) (h : I a1 a2 a3 a4 a5 a6 a7 a8 a9 a10 a11 a12 a13 a14) : ∃ n, W n a1 a2 a3 a4 a5 a6 a7 a8 a9 a10 a11 a12 a13 a14 :=
  loop_m (σ := A1 × A2 × A3 × A4 × A5 × A6 × A7 × A8 × A9 × A10 × A11 × A12 × A13 × A14) (fun n s => W n s.1 s.2.1 s.2.2.1 s.2.2.2.1 s.2.2.2.2.1 s.2.2.2.2.2.1 s.2.2.2.2.2.2.1 s.2.2.2.2.2.2.2.1 s.2.2.2.2.2.2.2.2.1 s.2.2.2.2.2.2.2.2.2.1 s.2.2.2.2.2.2.2.2.2.2.1 s.2.2.2.2.2.2.2.2.2.2.2.1 s.2.2.2.2.2.2.2.2.2.2.2.2.1 s.2.2.2.2.2.2.2.2.2.2.2.2.2) (fun s => I s.1 s.2.1 s.2.2.1 s.2.2.2.1 s.2.2.2.2.1 s.2.2.2.2.2.1 s.2.2.2.2.2.2.1 s.2.2.2.2.2.2.2.1 s.2.2.2.2.2.2.2.2.1 s.2.2.2.2.2.2.2.2.2.1 s.2.2.2.2.2.2.2.2.2.2.1 s.2.2.2.2.2.2.2.2.2.2.2.1 s.2.2.2.2.2.2.2.2.2.2.2.2.1 s.2.2.2.2.2.2.2.2.2.2.2.2.2) (fun s => μ s.1 s.2.1 s.2.2.1 s.2.2.2.1 s.2.2.2.2.1 s.2.2.2.2.2.1 s.2.2.2.2.2.2.1 s.2.2.2.2.2.2.2.1 s.2.2.2.2.2.2.2.2.1 s.2.2.2.2.2.2.2.2.2.1 s.2.2.2.2.2.2.2.2.2.2.1 s.2.2.2.2.2.2.2.2.2.2.2.1 s.2.2.2.2.2.2.2.2.2.2.2.2.1 s.2.2.2.2.2.2.2.2.2.2.2.2.2) (fun n s hI hk => hs n s.1 s.2.1 s.2.2.1 s.2.2.2.1 s.2.2.2.2.1 s.2.2.2.2.2.1 s.2.2.2.2.2.2.1 s.2.2.2.2.2.2.2.1 s.2.2.2.2.2.2.2.2.1 s.2.2.2.2.2.2.2.2.2.1 s.2.2.2.2.2.2.2.2.2.2.1 s.2.2.2.2.2.2.2.2.2.2.2.1 s.2.2.2.2.2.2.2.2.2.2.2.2.1 s.2.2.2.2.2.2.2.2.2.2.2.2.2 hI (fun b1 b2 b3 b4 b5 b6 b7 b8 b9 b10 b11 b12 b13 b14 h9 hm => hk (b1, b2, b3, b4, b5, b6, b7, b8, b9, b10, b11, b12, b13, b14) h9 hm)) (a1, a2, a3, a4, a5, a6, a7, a8, a9, a10, a11, a12, a13, a14) h
theorem lp15 {A1 A2 A3 A4 A5 A6 A7 A8 A9 A10 A11 A12 A13 A14 A15 : Type} (W : Nat → A1 → A2 → A3 → A4 → A5 → A6 → A7 → A8 → A9 → A10 → A11 → A12 → A13 → A14 → A15 → Prop) (I : A1 → A2 → A3 → A4 → A5 → A6 → A7 → A8 → A9 → A10 → A11 → A12 → A13 → A14 → A15 → Prop) (μ : A1 → A2 → A3 → A4 → A5 → A6 → A7 → A8 → A9 → A10 → A11 → A12 → A13 → A14 → A15 → Nat) (hs : ∀ (n : Nat) (a1 : A1) (a2 : A2) (a3 : A3) (a4 : A4) (a5 : A5) (a6 : A6) (a7 : A7) (a8 : A8) (a9 : A9) (a10 : A10) (a11 : A11) (a12 : A12) (a13 : A13) (a14 : A14) (a15 : A15), I a1 a2 a3 a4 a5 a6 a7 a8 a9 a10 a11 a12 a13 a14 a15 → (∀ (b1 : A1) (b2 : A2) (b3 : A3) (b4 : A4) (b5 : A5) (b6 : A6) (b7 : A7) (b8 : A8) (b9 : A9) (b10 : A10) (b11 : A11) (b12 : A12) (b13 : A13) (b14 : A14) (b15 : A15), I b1 b2 b3 b4 b5 b6 b7 b8 b9 b10 b11 b12 b13 b14 b15 → μ b1 b2 b3 b4 b5 b6 b7 b8 b9 b10 b11 b12 b13 b14 b15 < μ a1 a2 a3 a4 a5 a6 a7 a8 a9 a10 a11 a12 a13 a14 a15 → W n b1 b2 b3 b4 b5 b6 b7 b8 b9 b10 b11 b12 b13 b14 b15) → W (n + 1) a1 a2 a3 a4 a5 a6 a7 a8 a9 a10 a11 a12 a13 a14 a15) (a1 : A1) (a2 : A2) (a3 : A3) (a4 : A4) (a5 : A5) (a6 : A6) (a7 : A7) (a8 : A8) (a9 : A9) (a10 : A10) (a11 : A11) (a12 : A12) (a13 : A13) (a14 : A14) (a15 : A15) (h : I a1 a2 a3 a4 a5 a6 a7 a8 a9 a10 a11 a12 a13 a14 a15) : ∃ n, W n a1 a2 a3 a4 a5 a6 a7 a8 a9 a10 a11 a12 a13 a14 a15 :=
  loop_m (σ := A1 × A2 × A3 × A4 × A5 × A6 × A7 × A8 × A9 × A10 × A11 × A12 × A13 × A14 × A15) (fun n s => W n s.1 s.2.1 s.2.2.1 s.2.2.2.1 s.2.2.2.2.1 s.2.2.2.2.2.1 s.2.2.2.2.2.2.1 s.2.2.2.2.2.2.2.1 s.2.2.2.2.2.2.2.2.1 s.2.2.2.2.2.2.2.2.2.1 s.2.2.2.2.2.2.2.2.2.2.1 s.2.2.2.2.2.2.2.2.2.2.2.1 s.2.2.2.2.2.2.2.2.2.2.2.2.1 s.2.2.2.2.2.2.2.2.2.2.2.2.2.1 s.2.2.2.2.2.2.2.2.2.2.2.2.2.2) (fun s => I s.1 s.2.1 s.2.2.1 s.2.2.2.1 s.2.2.2.2.1 s.2.2.2.2.2.1 s.2.2.2.2.2.2.1 s.2.2.2.2.2.2.2.1 s.2.2.2.2.2.2.2.2.1 s.2.2.2.2.2.2.2.2.2.1 s.2.2.2.2.2.2.2.2.2.2.1 s.2.2.2.2.2.2.2.2.2.2.2.1 s.2.2.2.2.2.2.2.2.2.2.2.2.1 s.2.2.2.2.2.2.2.2.2.2.2.2.2.1 s.2.2.2.2.2.2.2.2.2.2.2.2.2.2) (fun s => μ s.1 s.2.1 s.2.2.1 s.2.2.2.1 s.2.2.2.2.1 s.2.2.2.2.2.1 s.2.2.2.2.2.2.1 s.2.2.2.2.2.2.2.1 s.2.2.2.2.2.2.2.2.1 s.2.2.2.2.2.2.2.2.2.1 s.2.2.2.2.2.2.2.2.2.2.1 s.2.2.2.2.2.2.2.2.2.2.2.1 s.2.2.2.2.2.2.2.2.2.2.2.2.1 s.2.2.2.2.2.2.2.2.2.2.2.2.2.1 s.2.2.2.2.2.2.2.2.2.2.2.2.2.2) (fun n s hI hk => hs n s.1 s.2.1 s.2.2.1 s.2.2.2.1 s.2.2.2.2.1 s.2.2.2.2.2.1 s.2.2.2.2.2.2.1 s.2.2.2.2.2.2.2.1 s.2.2.2.2.2.2.2.2.1 s.2.2.2.2.2.2.2.2.2.1 s.2.2.2.2.2.2.2.2.2.2.1 s.2.2.2.2.2.2.2.2.2.2.2.1 s.2.2.2.2.2.2.2.2.2.2.2.2.1 s.2.2.2.2.2.2.2.2.2.2.2.2.2.1 s.2.2.2.2.2.2.2.2.2.2.2.2.2.2 hI (fun b1 b2 b3 b4 b5 b6 b7 b8 b9 b10 b11 b12 b13 b14 b15 h9 hm => hk (b1, b2, b3, b4, b5, b6, b7, b8, b9, b10, b11, b12, b13, b14, b15) h9 hm)) (a1, a2, a3, a4, a5, a6, a7, a8, a9, a10, a11, a12, a13, a14, a15) h
theorem lp16 {A1 A2 A3 A4 A5 A6 A7 A8 A9 A10 A11 A12 A13 A14 A15 A16 : Type} (W : Nat → A1 → A2 → A3 → A4 → A5 → A6 → A7 → A8 → A9 → A10 → A11 → A12 → A13 → A14 → A15 → A16 → Prop) (I : A1 → A2 → A3 → A4 → A5 → A6 → A7 → A8 → A9 → A10 → A11 → A12 → A13 → A14 → A15 → A16 → Prop) (μ : A1 → A2 → A3 → A4 → A5 → A6 → A7 → A8 → A9 → A10 → A11 → A12 → A13 → A14 → A15 → A16 → Nat) (hs : ∀ (n : Nat) (a1 : A1) (a2 : A2) (a3 : A3) (a4 : A4) (a5 : A5) (a6 : A6) (a7 : A7) (a8 : A8) (a9 : A9) (a10 : A10) (a11 : A11) (a12 : A12) (a13 : A13) (a14 : A14) (a15 : A15) (a16 : A16), I a1 a2 a3 a4 a5 a6 a7 a8 a9 a10 a11 a12 a13 a14 a15 a16 → (∀ (b1 : A1) (b2 : A2) (b3 : A3) (b4 : A4) (b5 : A5) (b6 : A6) (b7 : A7) (b8 : A8) (b9 : A9) (b10 : A10) (b11 : A11) (b12 : A12) (b13 : A13) (b14 : A14) (b15 : A15) (b16 : A16), I b1 b2 b3 b4 b5 b6 b7 b8 b9 b10 b11 b12 b13 b14 b15 b16 → μ b1 b2 b3 b4 b5 b6 b7 b8 b9 b10 b11 b12 b13 b14 b15 b16 < μ a1 a2 a3 a4 a5 a6 a7 a8 a9 a10 a11 a12 a13 a14 a15 a16 → W n b1 b2 b3 b4 b5 b6 b7 b8 b9 b10 b11 b12 b13 b14 b15 b16) → W (n + 1) a1 a2 a3 a4 a5 a6 a7 a8 a9 a10 a11 a12 a13 a14 a15 a16) (a1 : A1) (a2 : A2) (a3 : A3) (a4 : A4) (a5 : A5) (a6 : A6) (a7 : A7) (a8 : A8) (a9 : A9) (a10 : A10) (a11 : A11) (a12 : A12) (a13 : A13) (a14 : A14) (a15 : A15) (a16 : A16) (h : I a1 a2 a3 a4 a5 a6 a7 a8 a9 a10 a11 a12 a13 a14 a15 a16) : ∃ n, W n a1 a2 a3 a4 a5 a6 a7 a8 a9 a10 a11 a12 a13 a14 a15 a16 :=
  loop_m (σ := A1 × A2 × A3 × A4 × A5 × A6 × A7 × A8 × A9 × A10 × A11 × A12 × A13 × A14 × A15 × A16) (fun n s => W n s.1 s.2.1 s.2.2.1 s.2.2.2.1 s.2.2.2.2.1 s.2.2.2.2.2.1 s.2.2.2.2.2.2.1 s.2.2.2.2.2.2.2.1 s.2.2.2.2.2.2.2.2.1 s.2.2.2.2.2.2.2.2.2.1 s.2.2.2.2.2.2.2.2.2.2.1 s.2.2.2.2.2.2.2.2.2.2.2.1 s.2.2.2.2.2.2.2.2.2.2.2.2.1 s.2.2.2.2.2.2.2.2.2.2.2.2.2.1 s.2.2.2.2.2.2.2.2.2.2.2.2.2.2.1 s.2.2.2.2.2.2.2.2.2.2.2.2.2.2.2) (fun s => I s.1 s.2.1 s.2.2.1 s.2.2.2.1 s.2.2.2.2.1 s.2.2.2.2.2.1 s.2.2.2.2.2.2.1 s.2.2.2.2.2.2.2.1 s.2.2.2.2.2.2.2.2.1 s.2.2.2.2.2.2.2.2.2.1 s.2.2.2.2.2.2.2.2.2.2.1 s.2.2.2.2.2.2.2.2.2.2.2.1 s.2.2.2.2.2.2.2.2.2.2.2.2.1 s.2.2.2.2.2.2.2.2.2.2.2.2.2.1 s.2.2.2.2.2.2.2.2.2.2.2.2.2.2.1 s.2.2.2.2.2.2.2.2.2.2.2.2.2.2.2) (fun s => μ s.1 s.2.1 s.2.2.1 s.2.2.2.1 s.2.2.2.2.1 s.2.2.2.2.2.1 s.2.2.2.2.2.2.1 s.2.2.2.2.2.2.2.1 s.2.2.2.2.2.2.2.2.1 s.2.2.2.2.2.2.2.2.2.1 s.2.2.2.2.2.2.2.2.2.2.1 s.2.2.2.2.2.2.2.2.2.2.2.1 s.2.2.2.2.2.2.2.2.2.2.2.2.1 s.2.2.2.2.2.2.2.2.2.2.2.2.2.1 s.2.2.2.2.2.2.2.2.2.2.2.2.2.2.1 s.2.2.2.2.2.2.2.2.2.2.2.2.2.2.2) (fun n s hI hk => hs n s.1 s.2.1 s.2.2.1 s.2.2.2.1 s.2.2.2.2.1 s.2.2.2.2.2.1 s.2.2.2.2.2.2.1 s.2.2.2.2.2.2.2.1 s.2.2.2.2.2.2.2.2.1 s.2.2.2.2.2.2.2.2.2.1 s.2.2.2.2.2.2.2.2.2.2.1 s.2.2.2.2.2.2.2.2.2.2.2.1 s.2.2.2.2.2.2.2.2.2.2.2.2.1 s.2.2.2.2.2.2.2.2.2.2.2.2.2.1 s.2.2.2.2.2.2.2.2.2.2.2.2.2.2.1 s.2.2.2.2.2.2.2.2.2.2.2.2.2.2.2 hI (fun b1 b2 b3 b4 b5 b6 b7 b8 b9 b10 b11 b12 b13 b14 b15 b16 h9 hm => hk (b1, b2, b3, b4, b5, b6, b7, b8, b9, b10, b11, b12, b13, b14, b15, b16) h9 hm)) (a1, a2, a3, a4, a5, a6, a7, a8, a9, a10, a11, a12, a13, a14, a15, a16) h
theorem pk_least (P : Nat → Prop) (h : ∃ k, P k) : ∃ k, P k ∧ ∀ j, j < k → ¬ P j := by
  obtain ⟨k, hk⟩ := h
  induction k using Nat.strongRecOn with
  | ind k ih =>
    by_cases e : ∃ j, j < k ∧ P j
    · obtain ⟨j, hj, pj⟩ := e
      exact ih j hj pj
    · exact ⟨k, hk, fun j hj pj => e ⟨j, hj, pj⟩⟩
theorem rp1 {ρ A1 : Type} (W : Nat → (ρ → Prop) → A1 → Prop) (ok : A1 → Prop) (μ : A1 → Nat) (val : A1 → ρ)
    (hs : ∀ (d : Nat) (post : ρ → Prop) (a1 : A1), ok a1 → post (val a1) → (∀ (post' : ρ → Prop) (b1 : A1), ok b1 → μ b1 < μ a1 → post' (val b1) → W d post' b1) → W (d + 1) post a1) :
    ∀ (d : Nat) (post : ρ → Prop) (a1 : A1), ok a1 → μ a1 < d → post (val a1) → W d post a1 := by
  intro d
  induction d with
  | zero => intro post a1 _ h; omega
  | succ d ih =>
    intro post a1 ho hm hp
    exact hs d post a1 ho hp (fun post' b1 ho' hm' hp' => ih post' b1 ho' (by omega) hp')
theorem rp2 {ρ A1 A2 : Type} (W : Nat → (ρ → Prop) → A1 → A2 → Prop) (ok : A1 → A2 → Prop) (μ : A1 → A2 → Nat) (val : A1 → A2 → ρ)
    (hs : ∀ (d : Nat) (post : ρ → Prop) (a1 : A1) (a2 : A2), ok a1 a2 → post (val a1 a2) → (∀ (post' : ρ → Prop) (b1 : A1) (b2 : A2), ok b1 b2 → μ b1 b2 < μ a1 a2 → post' (val b1 b2) → W d post' b1 b2) → W (d + 1) post a1 a2) :
    ∀ (d : Nat) (post : ρ → Prop) (a1 : A1) (a2 : A2), ok a1 a2 → μ a1 a2 < d → post (val a1 a2) → W d post a1 a2 := by
  intro d
  induction d with
  | zero => intro post a1 a2 _ h; omega
  | succ d ih =>
    intro post a1 a2 ho hm hp
    exact hs d post a1 a2 ho hp (fun post' b1 b2 ho' hm' hp' => ih post' b1 b2 ho' (by omega) hp')
theorem rp3 {ρ A1 A2 A3 : Type} (W : Nat → (ρ → Prop) → A1 → A2 → A3 → Prop) (ok : A1 → A2 → A3 → Prop) (μ : A1 → A2 → A3 → Nat) (val : A1 → A2 → A3 → ρ)
    (hs : ∀ (d : Nat) (post : ρ → Prop) (a1 : A1) (a2 : A2) (a3 : A3), ok a1 a2 a3 → post (val a1 a2 a3) → (∀ (post' : ρ → Prop) (b1 : A1) (b2 : A2) (b3 : A3), ok b1 b2 b3 → μ b1 b2 b3 < μ a1 a2 a3 → post' (val b1 b2 b3) → W d post' b1 b2 b3) → W (d + 1) post a1 a2 a3) :
    ∀ (d : Nat) (post : ρ → Prop) (a1 : A1) (a2 : A2) (a3 : A3), ok a1 a2 a3 → μ a1 a2 a3 < d → post (val a1 a2 a3) → W d post a1 a2 a3 := by
  intro d
  induction d with
  | zero => intro post a1 a2 a3 _ h; omega
  | succ d ih =>
    intro post a1 a2 a3 ho hm hp
    exact hs d post a1 a2 a3 ho hp (fun post' b1 b2 b3 ho' hm' hp' => ih post' b1 b2 b3 ho' (by omega) hp')
theorem rp4 {ρ A1 A2 A3 A4 : Type} (W : Nat → (ρ → Prop) → A1 → A2 → A3 → A4 → Prop) (ok : A1 → A2 → A3 → A4 → Prop) (μ : A1 → A2 → A3 → A4 → Nat) (val : A1 → A2 → A3 → A4 → ρ)
    (hs : ∀ (d : Nat) (post : ρ → Prop) (a1 : A1) (a2 : A2) (a3 : A3) (a4 : A4), ok a1 a2 a3 a4 → post (val a1 a2 a3 a4) → (∀ (post' : ρ → Prop) (b1 : A1) (b2 : A2) (b3 : A3) (b4 : A4), ok b1 b2 b3 b4 → μ b1 b2 b3 b4 < μ a1 a2 a3 a4 → post' (val b1 b2 b3 b4) → W d post' b1 b2 b3 b4) → W (d + 1) post a1 a2 a3 a4) :
    ∀ (d : Nat) (post : ρ → Prop) (a1 : A1) (a2 : A2) (a3 : A3) (a4 : A4), ok a1 a2 a3 a4 → μ a1 a2 a3 a4 < d → post (val a1 a2 a3 a4) → W d post a1 a2 a3 a4 := by
  intro d
  induction d with
  | zero => intro post a1 a2 a3 a4 _ h; omega
  | succ d ih =>
    intro post a1 a2 a3 a4 ho hm hp
    exact hs d post a1 a2 a3 a4 ho hp (fun post' b1 b2 b3 b4 ho' hm' hp' => ih post' b1 b2 b3 b4 ho' (by omega) hp')
theorem rp5 {ρ A1 A2 A3 A4 A5 : Type} (W : Nat → (ρ → Prop) → A1 → A2 → A3 → A4 → A5 → Prop) (ok : A1 → A2 → A3 → A4 → A5 → Prop) (μ : A1 → A2 → A3 → A4 → A5 → Nat) (val : A1 → A2 → A3 → A4 → A5 → ρ)
    (hs : ∀ (d : Nat) (post : ρ → Prop) (a1 : A1) (a2 : A2) (a3 : A3) (a4 : A4) (a5 : A5), ok a1 a2 a3 a4 a5 → post (val a1 a2 a3 a4 a5) → (∀ (post' : ρ → Prop) (b1 : A1) (b2 : A2) (b3 : A3) (b4 : A4) (b5 : A5), ok b1 b2 b3 b4 b5 → μ b1 b2 b3 b4 b5 < μ a1 a2 a3 a4 a5 → post' (val b1 b2 b3 b4 b5) → W d post' b1 b2 b3 b4 b5) → W (d + 1) post a1 a2 a3 a4 a5) :
    ∀ (d : Nat) (post : ρ → Prop) (a1 : A1) (a2 : A2) (a3 : A3) (a4 : A4) (a5 : A5), ok a1 a2 a3 a4 a5 → μ a1 a2 a3 a4 a5 < d → post (val a1 a2 a3 a4 a5) → W d post a1 a2 a3 a4 a5 := by
  intro d
  induction d with
  | zero => intro post a1 a2 a3 a4 a5 _ h; omega
  | succ d ih =>
    intro post a1 a2 a3 a4 a5 ho hm hp
    exact hs d post a1 a2 a3 a4 a5 ho hp (fun post' b1 b2 b3 b4 b5 ho' hm' hp' => ih post' b1 b2 b3 b4 b5 ho' (by omega) hp')
theorem rp6 {ρ A1 A2 A3 A4 A5 A6 : Type} (W : Nat → (ρ → Prop) → A1 → A2 → A3 → A4 → A5 → A6 → Prop) (ok : A1 → A2 → A3 → A4 → A5 → A6 → Prop) (μ : A1 → A2 → A3 → A4 → A5 → A6 → Nat) (val : A1 → A2 → A3 → A4 → A5 → A6 → ρ)
    (hs : ∀ (d : Nat) (post : ρ → Prop) (a1 : A1) (a2 : A2) (a3 : A3) (a4 : A4) (a5 : A5) (a6 : A6), ok a1 a2 a3 a4 a5 a6 → post (val a1 a2 a3 a4 a5 a6) → (∀ (post' : ρ → Prop) (b1 : A1) (b2 : A2) (b3 : A3) (b4 : A4) (b5 : A5) (b6 : A6), ok b1 b2 b3 b4 b5 b6 → μ b1 b2 b3 b4 b5 b6 < μ a1 a2 a3 a4 a5 a6 → post' (val b1 b2 b3 b4 b5 b6) → W d post' b1 b2 b3 b4 b5 b6) → W (d + 1) post a1 a2 a3 a4 a5 a6) :
    ∀ (d : Nat) (post : ρ → Prop) (a1 : A1) (a2 : A2) (a3 : A3) (a4 : A4) (a5 : A5) (a6 : A6), ok a1 a2 a3 a4 a5 a6 → μ a1 a2 a3 a4 a5 a6 < d → post (val a1 a2 a3 a4 a5 a6) → W d post a1 a2 a3 a4 a5 a6 := by
  intro d
  induction d with
  | zero => intro post a1 a2 a3 a4 a5 a6 _ h; omega
  | succ d ih =>
    intro post a1 a2 a3 a4 a5 a6 ho hm hp
    exact hs d post a1 a2 a3 a4 a5 a6 ho hp (fun post' b1 b2 b3 b4 b5 b6 ho' hm' hp' => ih post' b1 b2 b3 b4 b5 b6 ho' (by omega) hp')
theorem rec_p {σ ρ : Type} (W : Nat → (ρ → Prop) → σ → Prop) (ok : σ → Prop) (μ : σ → Nat) (val : σ → ρ)
    (hs : ∀ d s post, ok s → post (val s) → (∀ s' post', ok s' → μ s' < μ s → post' (val s') → W d post' s') → W (d + 1) post s) :
    ∀ d s post, ok s → μ s < d → post (val s) → W d post s := by
  intro d
  induction d with
  | zero => intro s post _ h; omega
  | succ d ih =>
    intro s post ho hm hp
    exact hs d s post ho hp (fun s' post' ho' hm' hp' => ih s' post' ho' (by omega) hp')
theorem rec_q {σ ρ : Type} (W : Nat → (ρ → Prop) → σ → Prop) (ok : σ → Prop) (μ : σ → Nat) (Q : σ → ρ → Prop)
    (hs : ∀ d s post, ok s → (∀ r, Q s r → post r) → (∀ s' post', ok s' → μ s' < μ s → (∀ r, Q s' r → post' r) → W d post' s') → W (d + 1) post s) :
    ∀ d s post, ok s → μ s < d → (∀ r, Q s r → post r) → W d post s := by
  intro d
  induction d with
  | zero => intro s post _ h; omega
  | succ d ih =>
    intro s post ho hm hp
    exact hs d s post ho hp (fun s' post' ho' hm' hp' => ih s' post' ho' (by omega) hp')
def bx_sum (f : Nat → Int32) : Nat → Int32
  | 0 => 0
  | n + 1 => bx_sum f n + f n
theorem ek_u {A : Prop} {B : Nat → Prop} {k N : Nat} (hk : k < N) (h : B k) : (some k = none → A) ∧ (∀ y : Nat, some k = some y → (y < N ∧ B y)) :=
  ⟨fun z => absurd z (Option.some_ne_none k), fun _ e => (by cases e; exact ⟨hk, h⟩)⟩
theorem ek_nu {A : Prop} {B : Nat → Prop} (h : A) : ((none : Option Nat) = none → A) ∧ (∀ y : Nat, (none : Option Nat) = some y → B y) :=
  ⟨fun _ => h, fun _ e => (by cases e)⟩
theorem ek_if {c d A B : Prop} (e : c ↔ d) (f : d → A) (g : ¬ d → B) : (c → A) ∧ (¬ c → B) :=
  ⟨fun z => f (e.mp z), fun z => g (fun y => z (e.mpr y))⟩
theorem ek_v {α : Sort _} {P : α → Prop} {a b : α} (e : a = b) (h : P b) : P a := e ▸ h
theorem co_some {x : Option Nat} {A : Prop} {B : Nat → Prop} (i : Nat) (h : B i) (hx : x = some i := by rfl) : (x = none → A) ∧ (∀ y : Nat, x = some y → B y) := by
  subst hx
  exact ⟨fun e => (nomatch e), fun y e => Option.some.inj e ▸ h⟩
theorem co_none {x : Option Nat} {A : Prop} {B : Nat → Prop} (h : A) (hx : x = none := by rfl) : (x = none → A) ∧ (∀ y : Nat, x = some y → B y) := by
  subst hx
  exact ⟨fun _ => h, fun y e => (nomatch e)⟩
theorem co_any {x : Option Nat} {A : Prop} {B : Nat → Prop} (hn : x = none → A) (hs : ∀ i : Nat, x = some i → B i) : (x = none → A) ∧ (∀ y : Nat, x = some y → B y) := ⟨hn, hs⟩
theorem co_2 {P : Nat → Prop} (h0 : P 0) (h1 : P 1) {i : Nat} (hi : i < 2) : P i :=
  match i, hi with
  | 0, _ => h0
  | 1, _ => h1
theorem co_3 {P : Nat → Prop} (h0 : P 0) (h1 : P 1) (h2 : P 2) {i : Nat} (hi : i < 3) : P i :=
  match i, hi with
  | 0, _ => h0
  | 1, _ => h1
  | 2, _ => h2
theorem co_4 {P : Nat → Prop} (h0 : P 0) (h1 : P 1) (h2 : P 2) (h3 : P 3) {i : Nat} (hi : i < 4) : P i :=
  match i, hi with
  | 0, _ => h0
  | 1, _ => h1
  | 2, _ => h2
  | 3, _ => h3
theorem co_dec {N : Nat} {P : Nat → Prop} [DecidablePred P] (h : (List.range N).all (fun i => decide (P i)) = true) {i : Nat} (hi : i < N) : P i := by
  have := List.all_eq_true.mp h i (List.mem_range.mpr hi)
  exact of_decide_eq_true this
theorem co_tab {α : Type} {l : List α} {d : α} {P : α → Prop} (h : ∀ a, a ∈ l → P a) {i : Nat} (hi : i < l.length) : P (l.getD i d) := by
  rw [List.getD_eq_getElem?_getD, List.getElem?_eq_getElem hi]
  exact h _ (List.getElem_mem hi)
theorem pk_mu {x : Int32} {L : Nat} (h0 : ¬ x < 0) (h : ¬ nI L ≤ x) (hL : L < 2 ^ 31) : ∃ j : Nat, j < L ∧ x = nI j ∧ x + 1 = nI (j + 1) ∧ x.toNatClampNeg = j ∧ L - (x + 1).toNatClampNeg < L - x.toNatClampNeg := by
  obtain ⟨j, hj, rfl⟩ := nI_of h0
  have hl : j < L := Nat.not_le.mp fun q => h (nI_le q hj)
  refine ⟨j, hl, rfl, nI_1 j, nI_clamp hj, ?_⟩
  rw [nI_1, nI_clamp (by omega), nI_clamp hj]
  omega
theorem op_s {α : Type} {r : Option α} {A : Prop} {B : α → Prop} {y : α} (h : r = some y) (b : B y) : (r = none → A) ∧ ∀ z, r = some z → B z :=
  ⟨fun e => (by rw [h] at e; cases e), fun z e => (by rw [h] at e; cases e; exact b)⟩
def l_holds {α : Type} (a : Nat → Option Nat) (LP : List Nat) (p : Nat → α) (c : Nat) (b : Nat → α) : Prop :=
  ∀ j, j < c → ∃ y, a j = some y ∧ y ∈ LP ∧ p y = b j
theorem l_holds_0 {α : Type} {a : Nat → Option Nat} {LP : List Nat} {p b : Nat → α} : l_holds a LP p 0 b := fun j h => absurd h (Nat.not_lt_zero j)
theorem l_in_new (LP : List Nat) (q : Nat) : q ∈ LP ++ [q] := List.mem_append.mpr (Or.inr (List.mem_singleton.mpr rfl))
def l_sum (b : Nat → Int32) : Nat → Int32
  | 0 => 0
  | k + 1 => l_sum b k + b k
theorem sb_shr0 (x : Int32) : x >>> ((0 : Int32) &&& 31) = x := by
  rw [show ((0 : Int32) &&& 31) = 0 by decide]
  simp
theorem sb_shl0 (x : Int32) : x <<< ((0 : Int32) &&& 31) = x := by
  rw [show ((0 : Int32) &&& 31) = 0 by decide]
  simp
theorem sb_cl0 : (0 : Int32).toNatClampNeg = 0 := by decide
theorem sb_m1 {p : Nat} (h : 0 < p) : nI p + (-1) = nI (p - 1) := by
  obtain ⟨q, rfl⟩ : ∃ q, p = q + 1 := ⟨p - 1, by omega⟩
  exact pk_m1 q
def sb_b (c : Nat) : Int32 := (nI c).toInt8.toInt32
theorem sb_byte : ∀ c, c < 256 → sb_b c &&& 255 = nI c ∧ ((nI c).toUInt32 % 65536).toInt32 = nI c ∧ nI c ≤ 255 := by decide +kernel
def sb_Fit (a : Nat → Int32) : Prop := ∀ j, fits .byte (.int (a j)) = true
def sb_Lat (t : Nat → Nat) (n : Nat) (a : Nat → Int32) : Prop := ∀ j, j < n → t j < 256 ∧ a j = sb_b (t j)
theorem sb_fitB (c : Nat) : fits .byte (.int (sb_b c)) = true := pk_fb _
theorem sb_fit0 : sb_Fit (fun _ => 0) := fun _ => by
  show fits .byte (.int 0) = true
  decide
theorem sb_fitU {a : Nat → Int32} {k : Nat} {x : Int32} (h : sb_Fit a) (hx : fits .byte (.int x) = true) : sb_Fit (upd a k x) := by
  intro j
  by_cases e : j = k
  · subst e
    rw [pk_us]
    exact hx
  · rw [pk_un e]
    exact h j
def sb_cat (t : Nat → Nat) (n : Nat) (s : Nat → Nat) : Nat → Nat := fun j => if j < n then t j else s (j - n)
theorem sb_cat_lo {t s : Nat → Nat} {n j : Nat} (h : j < n) : sb_cat t n s j = t j := if_pos h
theorem sb_cat_hi {t s : Nat → Nat} {n j : Nat} : sb_cat t n s (n + j) = s j := by
  show (if n + j < n then t (n + j) else s (n + j - n)) = s j
  rw [if_neg (by omega), Nat.add_sub_cancel_left]
theorem sb_latPut {t s : Nat → Nat} {n w : Nat} {a a' : Nat → Int32} (h : sb_Lat t n a) (hk : ∀ j, j < n → a' j = a j) (hs : ∀ i, i < w → s i < 256 ∧ a' (n + i) = sb_b (s i)) : sb_Lat (sb_cat t n s) (n + w) a' := by
  intro j hj
  by_cases e : j < n
  · rw [sb_cat_lo e, hk j e]
    exact h j e
  · obtain ⟨i, rfl⟩ : ∃ i, j = n + i := ⟨j - n, by omega⟩
    rw [sb_cat_hi]
    exact hs i (by omega)
theorem sb_latKeep {t : Nat → Nat} {n : Nat} {a a' : Nat → Int32} (h : sb_Lat t n a) (hk : ∀ j, j < n → a' j = a j) : sb_Lat t n a' := fun j hj => by
  rw [hk j hj]
  exact h j hj
def sb_cap (q m : Nat) : Nat := if q ≤ m then m else if 2 * m + 2 < q then q else 2 * m + 2
def sb_Room (q m mc ms : Nat) : Prop := q ≤ m ∨ (1 ≤ mc ∧ sb_cap q m ≤ ms ∧ sb_cap q m ≤ 65536)
theorem sb_cap_ge (q m : Nat) : q ≤ sb_cap q m := by
  unfold sb_cap
  split
  · omega
  · split <;> omega
theorem sb_cap_gem (q m : Nat) : m ≤ sb_cap q m := by
  unfold sb_cap
  split
  · omega
  · split <;> omega
theorem sb_cap_le {q m mc ms : Nat} (hm : m ≤ 65536) (hr : sb_Room q m mc ms) : sb_cap q m ≤ 65536 := by
  rcases hr with h | h
  · rw [sb_cap, if_pos h]
    exact hm
  · exact h.2.2
theorem sb_at {P : Int32 → Prop} {x y : Int32} (e : x = y) (h : P y) : P x := e ▸ h
def sb_dg (w : Nat) : Nat := if w < 10 then 1 else if w < 100 then 2 else if w < 1000 then 3 else if w < 10000 then 4 else if w < 100000 then 5 else if w < 1000000 then 6 else if w < 10000000 then 7 else if w < 100000000 then 8 else if w < 1000000000 then 9 else 10
def sb_dec (v : Nat) : Nat → Nat := fun i => 48 + v / 10 ^ (sb_dg v - 1 - i) % 10
theorem sb_dg_in (w : Nat) : 1 ≤ sb_dg w ∧ sb_dg w ≤ 10 := by
  unfold sb_dg
  constructor <;> (repeat' split) <;> omega
theorem sb_dg100 {w : Nat} (h : 100 ≤ w) (hw : w < 2 ^ 31) : sb_dg w = sb_dg (w / 100) + 2 := by
  rw [sb_dg, sb_dg, if_neg (show ¬ w < 10 by omega), if_neg (show ¬ w < 100 by omega)]
  by_cases h3 : w < 1000
  · rw [if_pos h3, if_pos (show w / 100 < 10 by omega)]
  rw [if_neg h3, if_neg (show ¬ w / 100 < 10 by omega)]
  by_cases h4 : w < 10000
  · rw [if_pos h4, if_pos (show w / 100 < 100 by omega)]
  rw [if_neg h4, if_neg (show ¬ w / 100 < 100 by omega)]
  by_cases h5 : w < 100000
  · rw [if_pos h5, if_pos (show w / 100 < 1000 by omega)]
  rw [if_neg h5, if_neg (show ¬ w / 100 < 1000 by omega)]
  by_cases h6 : w < 1000000
  · rw [if_pos h6, if_pos (show w / 100 < 10000 by omega)]
  rw [if_neg h6, if_neg (show ¬ w / 100 < 10000 by omega)]
  by_cases h7 : w < 10000000
  · rw [if_pos h7, if_pos (show w / 100 < 100000 by omega)]
  rw [if_neg h7, if_neg (show ¬ w / 100 < 100000 by omega)]
  by_cases h8 : w < 100000000
  · rw [if_pos h8, if_pos (show w / 100 < 1000000 by omega)]
  rw [if_neg h8, if_neg (show ¬ w / 100 < 1000000 by omega)]
  by_cases h9 : w < 1000000000
  · rw [if_pos h9, if_pos (show w / 100 < 10000000 by omega)]
  rw [if_neg h9, if_neg (show ¬ w / 100 < 10000000 by omega)]
  rw [if_pos (show w / 100 < 100000000 by omega)]
theorem sb_negT {w : Nat} (h : w < 2 ^ 31) : (-nI w).toInt = -(w : Int) := by
  rw [Int32.toInt_neg, nI_toInt h]
  exact Int.bmod_eq_of_le (by omega) (by omega)
theorem sb_nle {a b : Nat} (ha : a < 2 ^ 31) (hb : b < 2 ^ 31) : -nI a ≤ -nI b ↔ b ≤ a := by
  rw [Int32.le_iff_toInt_le, sb_negT ha, sb_negT hb]
  omega
theorem sb_nlt {a b : Nat} (ha : a < 2 ^ 31) (hb : b < 2 ^ 31) : -nI a < -nI b ↔ b < a := by
  rw [Int32.lt_iff_toInt_lt, sb_negT ha, sb_negT hb]
  omega
theorem sb_cmp {A B : Prop} {x : Int32} (v c : Nat) (f : c ≤ v → A) (g : v < c → B) (hv : v < 2 ^ 31) (hx : x = -nI c := by rfl) (hc : c < 2 ^ 31 := by omega) : (-nI v ≤ x → A) ∧ (¬ -nI v ≤ x → B) := by
  subst hx
  rw [sb_nle hv hc]
  exact ⟨f, fun z => g (by omega)⟩
theorem sb_ndiv {w : Nat} (hw : w < 2 ^ 31) : (-nI w) / 100 = -nI (w / 100) := by
  apply Int32.toInt_inj.mp
  have h100 : (100 : Int32).toInt = 100 := by decide
  rw [Int32.toInt_div, sb_negT hw, h100, sb_negT (by omega), Int.neg_tdiv, Int.tdiv_eq_ediv_of_nonneg (by omega), Int.bmod_eq_of_le (by omega) (by omega)]
  omega
theorem sb_nrem {w : Nat} (hw : w < 2 ^ 31) : (-nI (w / 100)) * 100 - (-nI w) = nI (w % 100) := by
  have h := pk_rem (a := w) (d := 100) hw (by decide) (by decide)
  rw [pk_div hw (by decide) (by decide)] at h
  rw [← h]
  show (-nI (w / 100)) * nI 100 - (-nI w) = nI w - nI (w / 100) * nI 100
  rw [Int32.neg_mul, Int32.sub_neg, Int32.add_comm, ← Int32.sub_eq_add_neg]
end
section
/-! rows on bits, shifts and unsigned numbers, to paste: each family out of a closed proof of our own, whole with what it rests on; each by itself clean at Lean in its own claim (generation 39, form 5). Take a family whole -/
/-! ===== Int32 by its bits: bt x i ===== -/
def bt (x : Int32) (i : Nat) : Bool := x.toBitVec.getLsbD i
theorem b_ext {x y : Int32} (h : ∀ i, i < 32 → bt x i = bt y i) : x = y := Int32.toBitVec_inj.mp (BitVec.eq_of_getLsbD_eq (fun i hi => h i hi))
theorem b_or (x y : Int32) (i : Nat) : bt (x ||| y) i = (bt x i || bt y i) := by unfold bt; rw [Int32.toBitVec_or, BitVec.getLsbD_or]
theorem b_and (x y : Int32) (i : Nat) : bt (x &&& y) i = (bt x i && bt y i) := by unfold bt; rw [Int32.toBitVec_and, BitVec.getLsbD_and]
theorem b_xor (x y : Int32) (i : Nat) : bt (x ^^^ y) i = (bt x i ^^ bt y i) := by unfold bt; rw [Int32.toBitVec_xor, BitVec.getLsbD_xor]
theorem b_big {x : Int32} {i : Nat} (h : 32 ≤ i) : bt x i = false := BitVec.getLsbD_of_ge _ _ h
theorem b_255 (i : Nat) : bt 255 i = decide (i < 8) := by
  rcases Nat.lt_or_ge i 32 with h | h
  · exact (by decide +kernel : ∀ i, i < 32 → bt 255 i = decide (i < 8)) i h
  · rw [b_big h, decide_eq_false (by omega)]
theorem b_65535 (i : Nat) : bt 65535 i = decide (i < 16) := by
  rcases Nat.lt_or_ge i 32 with h | h
  · exact (by decide +kernel : ∀ i, i < 32 → bt 65535 i = decide (i < 16)) i h
  · rw [b_big h, decide_eq_false (by omega)]
theorem b_m1 : ∀ i, i < 32 → bt (-1) i = true := by decide +kernel
theorem b_0 (i : Nat) : bt 0 i = false := BitVec.getLsbD_zero
theorem s_l : ∀ n, n < 32 → ((nI n &&& 31).toBitVec.smod 32).toNat = n := by decide +kernel
theorem s_u : ∀ n, n < 32 → (((nI n).toUInt32 &&& Int32.toUInt32 31).toBitVec % 32).toNat = n := by decide +kernel
theorem b_shl (n : Nat) (hn : n < 32) (x : Int32) {i : Nat} (hi : i < 32) : bt (x <<< (nI n &&& 31)) i = (decide (n ≤ i) && bt x (i - n)) := by
  unfold bt
  rw [Int32.toBitVec_shiftLeft]
  show (x.toBitVec <<< ((nI n &&& 31).toBitVec.smod 32).toNat).getLsbD i = _
  rw [s_l n hn, BitVec.getLsbD_shiftLeft]
  rcases Nat.lt_or_ge i n with h | h
  · simp [h, Nat.not_le.mpr h]
  · simp [hi, h, Nat.not_lt.mpr h]
theorem b_ushr (n : Nat) (hn : n < 32) (x : Int32) (i : Nat) : bt ((x.toUInt32 >>> ((nI n).toUInt32 &&& Int32.toUInt32 31)).toInt32) i = bt x (n + i) := by
  show (x.toUInt32 >>> ((nI n).toUInt32 &&& Int32.toUInt32 31)).toBitVec.getLsbD i = x.toUInt32.toBitVec.getLsbD (n + i)
  rw [UInt32.toBitVec_shiftRight]
  show (x.toUInt32.toBitVec >>> (((nI n).toUInt32 &&& Int32.toUInt32 31).toBitVec % 32).toNat).getLsbD i = _
  rw [s_u n hn, BitVec.getLsbD_ushiftRight]
theorem b_sshr (n : Nat) (hn : n < 32) (x : Int32) {i : Nat} (hi : i < 32) : bt (x >>> (nI n &&& 31)) i = if n + i < 32 then bt x (n + i) else bt x 31 := by
  unfold bt
  rw [Int32.toBitVec_shiftRight]
  show (x.toBitVec.sshiftRight ((nI n &&& 31).toBitVec.smod 32).toNat).getLsbD i = _
  rw [s_l n hn, BitVec.getLsbD_sshiftRight, BitVec.msb_eq_getLsbD_last]
  simp [hi]
theorem b_shl8 (x : Int32) {i : Nat} (hi : i < 32) : bt (x <<< ((8 : Int32) &&& 31)) i = (decide (8 ≤ i) && bt x (i - 8)) := b_shl 8 (by omega) x hi
theorem b_shl16 (x : Int32) {i : Nat} (hi : i < 32) : bt (x <<< ((16 : Int32) &&& 31)) i = (decide (16 ≤ i) && bt x (i - 16)) := b_shl 16 (by omega) x hi
theorem b_shl24 (x : Int32) {i : Nat} (hi : i < 32) : bt (x <<< ((24 : Int32) &&& 31)) i = (decide (24 ≤ i) && bt x (i - 24)) := b_shl 24 (by omega) x hi
theorem b_sshr8 (x : Int32) {i : Nat} (hi : i < 32) : bt (x >>> ((8 : Int32) &&& 31)) i = if 8 + i < 32 then bt x (8 + i) else bt x 31 := b_sshr 8 (by omega) x hi
/-! ===== nI under and, xor, >>>, one bit, 65535 ===== -/
theorem nx_and (a b : Nat) : nI a &&& nI b = nI (a &&& b) := by
  apply Int32.toBitVec_inj.1
  show BitVec.ofNat 32 a &&& BitVec.ofNat 32 b = BitVec.ofNat 32 (a &&& b)
  apply BitVec.eq_of_getLsbD_eq
  intro i hi
  simp [hi]
theorem nx_xor (a b : Nat) : nI a ^^^ nI b = nI (a ^^^ b) := by
  apply Int32.toBitVec_inj.1
  show BitVec.ofNat 32 a ^^^ BitVec.ofNat 32 b = BitVec.ofNat 32 (a ^^^ b)
  apply BitVec.eq_of_getLsbD_eq
  intro i hi
  simp [hi]
theorem nx_cnt : ∀ j : Fin 32, (UInt32.ofNat j.val &&& Int32.toUInt32 31).toNat % 32 = j.val := by decide +kernel
theorem nx_ush {k j : Nat} (hk : k < 65536) (hj : j < 32) : ((nI k).toUInt32 >>> ((nI j).toUInt32 &&& Int32.toUInt32 31)).toInt32 = nI (k >>> j) := by
  have hs : k >>> j ≤ k := by
    rw [Nat.shiftRight_eq_div_pow]
    exact Nat.div_le_self _ _
  have e2 : UInt32.ofNat k >>> (UInt32.ofNat j &&& Int32.toUInt32 31) = UInt32.ofNat (k >>> j) := by
    apply UInt32.toNat_inj.1
    have h1 : (UInt32.ofNat k).toNat = k := Nat.mod_eq_of_lt (by omega)
    have h2 : (UInt32.ofNat (k >>> j)).toNat = k >>> j := Nat.mod_eq_of_lt (by omega)
    rw [UInt32.toNat_shiftRight, nx_cnt ⟨j, hj⟩, h1, h2]
  show (UInt32.ofNat k >>> (UInt32.ofNat j &&& Int32.toUInt32 31)).toInt32 = _
  rw [e2]
  rfl
theorem nx_bit {k j : Nat} (hk : k < 65536) (hj : j < 16) : (((nI k).toUInt32 >>> ((nI j).toUInt32 &&& Int32.toUInt32 31)).toInt32 &&& 1) = 0 ↔ k.testBit j = false := by
  rw [nx_ush hk (by omega)]
  show nI (k >>> j) &&& nI 1 = 0 ↔ _
  rw [nx_and, Nat.and_one_is_mod, ← nI_0, nI_eq (by omega) (by omega), Nat.testBit_eq_decide_div_mod_eq, Nat.shiftRight_eq_div_pow, decide_eq_false_iff_not]
  generalize k / 2 ^ j = z
  omega
theorem nx_mod (k : Nat) : nI k &&& 65535 = nI (k % 65536) := by
  show nI k &&& nI 65535 = _
  rw [nx_and, show (65535 : Nat) = 2 ^ 16 - 1 from rfl, Nat.and_two_pow_sub_one_eq_mod]
theorem nx_m16 {k : Nat} (h : k < 65536) : nI k &&& 65535 = nI k := by rw [nx_mod, Nat.mod_eq_of_lt h]
theorem nx_mask (x : Int32) : ∃ k, k < 65536 ∧ x &&& 65535 = nI k := by
  have e : x = nI x.toBitVec.toNat := by
    apply Int32.toBitVec_inj.1
    show x.toBitVec = BitVec.ofNat 32 x.toBitVec.toNat
    simp
  refine ⟨x.toBitVec.toNat % 65536, Nat.mod_lt _ (by omega), ?_⟩
  rw [← nx_mod, ← e]
/-! ===== Int32 as a set of bits: test, set ===== -/
def nf_M (m : Int32) : Nat := 4294967296 - m.toBitVec.toNat
theorem nf_sh : ∀ l, l < 32 → ((1 : Int32) <<< (nI l &&& 31)).toBitVec = BitVec.twoPow 32 l := by decide +kernel
theorem nf_sl : ∀ l, l < 32 → (((nI l).toUInt32 &&& Int32.toUInt32 31).toBitVec % 32).toNat = l := by decide +kernel
theorem nf_tp : ∀ l, l < 32 → BitVec.twoPow 32 l ≠ 0#32 := by decide +kernel
theorem nf_bit (m : Int32) (l : Nat) (hl : l < 32) : ((m.toUInt32 >>> ((nI l).toUInt32 &&& Int32.toUInt32 31)).toInt32 &&& 1) = 0 ↔ (m &&& ((1 : Int32) <<< (nI l &&& 31))) = 0 := by
  have e : ((m.toUInt32 >>> ((nI l).toUInt32 &&& Int32.toUInt32 31)).toInt32).toBitVec = m.toBitVec >>> l := by
    show m.toBitVec >>> (((nI l).toUInt32 &&& Int32.toUInt32 31).toBitVec % 32) = m.toBitVec >>> l
    rw [BitVec.ushiftRight_eq', nf_sl l hl]
  rw [← Int32.toBitVec_inj, ← Int32.toBitVec_inj, Int32.toBitVec_and, Int32.toBitVec_and, nf_sh l hl, e, BitVec.and_twoPow]
  show (m.toBitVec >>> l &&& 1#32) = 0#32 ↔ _ = 0#32
  rw [BitVec.and_one_eq_setWidth_ofBool_getLsbD, BitVec.getLsbD_ushiftRight, Nat.add_zero]
  cases hb : m.toBitVec.getLsbD l
  · exact ⟨fun _ => by simp, fun _ => by decide⟩
  · exact ⟨fun z => absurd z (by decide), fun z => absurd ((if_pos rfl).symm.trans z) (nf_tp l hl)⟩
theorem nf_gr (m k : Int32) (h : m &&& k = 0) (hk : k ≠ 0) : nf_M (m ||| k) < nf_M m := by
  have hm := m.toBitVec.isLt
  have hm' := (m ||| k).toBitVec.isLt
  have h1 : m.toBitVec.toNat ≤ (m ||| k).toBitVec.toNat := by
    rw [Int32.toBitVec_or, BitVec.toNat_or]
    exact Nat.left_le_or
  have h2 : m.toBitVec.toNat ≠ (m ||| k).toBitVec.toNat := by
    intro e
    have e2 : m = m ||| k := Int32.toBitVec_inj.mp (BitVec.eq_of_toNat_eq e)
    apply hk
    apply Int32.toBitVec_inj.mp
    show k.toBitVec = 0#32
    apply BitVec.eq_of_getLsbD_eq
    intro i hi
    have a : m.toBitVec.getLsbD i = (m.toBitVec.getLsbD i || k.toBitVec.getLsbD i) := by rw [← BitVec.getLsbD_or, ← Int32.toBitVec_or, ← e2]
    have b : (m.toBitVec.getLsbD i && k.toBitVec.getLsbD i) = false := by
      rw [← BitVec.getLsbD_and, ← Int32.toBitVec_and, h]
      exact BitVec.getLsbD_zero
    rw [BitVec.getLsbD_zero]
    revert a b
    cases m.toBitVec.getLsbD i <;> cases k.toBitVec.getLsbD i <;> simp
  unfold nf_M
  omega
/-! ===== a byte read unsigned ===== -/
theorem bp_b (x : Int32) : x.toInt8.toInt32 &&& 255 = x &&& 255 := by
  apply Int32.toBitVec_inj.mp
  rw [Int32.toBitVec_and, Int32.toBitVec_and, Int8.toBitVec_toInt32, Int32.toBitVec_toInt8]
  apply BitVec.eq_of_getLsbD_eq
  intro i hi
  rw [BitVec.getLsbD_and, BitVec.getLsbD_and]
  have hm : ∀ i < 32, 8 ≤ i → (255 : Int32).toBitVec.getLsbD i = false := by decide
  rcases Nat.lt_or_ge i 8 with z | z
  · rw [BitVec.getLsbD_signExtend, BitVec.getLsbD_signExtend, if_pos z, if_pos hi]
    simp only [z, hi, decide_true, Bool.true_and]
  · rw [hm i hi z]; simp
/-! ===== the char cast and 65535 ===== -/
theorem em_w (v : Int32) : ∃ w : Nat, w < 65536 ∧ (v.toUInt32 % 65536).toInt32 = nI w ∧ v &&& 65535 = nI w := by
  have hr := lw_u16_r v
  have h0 : (0 : Int32).toInt = 0 := by decide
  obtain ⟨w, h1, h2⟩ := nI_of (x := lw_u16 v) (by rw [Int32.lt_iff_toInt_lt]; omega)
  have h3 : (v.toUInt32 % 65536).toInt32 = nI w := h2
  rw [h2, nI_toInt h1] at hr
  exact ⟨w, by omega, h3, by rw [← lg_i2c_mask, ← lg_i2c_nf, h3]⟩
/-! ===== Int64 as a set of bits: test, set, clear ===== -/
theorem ts_nf {x : Bool} (h : ¬ x = false) : x = true := by cases x <;> first | rfl | exact absurd rfl h
theorem ts_nt {x : Bool} (h : ¬ x = true) : x = false := by cases x <;> first | rfl | exact absurd rfl h
theorem ts_bit {w : Int64} {s : UInt64} {j : Nat} (hj : j < 64) (hs : s.toNat = j) : ((w.toUInt64 >>> s).toInt64 &&& 1) = 0 ↔ w.toBitVec.getLsbD j = false := by
  have e : (w.toUInt64 >>> s).toInt64.toBitVec = w.toBitVec >>> j := by
    apply BitVec.eq_of_toNat_eq
    show (w.toUInt64 >>> s).toNat = _
    rw [UInt64.toNat_shiftRight, hs, Nat.mod_eq_of_lt hj, BitVec.toNat_ushiftRight]
    rfl
  rw [← Int64.toBitVec_inj, Int64.toBitVec_and, e]
  show w.toBitVec >>> j &&& 1#64 = 0#64 ↔ _
  constructor
  · intro h
    have t := congrArg (fun x => x.getLsbD 0) h
    simpa using t
  · intro h
    apply BitVec.eq_of_getLsbD_eq
    intro i hi
    cases i with
    | zero => simp [h]
    | succ i => simp
theorem ts_or {w m : Int64} {j : Nat} (hj : j < 64) (hm : m.toBitVec = BitVec.twoPow 64 j) : (w ||| m) = w ↔ w.toBitVec.getLsbD j = true := by
  rw [← Int64.toBitVec_inj, Int64.toBitVec_or, hm]
  constructor
  · intro h
    have t := congrArg (fun x => x.getLsbD j) h
    simp only [BitVec.getLsbD_or, BitVec.getLsbD_twoPow] at t
    simpa [hj] using t.symm
  · intro h
    apply BitVec.eq_of_getLsbD_eq
    intro i hi
    rw [BitVec.getLsbD_or, BitVec.getLsbD_twoPow]
    by_cases e : j = i
    · subst e; rw [h, Bool.true_or]
    · simp [e]
theorem ts_and {w m : Int64} {j : Nat} (hj : j < 64) (hm : m.toBitVec = BitVec.twoPow 64 j) : (w &&& (m ^^^ (-1))) = w ↔ w.toBitVec.getLsbD j = false := by
  have ha : (-1 : Int64).toBitVec = BitVec.allOnes 64 := by decide
  rw [← Int64.toBitVec_inj, Int64.toBitVec_and, Int64.toBitVec_xor, hm, ha]
  constructor
  · intro h
    have t := congrArg (fun x => x.getLsbD j) h
    simp only [BitVec.getLsbD_and, BitVec.getLsbD_xor, BitVec.getLsbD_twoPow, BitVec.getLsbD_allOnes] at t
    simpa [hj] using t.symm
  · intro h
    apply BitVec.eq_of_getLsbD_eq
    intro i hi
    rw [BitVec.getLsbD_and, BitVec.getLsbD_xor, BitVec.getLsbD_twoPow, BitVec.getLsbD_allOnes]
    by_cases e : j = i
    · subst e; rw [h, Bool.false_and]
    · simp [e, hi]
/-! ===== lN n to 2^64: shifts, and, or, masks, one bit ===== -/
theorem wb_tb (n : Nat) : (lN n).toBitVec = BitVec.ofNat 64 n := rfl
theorem wb_inj {a b : Int64} (h : a.toBitVec = b.toBitVec) : a = b := Int64.toBitVec_inj.mp h
theorem wb_tn {n : Nat} (h : n < 2 ^ 64) : (lN n).toBitVec.toNat = n := by rw [wb_tb, BitVec.toNat_ofNat, Nat.mod_eq_of_lt h]
theorem wb_of (x : Int64) : ∃ n, n < 2 ^ 64 ∧ x = lN n := ⟨x.toBitVec.toNat, x.toBitVec.isLt, wb_inj (by rw [wb_tb]; simp)⟩
theorem wb_of32 (x : Int32) : ∃ n, n < 2 ^ 32 ∧ x = nI n := ⟨x.toBitVec.toNat, x.toBitVec.isLt, Int32.toBitVec_inj.mp (by show _ = BitVec.ofNat 32 _; simp)⟩
theorem wb_c : ∀ k, k < 64 → ((nI k).toInt64 &&& 63) = lN k := by decide +kernel
theorem wb_cu : ∀ k, k < 64 → ((nI k).toInt64.toUInt64 &&& Int64.toUInt64 63) = UInt64.ofNat k := by decide +kernel
theorem wb_sm : ∀ k, k < 64 → (BitVec.ofNat 64 k).smod 64 = BitVec.ofNat 64 k := by decide +kernel
theorem wb_pw {a b : Nat} (h : a ≤ b) : 2 ^ b = 2 ^ a * 2 ^ (b - a) := by rw [← Nat.pow_add]; congr 1; omega
theorem wb_lt2 {a b : Nat} (h : a < b) : 2 ^ a < 2 ^ b := Nat.pow_lt_pow_right (by decide) h
theorem wb_mod (n : Nat) : lN n = lN (n % 2 ^ 64) := wb_inj (by rw [wb_tb, wb_tb]; apply BitVec.eq_of_toNat_eq; rw [BitVec.toNat_ofNat, BitVec.toNat_ofNat, Nat.mod_mod])
theorem wb_shr {n k : Nat} (hn : n < 2 ^ 64) (hk : k < 64) : ((lN n).toUInt64 >>> ((nI k).toInt64.toUInt64 &&& Int64.toUInt64 63)).toInt64 = lN (n / 2 ^ k) := by
  rw [wb_cu k hk]
  apply wb_inj
  apply BitVec.eq_of_toNat_eq
  show ((lN n).toUInt64 >>> UInt64.ofNat k).toNat = (BitVec.ofNat 64 _).toNat
  have h1 : (UInt64.ofNat k).toNat = k := by
    show (BitVec.ofNat 64 k).toNat = k
    rw [BitVec.toNat_ofNat, Nat.mod_eq_of_lt (by omega)]
  have h2 : (lN n).toUInt64.toNat = n := wb_tn hn
  rw [UInt64.toNat_shiftRight, h1, h2, Nat.mod_eq_of_lt hk, Nat.shiftRight_eq_div_pow, BitVec.toNat_ofNat, Nat.mod_eq_of_lt (Nat.lt_of_le_of_lt (Nat.div_le_self _ _) hn)]
theorem wb_shl (n : Nat) {k : Nat} (hk : k < 64) : lN n <<< ((nI k).toInt64 &&& 63) = lN (n * 2 ^ k) := by
  rw [wb_c k hk]
  apply wb_inj
  rw [Int64.toBitVec_shiftLeft, wb_tb, wb_tb, wb_tb, wb_sm k hk]
  apply BitVec.eq_of_toNat_eq
  rw [BitVec.shiftLeft_eq', BitVec.toNat_shiftLeft, BitVec.toNat_ofNat, BitVec.toNat_ofNat, BitVec.toNat_ofNat, Nat.mod_eq_of_lt (show k < 2 ^ 64 by omega), Nat.shiftLeft_eq, Nat.mul_mod, Nat.mod_mod, ← Nat.mul_mod]
theorem wb_and {a b : Nat} (ha : a < 2 ^ 64) (hb : b < 2 ^ 64) : lN a &&& lN b = lN (a &&& b) := by
  apply wb_inj
  rw [Int64.toBitVec_and, wb_tb, wb_tb, wb_tb]
  apply BitVec.eq_of_toNat_eq
  rw [BitVec.toNat_and, BitVec.toNat_ofNat, BitVec.toNat_ofNat, BitVec.toNat_ofNat, Nat.mod_eq_of_lt ha, Nat.mod_eq_of_lt hb, Nat.mod_eq_of_lt (Nat.and_lt_two_pow _ hb)]
theorem wb_or {a b : Nat} (ha : a < 2 ^ 64) (hb : b < 2 ^ 64) : lN a ||| lN b = lN (a ||| b) := by
  apply wb_inj
  rw [Int64.toBitVec_or, wb_tb, wb_tb, wb_tb]
  apply BitVec.eq_of_toNat_eq
  rw [BitVec.toNat_or, BitVec.toNat_ofNat, BitVec.toNat_ofNat, BitVec.toNat_ofNat, Nat.mod_eq_of_lt ha, Nat.mod_eq_of_lt hb, Nat.mod_eq_of_lt (Nat.or_lt_two_pow ha hb)]
theorem wb_mask {n k : Nat} (hn : n < 2 ^ 64) (hk : k < 64) : lN n &&& lN (2 ^ k - 1) = lN (n % 2 ^ k) := by
  rw [wb_and hn (by have := wb_lt2 hk; omega), Nat.and_two_pow_sub_one_eq_mod]
theorem wb_a1 {n : Nat} (hn : n < 2 ^ 64) : lN n &&& 1 = lN (n % 2) := wb_mask (k := 1) hn (by decide)
theorem wb_bit {n k : Nat} (hn : n < 2 ^ 64) (hk : k < 64) : ((lN n).toUInt64 >>> ((nI k).toInt64.toUInt64 &&& Int64.toUInt64 63)).toInt64 &&& 1 = lN (n / 2 ^ k % 2) := by
  rw [wb_shr hn hk, wb_a1 (Nat.lt_of_le_of_lt (Nat.div_le_self _ _) hn)]
theorem wb_xor {q k : Nat} (hk : k < 63) (h : 2 ^ k ≤ q) (h2 : q < 2 ^ (k + 1)) : lN q ^^^ lN (2 ^ k) = lN (q - 2 ^ k) := by
  obtain ⟨r, rfl⟩ : ∃ r, q = 2 ^ k + r := ⟨q - 2 ^ k, by omega⟩
  have hr : r < 2 ^ k := by rw [Nat.pow_succ] at h2; omega
  have hx : (2 ^ k + r) ^^^ 2 ^ k = r := by
    apply Nat.eq_of_testBit_eq
    intro i
    rw [Nat.testBit_xor, Nat.testBit_two_pow]
    rcases Nat.lt_trichotomy i k with h | h | h
    · rw [Nat.testBit_two_pow_add_gt h]
      simp [show ¬ k = i by omega]
    · subst h
      rw [Nat.testBit_two_pow_add_eq]
      simp
    · have a1 : 2 ^ (k + 1) ≤ 2 ^ i := Nat.pow_le_pow_right (by decide) h
      rw [Nat.testBit_lt_two_pow (show 2 ^ k + r < 2 ^ i by omega), Nat.testBit_lt_two_pow (show r < 2 ^ i by omega)]
      simp [show ¬ k = i by omega]
  have b1 := wb_lt2 (show k + 1 < 64 by omega)
  have b2 := wb_lt2 (show k < 64 by omega)
  apply wb_inj
  rw [Int64.toBitVec_xor, wb_tb, wb_tb, wb_tb]
  apply BitVec.eq_of_toNat_eq
  rw [BitVec.toNat_xor, BitVec.toNat_ofNat, BitVec.toNat_ofNat, BitVec.toNat_ofNat, Nat.mod_eq_of_lt (by omega : 2 ^ k + r < 2 ^ 64), Nat.mod_eq_of_lt b2, hx, Nat.add_sub_cancel_left, Nat.mod_eq_of_lt (by omega)]
/-! ===== lN: masks, 'or' of parts that don't overlap is a sum ===== -/
theorem u_tn {n : Nat} (h : n < 2 ^ 64) : (UInt64.ofNat n).toNat = n := Nat.mod_eq_of_lt h
theorem g_and {a b c : Nat} (ha : a < 2 ^ 64) (hb : b < 2 ^ 64) (hc : a &&& b = c) : lN a &&& lN b = lN c := by
  subst hc
  have h : UInt64.ofNat a &&& UInt64.ofNat b = UInt64.ofNat (a &&& b) := UInt64.toNat_inj.mp (by rw [UInt64.toNat_and, u_tn ha, u_tn hb, u_tn (Nat.and_lt_two_pow a hb)])
  have h2 := congrArg UInt64.toInt64 h
  exact h2
theorem g_and1 {a : Nat} (ha : a < 2 ^ 64) : lN a &&& 1 = lN (a % 2) := g_and (b := 1) ha (by decide) (Nat.and_two_pow_sub_one_eq_mod a 1)
theorem g_mask {a s p : Nat} (hp : 2 ^ s = p) (hs : s < 64) (ha : a < 2 ^ 64) : lN a &&& lN (p - 1) = lN (a % p) := by
  subst hp
  have := Nat.pow_lt_pow_right (show 1 < 2 by decide) hs
  exact g_and ha (by omega) (Nat.and_two_pow_sub_one_eq_mod a s)
theorem g_or {k p a b : Nat} (hp : 2 ^ k = p) (ha : a < p) (h : b * p + a < 2 ^ 64) : lN (b * p) ||| lN a = lN (b * p + a) := by
  subst hp
  have h1 : b * 2 ^ k ||| a = b * 2 ^ k + a := by rw [← Nat.shiftLeft_eq, Nat.shiftLeft_add_eq_or_of_lt ha]
  have h3 : UInt64.ofNat (b * 2 ^ k) ||| UInt64.ofNat a = UInt64.ofNat (b * 2 ^ k + a) := UInt64.toNat_inj.mp (by rw [UInt64.toNat_or, u_tn (by omega), u_tn (by omega), u_tn h, h1])
  have h2 := congrArg UInt64.toInt64 h3
  exact h2
theorem g_or' {k p a b : Nat} (hp : 2 ^ k = p) (ha : a < p) (h : a + b * p < 2 ^ 64) : lN a ||| lN (b * p) = lN (a + b * p) := by
  rw [Int64.or_comm, g_or hp ha (by omega), Nat.add_comm]
theorem g_ushr {a k p : Nat} {y : UInt64} (hy : y = UInt64.ofNat k) (hk : k < 64) (hp : 2 ^ k = p) (ha : a < 2 ^ 64) : ((lN a).toUInt64 >>> y).toInt64 = lN (a / p) := by
  subst hy hp
  have h : UInt64.ofNat a >>> UInt64.ofNat k = UInt64.ofNat (a / 2 ^ k) := UInt64.toNat_inj.mp (by rw [UInt64.toNat_shiftRight, u_tn ha, u_tn (by omega), u_tn (Nat.lt_of_le_of_lt (Nat.div_le_self _ _) ha), Nat.mod_eq_of_lt hk, Nat.shiftRight_eq_div_pow])
  have h2 := congrArg UInt64.toInt64 h
  exact h2
theorem g_shl {a k p : Nat} {y : Int64} (hy : y.toBitVec.smod 64 = BitVec.ofNat 64 k) (hk : k < 64) (hp : 2 ^ k = p) (ha : a < 2 ^ 64) : lN a <<< y = lN (a * p) := by
  subst hp
  apply Int64.toBitVec_inj.mp
  rw [Int64.toBitVec_shiftLeft, hy]
  apply BitVec.eq_of_toNat_eq
  have hb : (lN a).toBitVec.toNat = a := Nat.mod_eq_of_lt ha
  have hk' : (BitVec.ofNat 64 k).toNat = k := Nat.mod_eq_of_lt (by omega)
  have h : ((lN a).toBitVec <<< BitVec.ofNat 64 k).toNat = (a * 2 ^ k) % 2 ^ 64 := by simp only [BitVec.shiftLeft_eq', BitVec.toNat_shiftLeft, hb, hk', Nat.shiftLeft_eq]
  exact h
/-! ===== lN to 2^62 under >> and >>> ===== -/
theorem pf_lI {a : Nat} (h : a < 2 ^ 63) : (lN a).toInt = (a : Int) := lg_ofNat_toInt h
theorem pf_shr {a d : Nat} {D : Int64} (hD : (D.toBitVec.smod 64).toNat = d) (h : a < 2 ^ 62) : lN a >>> D = lN (a / 2 ^ d) := by
  have hd : a / 2 ^ d ≤ a := Nat.div_le_self _ _
  apply Int64.toInt_inj.mp
  have e : (lN a >>> D).toInt = (lN a).toInt >>> d := by
    rw [← hD]
    exact BitVec.toInt_sshiftRight ..
  rw [e, Int.shiftRight_eq_div_pow, pf_lI (by omega), pf_lI (by omega)]
  rfl
theorem pf_ushr {a d : Nat} {D : UInt64} (hD : D.toNat % 64 = d) (h : a < 2 ^ 62) : ((lN a).toUInt64 >>> D).toInt64 = lN (a / 2 ^ d) := by
  have hd : a / 2 ^ d ≤ a := Nat.div_le_self _ _
  have e : (lN a).toUInt64 >>> D = UInt64.ofNat (a / 2 ^ d) := UInt64.toNat_inj.mp (by
    rw [UInt64.toNat_shiftRight, hD, Nat.shiftRight_eq_div_pow, UInt64.toNat_ofNat']
    show (UInt64.ofNat a).toNat / 2 ^ d = _
    rw [UInt64.toNat_ofNat', Nat.mod_eq_of_lt (by omega), Nat.mod_eq_of_lt (by omega)])
  rw [e]
  rfl
theorem pf_andw (x : Int64) : ∃ m, m < 2 ^ 32 ∧ x &&& 4294967295 = lN m := ⟨x.toBitVec.toNat % 2 ^ 32, Nat.mod_lt _ (by decide), Int64.toBitVec_inj.mp (BitVec.eq_of_toNat_eq (by
  show (x.toBitVec &&& 4294967295#64).toNat = (BitVec.ofNat 64 (x.toBitVec.toNat % 2 ^ 32)).toNat
  rw [BitVec.toNat_and, show (4294967295#64).toNat = 2 ^ 32 - 1 from by decide, Nat.and_two_pow_sub_one_eq_mod, BitVec.toNat_ofNat]
  omega))⟩
/-! ===== Int64 as an unsigned number: uN x ===== -/
def uN (x : Int64) : Nat := x.toUInt64.toNat
theorem uN_lt (x : Int64) : uN x < 18446744073709551616 := x.toUInt64.toNat_lt
theorem uN_inj {x y : Int64} (h : uN x = uN y) : x = y := congrArg UInt64.toInt64 (UInt64.toNat_inj.mp h)
theorem uN_add (x y : Int64) : uN (x + y) = (uN x + uN y) % 18446744073709551616 := by
  show (x.toUInt64 + y.toUInt64).toNat = _
  exact UInt64.toNat_add _ _
theorem uN_mul (x y : Int64) : uN (x * y) = (uN x * uN y) % 18446744073709551616 := by
  show (x.toUInt64 * y.toUInt64).toNat = _
  exact UInt64.toNat_mul _ _
theorem uN_shl (x : Int64) : uN (x <<< ((1 : Int32).toInt64 &&& 63)) = (2 * uN x) % 18446744073709551616 := by
  have h : (((1 : Int32).toInt64 &&& 63).toBitVec.smod 64).toNat = 1 := by decide
  show (x.toBitVec <<< (((1 : Int32).toInt64 &&& 63).toBitVec.smod 64).toNat).toNat = _
  rw [h, BitVec.toNat_shiftLeft, Nat.shiftLeft_eq, Nat.mul_comm]
  rfl
theorem uN_shr (x : Int64) (s : UInt64) : uN (x.toUInt64 >>> s).toInt64 = uN x / 2 ^ (s.toNat % 64) := by
  show (x.toUInt64 >>> s).toNat = _
  rw [UInt64.toNat_shiftRight, Nat.shiftRight_eq_div_pow]
  rfl
theorem uN_s32 (x : Int64) : uN (x.toUInt64 >>> ((32 : Int32).toInt64.toUInt64 &&& Int64.toUInt64 63)).toInt64 = uN x / 4294967296 := by
  have h : ((32 : Int32).toInt64.toUInt64 &&& Int64.toUInt64 63).toNat % 64 = 32 := by decide
  rw [uN_shr, h]
theorem uN_s63 (x : Int64) : uN (x.toUInt64 >>> ((63 : Int32).toInt64.toUInt64 &&& Int64.toUInt64 63)).toInt64 = uN x / 9223372036854775808 := by
  have h : ((63 : Int32).toInt64.toUInt64 &&& Int64.toUInt64 63).toNat % 64 = 63 := by decide
  rw [uN_shr, h]
theorem uN_lo (x : Int64) : uN (x &&& 4294967295) = uN x % 4294967296 := by
  show (x.toUInt64 &&& Int64.toUInt64 4294967295).toNat = _
  rw [UInt64.toNat_and]
  exact Nat.and_two_pow_sub_one_eq_mod _ 32
theorem uN_bit (x : Int64) : (x &&& 1) = 0 ↔ uN x % 2 = 0 := by
  have h : uN (x &&& 1) = uN x % 2 := by
    show (x.toUInt64 &&& Int64.toUInt64 1).toNat = _
    rw [UInt64.toNat_and]
    exact Nat.and_two_pow_sub_one_eq_mod _ 1
  rw [← h]
  exact ⟨fun z => by rw [z]; rfl, fun z => uN_inj (z.trans rfl)⟩
theorem uN_or {x y : Int64} (hy : uN y < 2) : uN ((x <<< ((1 : Int32).toInt64 &&& 63)) ||| y) = (2 * uN x) % 18446744073709551616 + uN y := by
  have h1 : uN ((x <<< ((1 : Int32).toInt64 &&& 63)) ||| y) = uN (x <<< ((1 : Int32).toInt64 &&& 63)) ||| uN y := UInt64.toNat_or _ _
  have h2 : (2 * uN x) % 18446744073709551616 = 2 ^ 1 * (uN x % 9223372036854775808) := by omega
  rw [h1, uN_shl, h2]
  exact (Nat.two_pow_add_eq_or_of_lt (i := 1) hy _).symm
theorem nat_xor {a : Nat} (h : a < 18446744073709551616) : a ^^^ 2 ^ 63 = (a + 9223372036854775808) % 18446744073709551616 := by
  have h1 : (a ^^^ 2 ^ 63) % 2 ^ 63 = a % 2 ^ 63 := by rw [Nat.xor_mod_two_pow, Nat.mod_self, Nat.xor_zero]
  have h2 : (a ^^^ 2 ^ 63) / 2 ^ 63 = (a / 2 ^ 63) ^^^ 1 := by rw [Nat.xor_div_two_pow, Nat.div_self (Nat.two_pow_pos 63)]
  have h3 : a / 2 ^ 63 = 0 ∨ a / 2 ^ 63 = 1 := by omega
  generalize a ^^^ 2 ^ 63 = t at h1 h2
  rcases h3 with h3 | h3
  · rw [h3] at h2
    have h2 : t / 2 ^ 63 = 1 := h2
    omega
  · rw [h3] at h2
    have h2 : t / 2 ^ 63 = 0 := h2
    omega
theorem uN_xor (x : Int64) : uN (x ^^^ (-9223372036854775808)) = (uN x + 9223372036854775808) % 18446744073709551616 := by
  rw [← nat_xor (uN_lt x)]
  exact UInt64.toNat_xor _ _
theorem uN_int (x : Int64) : x.toInt = if 2 * uN x < 18446744073709551616 then (uN x : Int) else (uN x : Int) - 18446744073709551616 := BitVec.toInt_eq_toNat_cond _
theorem uN_le (x y : Int64) : (x ^^^ (-9223372036854775808)) ≤ (y ^^^ (-9223372036854775808)) ↔ uN x ≤ uN y := by
  have hx := uN_lt x
  have hy := uN_lt y
  rw [Int64.le_iff_toInt_le, uN_int, uN_int, uN_xor, uN_xor]
  omega
theorem uN_sk (x : Int64) {k : Nat} (hk : k < 64) : uN (x.toUInt64 >>> ((nI k).toInt64.toUInt64 &&& Int64.toUInt64 63)).toInt64 = uN x / 2 ^ k := by
  have h : ((nI k).toInt64.toUInt64 &&& Int64.toUInt64 63).toNat % 64 = k := by
    rw [nI_l (by omega), UInt64.toNat_and]
    have e : (lN k).toUInt64.toNat = k % 2 ^ 64 := rfl
    have e2 : (Int64.toUInt64 63).toNat = 2 ^ 6 - 1 := by decide
    rw [e, e2, Nat.and_two_pow_sub_one_eq_mod]
    omega
  rw [uN_shr, h]
/-! ===== unsigned comparison by xor with the least ===== -/
theorem lN_bv (n : Nat) : (lN n).toBitVec = BitVec.ofNat 64 n := rfl
theorem lN_nat {n : Nat} (h : n < 2 ^ 64) : (lN n).toBitVec.toNat = n := by rw [lN_bv, BitVec.toNat_ofNat]; exact Nat.mod_eq_of_lt h
theorem lN_xor (a b : Nat) : lN a ^^^ lN b = lN (a ^^^ b) := by
  apply Int64.toBitVec_inj.mp; rw [Int64.toBitVec_xor, lN_bv, lN_bv, lN_bv]; apply BitVec.eq_of_getLsbD_eq; intro i hi; simp [BitVec.getLsbD_ofNat, Nat.testBit_xor, hi]
theorem lN_ti {m : Nat} (h : m < 2 ^ 64) : (lN m).toInt = if m < 2 ^ 63 then (m : Int) else (m : Int) - 2 ^ 64 := by
  have c := BitVec.toInt_eq_toNat_cond (lN m).toBitVec
  rw [lN_nat h] at c
  show (lN m).toBitVec.toInt = _
  rw [c]
  split <;> split <;> omega
theorem xor63 {x : Nat} (h : x < 2 ^ 63) : x ^^^ 2 ^ 63 = 2 ^ 63 + x := by
  apply Nat.eq_of_testBit_eq
  intro i
  rw [Nat.testBit_xor, Nat.testBit_two_pow]
  rcases Nat.lt_trichotomy i 63 with z | z | z
  · rw [Nat.testBit_two_pow_add_gt z, decide_eq_false (by omega)]; simp
  · subst z; rw [Nat.testBit_two_pow_add_eq]; simp
  · have hp : 2 ^ 64 ≤ 2 ^ i := Nat.pow_le_pow_right (by decide) z
    rw [Nat.testBit_lt_two_pow (show x < 2 ^ i by omega), Nat.testBit_lt_two_pow (show 2 ^ 63 + x < 2 ^ i by omega), decide_eq_false (by omega)]; rfl
theorem xorS {a : Nat} (h : a < 2 ^ 64) : (lN a ^^^ (-9223372036854775808)).toInt = (a : Int) - 2 ^ 63 := by
  rw [show (-9223372036854775808 : Int64) = lN (2 ^ 63) from by decide +kernel, lN_xor]
  rcases Nat.lt_or_ge a (2 ^ 63) with z | z
  · rw [xor63 z, lN_ti (by omega), if_neg (by omega)]; omega
  · obtain ⟨x, rfl⟩ : ∃ x, a = 2 ^ 63 + x := ⟨a - 2 ^ 63, by omega⟩
    rw [← xor63 (by omega), Nat.xor_assoc, Nat.xor_self, Nat.xor_zero, lN_ti (by omega), if_pos (by omega), xor63 (by omega)]; omega
theorem ultL {a b : Nat} (ha : a < 2 ^ 64) (hb : b < 2 ^ 64) : ((lN b ^^^ (-9223372036854775808)) ≤ (lN a ^^^ (-9223372036854775808))) ↔ b ≤ a := by
  rw [Int64.le_iff_toInt_le, xorS ha, xorS hb]; omega
/-! ===== Int64 masks of n low bits ===== -/
theorem cr_bits (W U M : BitVec 64) : ((W &&& U) &&& (U &&& (M ^^^ BitVec.allOnes 64))) = 0#64 ↔ (W &&& U) &&& M = W &&& U := by
  constructor
  · intro h
    apply BitVec.eq_of_getLsbD_eq
    intro i hi
    have e := congrArg (fun x => BitVec.getLsbD x i) h
    simp only [BitVec.getLsbD_and, BitVec.getLsbD_xor, BitVec.getLsbD_allOnes, BitVec.getLsbD_zero, hi, decide_true] at e ⊢
    revert e
    cases W.getLsbD i <;> cases U.getLsbD i <;> cases M.getLsbD i <;> decide
  · intro h
    apply BitVec.eq_of_getLsbD_eq
    intro i hi
    have e := congrArg (fun x => BitVec.getLsbD x i) h
    simp only [BitVec.getLsbD_and, BitVec.getLsbD_xor, BitVec.getLsbD_allOnes, BitVec.getLsbD_zero, hi, decide_true] at e ⊢
    revert e
    cases W.getLsbD i <;> cases U.getLsbD i <;> cases M.getLsbD i <;> decide
theorem cr_mask (w U m : Int64) (n : Nat) (hm : m.toBitVec.toNat = 2 ^ n - 1) : ((w &&& U) &&& (U &&& (m ^^^ (-1)))) = 0 ↔ (w &&& U).toBitVec.toNat < 2 ^ n := by
  have e0 : (-1 : Int64).toBitVec = BitVec.allOnes 64 := by decide
  have z0 : (0 : Int64).toBitVec = 0#64 := by decide
  rw [← Int64.toBitVec_inj, z0, Int64.toBitVec_and, Int64.toBitVec_and, Int64.toBitVec_and, Int64.toBitVec_xor, e0, cr_bits]
  generalize w.toBitVec &&& U.toBitVec = T
  rw [← BitVec.toNat_inj, BitVec.toNat_and, hm, Nat.and_two_pow_sub_one_eq_mod]
  constructor
  · intro h
    have t := Nat.mod_lt T.toNat (Nat.two_pow_pos n)
    rw [h] at t
    exact t
  · exact Nat.mod_eq_of_lt
theorem cr_shr (t : Int64) (x : UInt64) (n : Nat) (hx : x.toNat % 64 = n) : (t.toUInt64 >>> x).toInt64 = 0 ↔ t.toBitVec.toNat < 2 ^ n := by
  rw [← Int64.toBitVec_inj, ← BitVec.toNat_inj]
  show (t.toUInt64 >>> x).toNat = 0 ↔ t.toUInt64.toNat < 2 ^ n
  rw [UInt64.toNat_shiftRight, hx, Nat.shiftRight_eq_div_pow]
  constructor
  · intro h
    have d : t.toUInt64.toNat / 2 ^ n < 1 := by
      rw [h]
      decide
    have e := (Nat.div_lt_iff_lt_mul (Nat.two_pow_pos n)).mp d
    rw [Nat.one_mul] at e
    exact e
  · exact Nat.div_eq_of_lt
theorem cr_amt (s : Int64) : ∃ n, n < 64 ∧ s &&& 63 = lN n ∧ (s.toUInt64 &&& Int64.toUInt64 63).toNat % 64 = n := by
  have e : (s.toUInt64 &&& Int64.toUInt64 63).toNat = s.toUInt64.toNat % 2 ^ 6 := by
    rw [UInt64.toNat_and, show (Int64.toUInt64 63).toNat = 2 ^ 6 - 1 from by decide, Nat.and_two_pow_sub_one_eq_mod]
  refine ⟨s.toUInt64.toNat % 2 ^ 6, by omega, ?_, by omega⟩
  rw [← Int64.toBitVec_inj, ← BitVec.toNat_inj]
  show (s.toUInt64 &&& Int64.toUInt64 63).toNat = (BitVec.ofNat 64 (s.toUInt64.toNat % 2 ^ 6)).toNat
  rw [e, BitVec.toNat_ofNat]
  omega
end
section
section ZS
/-! sums below a bound -/
def zs_sm (f : Nat → Nat) : Nat → Nat
  | 0 => 0
  | n + 1 => zs_sm f n + f n
theorem zs_0 (f : Nat → Nat) : zs_sm f 0 = 0 := rfl
theorem zs_s (f : Nat → Nat) (n : Nat) : zs_sm f (n + 1) = zs_sm f n + f n := rfl
theorem zs_congr {f g : Nat → Nat} {n : Nat} (h : ∀ i, i < n → f i = g i) : zs_sm f n = zs_sm g n := by
  induction n with
  | zero => rfl
  | succ n ih => rw [zs_s, zs_s, ih (fun i hi => h i (by omega)), h n (by omega)]
theorem zs_add (f g : Nat → Nat) (n : Nat) : zs_sm (fun i => f i + g i) n = zs_sm f n + zs_sm g n := by
  induction n with
  | zero => rfl
  | succ n ih => rw [zs_s, zs_s, zs_s, ih]; omega
theorem zs_mul (c : Nat) (f : Nat → Nat) (n : Nat) : zs_sm (fun i => c * f i) n = c * zs_sm f n := by
  induction n with
  | zero => rfl
  | succ n ih => rw [zs_s, zs_s, ih, Nat.mul_add]
theorem zs_zero {f : Nat → Nat} {n : Nat} (h : ∀ i, i < n → f i = 0) : zs_sm f n = 0 := by
  induction n with
  | zero => rfl
  | succ n ih => rw [zs_s, ih (fun i hi => h i (by omega)), h n (by omega)]
theorem zs_le {f g : Nat → Nat} {n : Nat} (h : ∀ i, i < n → f i ≤ g i) : zs_sm f n ≤ zs_sm g n := by
  induction n with
  | zero => exact Nat.le_refl _
  | succ n ih =>
    have a := ih (fun i hi => h i (by omega))
    have b := h n (by omega)
    rw [zs_s, zs_s]; omega
theorem zs_mem {f : Nat → Nat} {n a : Nat} (h : a < n) : f a ≤ zs_sm f n := by
  induction n with
  | zero => omega
  | succ n ih =>
    rw [zs_s]
    by_cases e : a = n
    · subst e; omega
    · have := ih (by omega); omega
theorem zs_mono {f : Nat → Nat} {m n : Nat} (h : m ≤ n) : zs_sm f m ≤ zs_sm f n := by
  induction n with
  | zero =>
    have : m = 0 := by omega
    subst this
    exact Nat.le_refl _
  | succ n ih =>
    by_cases e : m = n + 1
    · subst e; exact Nat.le_refl _
    · have := ih (by omega)
      rw [zs_s]; omega
theorem zs_const (c n : Nat) : zs_sm (fun _ => c) n = n * c := by
  induction n with
  | zero => rw [zs_0, Nat.zero_mul]
  | succ n ih => rw [zs_s, ih, Nat.succ_mul]
theorem zs_bound {f : Nat → Nat} {n c : Nat} (h : ∀ i, i < n → f i ≤ c) : zs_sm f n ≤ n * c := by
  rw [← zs_const c n]
  exact zs_le h
theorem zs_comm (f : Nat → Nat → Nat) (n m : Nat) : zs_sm (fun i => zs_sm (f i) m) n = zs_sm (fun j => zs_sm (fun i => f i j) n) m := by
  induction n with
  | zero =>
    rw [zs_0]
    exact (zs_zero (fun i _ => rfl)).symm
  | succ n ih =>
    rw [zs_s, ih, ← zs_add]
    exact zs_congr (fun i _ => rfl)
/-- a change at one place -/
theorem zs_upd {f g : Nat → Nat} {n a : Nat} (h : a < n) (hg : ∀ i, i < n → i ≠ a → g i = f i) : zs_sm g n + f a = zs_sm f n + g a := by
  induction n with
  | zero => omega
  | succ n ih =>
    rw [zs_s, zs_s]
    by_cases e : a = n
    · subst e
      rw [zs_congr (f := g) (g := f) (fun i hi => hg i (by omega) (by omega))]
      omega
    · have := ih (by omega) (fun i hi hn => hg i (by omega) hn)
      have := hg n (by omega) (by omega)
      omega
theorem zs_one {n a : Nat} (h : a < n) (f : Nat → Nat) : zs_sm (fun i => if i = a then f i else 0) n = f a := by
  have := zs_upd (f := fun _ => 0) (g := fun i => if i = a then f i else 0) h (fun i _ hn => if_neg hn)
  rw [zs_zero (f := fun _ => 0) (fun _ _ => rfl)] at this
  simp only [if_true] at this
  omega
/-- a strictly larger sum: one place is strictly larger -/
theorem zs_lt {f g : Nat → Nat} {n a : Nat} (h : ∀ i, i < n → f i ≤ g i) (ha : a < n) (hl : f a < g a) : zs_sm f n < zs_sm g n := by
  induction n with
  | zero => omega
  | succ n ih =>
    rw [zs_s, zs_s]
    by_cases e : a = n
    · subst e
      have := zs_le (f := f) (g := g) (n := a) (fun i hi => h i (by omega))
      omega
    · have := ih (fun i hi => h i (by omega)) (by omega)
      have := h n (by omega)
      omega
/-- how many below k -/
theorem zs_below {n k : Nat} (h : k ≤ n) : zs_sm (fun j => if j < k then 1 else 0) n = k := by
  induction n with
  | zero => rw [zs_0]; omega
  | succ n ih =>
    rw [zs_s]
    by_cases e : k = n + 1
    · subst e
      rw [zs_congr (g := fun _ => 1) (fun i hi => if_pos (by omega)), zs_const, if_pos (by omega)]; omega
    · rw [ih (by omega), if_neg (by omega)]; omega
/-! permutations of the numbers below n -/
def zp_pm (n : Nat) (o : Nat → Nat) : Prop := (∀ i, i < n → o i < n) ∧ (∀ i j, i < n → j < n → o i = o j → i = j)
theorem zp_surj {n : Nat} {o : Nat → Nat} (h : zp_pm n o) : ∀ q, q < n → ∃ j, j < n ∧ o j = q := by
  intro q hq
  have nd : ((List.range n).map o).Nodup := by
    rw [List.nodup_iff_pairwise_ne, List.pairwise_map]
    refine List.Pairwise.imp_of_mem ?_ (List.nodup_iff_pairwise_ne.mp List.nodup_range)
    intro a b ha hb hab e
    exact hab (h.2 a b (List.mem_range.mp ha) (List.mem_range.mp hb) e)
  have := covers_all n ((List.range n).map o) nd (by
    intro x hx
    obtain ⟨i, hi, rfl⟩ := List.mem_map.mp hx
    exact h.1 i (List.mem_range.mp hi)) (by rw [List.length_map, List.length_range]) q hq
  obtain ⟨i, hi, e⟩ := List.mem_map.mp this
  exact ⟨i, List.mem_range.mp hi, e⟩
theorem zp_re {n : Nat} {o : Nat → Nat} (h : zp_pm n o) (f : Nat → Nat) : zs_sm (fun j => f (o j)) n = zs_sm f n := by
  have e1 : zs_sm (fun j => f (o j)) n = zs_sm (fun j => zs_sm (fun q => if q = o j then f q else 0) n) n :=
    zs_congr (fun j hj => (zs_one (h.1 j hj) f).symm)
  rw [e1, zs_comm]
  refine zs_congr (fun q hq => ?_)
  obtain ⟨j0, hj0, rfl⟩ := zp_surj h q hq
  have e2 : zs_sm (fun j => if o j0 = o j then f (o j0) else 0) n = zs_sm (fun j => if j = j0 then f (o j0) else 0) n := by
    refine zs_congr (fun j hj => ?_)
    by_cases e : j = j0
    · subst e; rw [if_pos rfl, if_pos rfl]
    · rw [if_neg e, if_neg (fun c => e (h.2 j j0 hj hj0 c.symm))]
  rw [e2, zs_one hj0 (fun _ => f (o j0))]
theorem zp_id (n : Nat) : zp_pm n (fun i => i) := ⟨fun _ h => h, fun _ _ _ _ h => h⟩
theorem zp_comp {n : Nat} {o p : Nat → Nat} (h : zp_pm n o) (g : zp_pm n p) : zp_pm n (fun i => o (p i)) :=
  ⟨fun i hi => h.1 _ (g.1 i hi), fun i j hi hj e => g.2 i j hi hj (h.2 _ _ (g.1 i hi) (g.1 j hj) e)⟩
def zp_sw (a b : Nat) : Nat → Nat := fun j => if j = a then b else if j = b then a else j
theorem zp_swp {n a b : Nat} (ha : a < n) (hb : b < n) : zp_pm n (zp_sw a b) := by
  refine ⟨fun i hi => ?_, fun i j hi hj e => ?_⟩
  · unfold zp_sw; split <;> (try split) <;> omega
  · unfold zp_sw at e; split at e <;> (try split at e) <;> (try split at e) <;> (try split at e) <;> omega
/-! the rank by a key -/
def zp_rk (g : Nat → Nat) (n p : Nat) : Nat := zs_sm (fun q => if g q < g p then 1 else 0) n
theorem zp_rk_lt {g : Nat → Nat} {n p q : Nat} (hp : p < n) (h : g p < g q) : zp_rk g n p < zp_rk g n q := by
  refine zs_lt (a := p) (fun i _ => ?_) hp ?_
  · split <;> split <;> omega
  · rw [if_neg (by omega), if_pos h]; omega
theorem zp_rk_n {g : Nat → Nat} {n p : Nat} (hp : p < n) : zp_rk g n p < n := by
  have := zs_lt (f := fun q => if g q < g p then 1 else 0) (g := fun _ => 1) (n := n) (a := p) (fun i _ => by split <;> omega) hp (by rw [if_neg (by omega)]; omega)
  rw [zs_const] at this
  unfold zp_rk; omega
theorem zp_rk_pm {g : Nat → Nat} {n : Nat} (hg : ∀ i j, i < n → j < n → g i = g j → i = j) : zp_pm n (zp_rk g n) := by
  refine ⟨fun i hi => zp_rk_n hi, fun i j hi hj e => ?_⟩
  rcases Nat.lt_trichotomy (g i) (g j) with h | h | h
  · have := zp_rk_lt (n := n) hi h; omega
  · exact hg i j hi hj h
  · have := zp_rk_lt (n := n) hj h; omega
theorem zp_rk_congr {g g' : Nat → Nat} {n p : Nat} (hp : p < n) (h : ∀ a b, a < n → b < n → (g a < g b ↔ g' a < g' b)) : zp_rk g n p = zp_rk g' n p := by
  refine zs_congr (fun q hq => ?_)
  by_cases c : g q < g p
  · rw [if_pos c, if_pos ((h q p hq hp).mp c)]
  · rw [if_neg c, if_neg (fun d => c ((h q p hq hp).mpr d))]
/-- a permutation that rises by the key: the rank of its k-th is k -/
theorem zp_rk_so {g o : Nat → Nat} {n k : Nat} (h : zp_pm n o) (hs : ∀ i j, i < j → j < n → g (o i) < g (o j)) (hk : k < n) : zp_rk g n (o k) = k := by
  unfold zp_rk
  rw [← zp_re h (fun q => if g q < g (o k) then 1 else 0)]
  rw [zs_congr (g := fun j => if j < k then 1 else 0) (fun j hj => ?_), zs_below (by omega)]
  rcases Nat.lt_trichotomy j k with c | c | c
  · rw [if_pos c, if_pos (hs j k c hk)]
  · subst c; rw [if_neg (by omega), if_neg (by omega)]
  · have := hs k j c hj
    rw [if_neg (by omega), if_neg (by omega)]
/-- the inverse of a permutation -/
def zp_iv (r : Nat → Nat) (n k : Nat) : Nat := zs_sm (fun p => if r p = k then p else 0) n
theorem zp_iv_of {r : Nat → Nat} {n p : Nat} (h : zp_pm n r) (hp : p < n) : zp_iv r n (r p) = p := by
  unfold zp_iv
  rw [zs_congr (g := fun q => if q = p then q else 0) (fun q hq => ?_), zs_one hp (fun q => q)]
  by_cases e : q = p
  · subst e; rw [if_pos rfl, if_pos rfl]
  · rw [if_neg e, if_neg (fun c => e (h.2 q p hq hp c))]
theorem zp_iv_r {r : Nat → Nat} {n k : Nat} (h : zp_pm n r) (hk : k < n) : zp_iv r n k < n ∧ r (zp_iv r n k) = k := by
  obtain ⟨p, hp, rfl⟩ := zp_surj h k hk
  rw [zp_iv_of h hp]
  exact ⟨hp, rfl⟩
theorem zp_iv_pm {r : Nat → Nat} {n : Nat} (h : zp_pm n r) : zp_pm n (zp_iv r n) := by
  refine ⟨fun i hi => (zp_iv_r h hi).1, fun i j hi hj e => ?_⟩
  have a := (zp_iv_r h hi).2
  have b := (zp_iv_r h hj).2
  rw [e] at a
  omega
/-- two rising sequences with equal counts are equal -/
theorem zp_two {f g : Nat → Nat} {n : Nat} (hf : ∀ i j, i ≤ j → j < n → f i ≤ f j) (hg : ∀ i j, i ≤ j → j < n → g i ≤ g j)
    (hc : ∀ v, zs_sm (fun j => if f j < v then 1 else 0) n = zs_sm (fun j => if g j < v then 1 else 0) n) : ∀ j, j < n → f j = g j := by
  have key : ∀ (f g : Nat → Nat), (∀ i j, i ≤ j → j < n → f i ≤ f j) → (∀ i j, i ≤ j → j < n → g i ≤ g j) → (∀ v, zs_sm (fun j => if f j < v then 1 else 0) n = zs_sm (fun j => if g j < v then 1 else 0) n) → ∀ j, j < n → ¬ f j < g j := by
    intro f g hf hg hc j hj hlt
    have a : zs_sm (fun i => if i < j + 1 then 1 else 0) n ≤ zs_sm (fun i => if f i < g j then 1 else 0) n := by
      refine zs_le (fun i hi => ?_)
      by_cases c : i < j + 1
      · have := hf i j (by omega) hj
        rw [if_pos c, if_pos (by omega)]; omega
      · rw [if_neg c]; omega
    have b : zs_sm (fun i => if g i < g j then 1 else 0) n ≤ zs_sm (fun i => if i < j then 1 else 0) n := by
      refine zs_le (fun i hi => ?_)
      by_cases c : i < j
      · rw [if_pos c]; split <;> omega
      · have := hg j i (by omega) hi
        rw [if_neg (by omega)]; omega
    rw [zs_below (by omega)] at a b
    rw [hc] at a
    omega
  intro j hj
  have a := key f g hf hg hc j hj
  have b := key g f hg hf (fun v => (hc v).symm) j hj
  omega
end ZS
end
section
section ZK
/-! rotations as numbers -/
def zk_R (n : Nat) (t : Nat → Nat) (p k : Nat) : Nat := t ((p + k) % n)
def zk_K (n : Nat) (t : Nat → Nat) (p : Nat) : Nat → Nat
  | 0 => 0
  | m + 1 => zk_K n t p m * 6 + zk_R n t p m
def zk_G (n : Nat) (t : Nat → Nat) (m p : Nat) : Nat := zk_K n t p m * 32 + p
theorem zk_K0 (n : Nat) (t : Nat → Nat) (p : Nat) : zk_K n t p 0 = 0 := rfl
theorem zk_Ks (n : Nat) (t : Nat → Nat) (p m : Nat) : zk_K n t p (m + 1) = zk_K n t p m * 6 + zk_R n t p m := rfl
variable {n : Nat} {t : Nat → Nat}
theorem zk_R6 (h0 : 0 < n) (ht : ∀ i, i < n → t i < 6) (p k : Nat) : zk_R n t p k < 6 := ht _ (Nat.mod_lt _ h0)
theorem zk_K_lt (h0 : 0 < n) (ht : ∀ i, i < n → t i < 6) (p m : Nat) : zk_K n t p m < 6 ^ m := by
  induction m with
  | zero => rw [zk_K0]; omega
  | succ m ih =>
    have := zk_R6 h0 ht p m
    rw [zk_Ks, Nat.pow_succ]; omega
theorem zk_R_mod (p k : Nat) : zk_R n t (p % n) k = zk_R n t p k := by
  unfold zk_R; rw [Nat.mod_add_mod]
theorem zk_R_add (p m k : Nat) : zk_R n t p (m + k) = zk_R n t (p + m) k := by
  unfold zk_R; rw [Nat.add_assoc]
theorem zk_R_per (p k : Nat) : zk_R n t p (k % n) = zk_R n t p k := by
  unfold zk_R; rw [Nat.add_mod_mod]
theorem zk_K_congr {p q m : Nat} (h : ∀ i, i < m → zk_R n t p i = zk_R n t q i) : zk_K n t p m = zk_K n t q m := by
  induction m with
  | zero => rfl
  | succ m ih => rw [zk_Ks, zk_Ks, ih (fun i hi => h i (by omega)), h m (by omega)]
theorem zk_K_mod (p m : Nat) : zk_K n t (p % n) m = zk_K n t p m := zk_K_congr (fun i _ => zk_R_mod p i)
theorem zk_K_add (p m l : Nat) : zk_K n t p (m + l) = zk_K n t p m * 6 ^ l + zk_K n t (p + m) l := by
  induction l with
  | zero => show zk_K n t p m = zk_K n t p m * 1 + 0; omega
  | succ l ih =>
    rw [← Nat.add_assoc, zk_Ks, zk_Ks, ih, zk_R_add, Nat.pow_succ, Nat.add_mul, ← Nat.mul_assoc]; omega
theorem zk_K_mono (h0 : 0 < n) (ht : ∀ i, i < n → t i < 6) {p q m : Nat} (h : zk_K n t p m < zk_K n t q m) (d : Nat) : zk_K n t p (m + d) < zk_K n t q (m + d) := by
  induction d with
  | zero => exact h
  | succ d ih =>
    have a := zk_R6 h0 ht p (m + d)
    rw [← Nat.add_assoc, zk_Ks, zk_Ks]; omega
theorem zk_dig (h0 : 0 < n) (ht : ∀ i, i < n → t i < 6) {p q m : Nat} (h : zk_K n t p m = zk_K n t q m) : ∀ i, i < m → zk_R n t p i = zk_R n t q i := by
  induction m with
  | zero => intro i hi; omega
  | succ m ih =>
    have a := zk_R6 h0 ht p m
    have b := zk_R6 h0 ht q m
    rw [zk_Ks, zk_Ks] at h
    intro i hi
    by_cases e : i = m
    · subst e; omega
    · exact ih (by omega) i (by omega)
theorem zk_all (h0 : 0 < n) (ht : ∀ i, i < n → t i < 6) {p q m : Nat} (hm : n ≤ m) (h : zk_K n t p m = zk_K n t q m) : ∀ i, zk_R n t p i = zk_R n t q i := by
  intro i
  have := zk_dig h0 ht h (i % n) (by have := Nat.mod_lt i h0; omega)
  rwa [zk_R_per, zk_R_per] at this
theorem zk_long (h0 : 0 < n) (ht : ∀ i, i < n → t i < 6) {m : Nat} (hm : n ≤ m) (p q : Nat) : (zk_K n t p m < zk_K n t q m ↔ zk_K n t p n < zk_K n t q n) ∧ (zk_K n t p m = zk_K n t q m ↔ zk_K n t p n = zk_K n t q n) := by
  obtain ⟨d, rfl⟩ : ∃ d, m = n + d := ⟨m - n, by omega⟩
  rcases Nat.lt_trichotomy (zk_K n t p n) (zk_K n t q n) with h | h | h
  · have := zk_K_mono h0 ht h d
    exact ⟨by omega, by omega⟩
  · have e := zk_K_congr (m := n + d) (fun i _ => zk_all h0 ht (Nat.le_refl n) h i)
    exact ⟨by omega, by omega⟩
  · have := zk_K_mono h0 ht h d
    exact ⟨by omega, by omega⟩
theorem zk_G_long (h0 : 0 < n) (ht : ∀ i, i < n → t i < 6) (hn : n ≤ 32) {m : Nat} (hm : n ≤ m) (p q : Nat) (hp : p < n) (hq : q < n) : zk_G n t m p < zk_G n t m q ↔ zk_G n t n p < zk_G n t n q := by
  have a := (zk_long h0 ht hm p q).1
  have b := (zk_long h0 ht hm p q).2
  unfold zk_G
  constructor
  · intro c
    by_cases e : zk_K n t p n = zk_K n t q n
    · have := b.mpr e; omega
    · have : ¬ zk_K n t p m = zk_K n t q m := fun x => e (b.mp x)
      have := a.mp (by omega)
      omega
  · intro c
    by_cases e : zk_K n t p m = zk_K n t q m
    · have := b.mp e; omega
    · have : ¬ zk_K n t p n = zk_K n t q n := fun x => e (b.mpr x)
      have := a.mpr (by omega)
      omega
theorem zk_G_inj (hn : n ≤ 32) {m p q : Nat} (hp : p < n) (hq : q < n) (h : zk_G n t m p = zk_G n t m q) : p = q := by
  unfold zk_G at h; omega
theorem zk_lex {A B a b D : Nat} (ha : a < D) (hb : b < D) : (A * D + a < B * D + b ↔ A < B ∨ (A = B ∧ a < b)) ∧ (A * D + a = B * D + b ↔ A = B ∧ a = b) := by
  rcases Nat.lt_trichotomy A B with h | h | h
  · have : (A + 1) * D ≤ B * D := Nat.mul_le_mul_right D h
    rw [Nat.succ_mul] at this
    exact ⟨by omega, by omega⟩
  · subst h
    exact ⟨by omega, by omega⟩
  · have : (B + 1) * D ≤ A * D := Nat.mul_le_mul_right D h
    rw [Nat.succ_mul] at this
    exact ⟨by omega, by omega⟩
/-- the numbers c order the rotations by their first m letters -/
def zk_C (n : Nat) (t : Nat → Nat) (m : Nat) (c : Nat → Nat) : Prop := (∀ p, p < n → c p < 32) ∧ ∀ p q, p < n → q < n → (c p < c q ↔ zk_K n t p m < zk_K n t q m)
theorem zk_C_eq {m : Nat} {c : Nat → Nat} (h : zk_C n t m c) {p q : Nat} (hp : p < n) (hq : q < n) : c p = c q ↔ zk_K n t p m = zk_K n t q m := by
  have a := h.2 p q hp hq
  have b := h.2 q p hq hp
  constructor
  · intro e
    have h1 : ¬ zk_K n t p m < zk_K n t q m := fun x => by have := a.mpr x; omega
    have h2 : ¬ zk_K n t q m < zk_K n t p m := fun x => by have := b.mpr x; omega
    omega
  · intro e
    have h1 : ¬ c p < c q := fun x => by have := a.mp x; omega
    have h2 : ¬ c q < c p := fun x => by have := b.mp x; omega
    omega
theorem zk_cmp (h0 : 0 < n) (ht : ∀ i, i < n → t i < 6) {m : Nat} {c : Nat → Nat} (h : zk_C n t m c) {p q : Nat} (hp : p < n) (hq : q < n) :
    (c p < c q → zk_K n t p (m + m) < zk_K n t q (m + m)) ∧ (c p = c q → ((c ((p + m) % n) < c ((q + m) % n) ↔ zk_K n t p (m + m) < zk_K n t q (m + m)) ∧ (c ((p + m) % n) = c ((q + m) % n) ↔ zk_K n t p (m + m) = zk_K n t q (m + m)))) := by
  have l := zk_lex (A := zk_K n t p m) (B := zk_K n t q m) (zk_K_lt h0 ht (p + m) m) (zk_K_lt h0 ht (q + m) m)
  have h1 := h.2 p q hp hq
  have e1 := zk_C_eq h hp hq
  have hp' := Nat.mod_lt (p + m) h0
  have hq' := Nat.mod_lt (q + m) h0
  have h2 := h.2 _ _ hp' hq'
  have e2 := zk_C_eq h hp' hq'
  rw [zk_K_mod, zk_K_mod] at h2 e2
  rw [zk_K_add, zk_K_add, l.1, l.2]
  refine ⟨fun x => Or.inl (h1.mp x), fun x => ?_⟩
  have e := e1.mp x
  rw [h2, e2]
  exact ⟨⟨fun y => Or.inr ⟨e, y⟩, fun y => by rcases y with y | y; omega; exact y.2⟩, ⟨fun y => ⟨e, y⟩, fun y => y.2⟩⟩
theorem zk_C1 (ht : ∀ i, i < n → t i < 6) : zk_C n t 1 t := by
  refine ⟨fun p hp => by have := ht p hp; omega, fun p q hp hq => ?_⟩
  have a : ∀ p, p < n → zk_K n t p 1 = t p := by
    intro p hp
    show 0 * 6 + t ((p + 0) % n) = t p
    rw [Nat.add_zero, Nat.mod_eq_of_lt hp]; omega
  rw [a p hp, a q hq]
/-! sinking one into place -/
def zk_cy (i a j : Nat) : Nat := if j < a then j else if j = a then i else if j ≤ i then j - 1 else j
theorem zk_cy_pm {i a : Nat} (hi : i < n) (ha : a ≤ i) : zp_pm n (zk_cy i a) := by
  refine ⟨fun j hj => ?_, fun j k hj hk e => ?_⟩
  · unfold zk_cy; split <;> (try split) <;> (try split) <;> omega
  · unfold zk_cy at e; split at e <;> (try split at e) <;> (try split at e) <;> (try split at e) <;> (try split at e) <;> (try split at e) <;> omega
def zk_so (g o : Nat → Nat) (i : Nat) : Prop := ∀ a b, a < b → b < i → g (o a) < g (o b)
theorem zk_cy_so {g o : Nat → Nat} {i a : Nat} (ha : a ≤ i) (h : zk_so g o i) (h1 : ∀ j, j < a → g (o j) < g (o i)) (h2 : ∀ j, a ≤ j → j < i → g (o i) < g (o j)) : zk_so g (fun j => o (zk_cy i a j)) (i + 1) := by
  intro x y hxy hy
  have cx : zk_cy i a x = if x < a then x else if x = a then i else if x ≤ i then x - 1 else x := rfl
  have cy : zk_cy i a y = if y < a then y else if y = a then i else if y ≤ i then y - 1 else y := rfl
  show g (o (zk_cy i a x)) < g (o (zk_cy i a y))
  by_cases e1 : x < a
  · rw [if_pos e1] at cx
    by_cases e2 : y < a
    · rw [if_pos e2] at cy; rw [cx, cy]; exact h x y hxy (by omega)
    · rw [if_neg e2] at cy
      by_cases e3 : y = a
      · rw [if_pos e3] at cy; rw [cx, cy]; exact h1 x e1
      · rw [if_neg e3, if_pos (by omega)] at cy; rw [cx, cy]; exact h x (y - 1) (by omega) (by omega)
  · rw [if_neg e1] at cx
    have e2 : ¬ y < a := by omega
    have e3 : ¬ y = a := by omega
    rw [if_neg e2, if_neg e3, if_pos (by omega)] at cy
    by_cases e4 : x = a
    · rw [if_pos e4] at cx; rw [cx, cy]; exact h2 (y - 1) (by omega) (by omega)
    · rw [if_neg e4, if_pos (by omega)] at cx; rw [cx, cy]; exact h (x - 1) (y - 1) (by omega) (by omega)
/-! numbering the equal ones -/
def zk_d (g o : Nat → Nat) : Nat → Nat
  | 0 => 0
  | i + 1 => zk_d g o i + if g (o i) = g (o (i + 1)) then 0 else 1
theorem zk_d_le (g o : Nat → Nat) (i : Nat) : zk_d g o i ≤ i := by
  induction i with
  | zero => exact Nat.le_refl _
  | succ i ih =>
    show zk_d g o i + _ ≤ _
    split <;> omega
theorem zk_d_le2 {g o : Nat → Nat} {m : Nat} (h : ∀ a b, a ≤ b → b < m → g (o a) ≤ g (o b)) {i : Nat} : ∀ j, i ≤ j → j < m → zk_d g o i ≤ zk_d g o j ∧ (zk_d g o i = zk_d g o j ↔ g (o i) = g (o j)) := by
  intro j
  induction j with
  | zero =>
    intro hi hj
    have : i = 0 := by omega
    subst this
    exact ⟨Nat.le_refl _, ⟨fun _ => rfl, fun _ => rfl⟩⟩
  | succ j ih =>
    intro hi hj
    by_cases e : i = j + 1
    · subst e
      exact ⟨Nat.le_refl _, ⟨fun _ => rfl, fun _ => rfl⟩⟩
    · have a := ih (by omega) (by omega)
      have s : zk_d g o (j + 1) = zk_d g o j + if g (o j) = g (o (j + 1)) then 0 else 1 := rfl
      have b := h i j (by omega) (by omega)
      have c := h j (j + 1) (by omega) (by omega)
      by_cases e2 : g (o j) = g (o (j + 1))
      · rw [if_pos e2] at s
        rw [s, ← e2]; exact a
      · rw [if_neg e2] at s
        rw [s]
        refine ⟨by omega, by omega, by omega⟩
theorem zk_d_iff {g o : Nat → Nat} {m : Nat} (h : ∀ a b, a ≤ b → b < m → g (o a) ≤ g (o b)) {i j : Nat} (hi : i < m) (hj : j < m) : zk_d g o i < zk_d g o j ↔ g (o i) < g (o j) := by
  rcases Nat.le_total i j with c | c
  · have a := zk_d_le2 h j c hj
    have b := h i j c hj
    constructor
    · intro x
      have : ¬ g (o i) = g (o j) := fun y => by have := a.2.mpr y; omega
      omega
    · intro x
      have : ¬ zk_d g o i = zk_d g o j := fun y => by have := a.2.mp y; omega
      omega
  · have a := zk_d_le2 h i c hi
    have b := h j i c hi
    constructor <;> intro x <;> omega
/-- the next numbers order by twice as many letters -/
theorem zk_C_next {m : Nat} {o c : Nat → Nat} (hn : n ≤ 32) (ho : zp_pm n o) (hs : zk_so (zk_G n t m) o n) (hc : ∀ i, i < n → c (o i) = zk_d (fun p => zk_K n t p m) o i) : zk_C n t m c := by
  have mono : ∀ a b, a ≤ b → b < n → zk_K n t (o a) m ≤ zk_K n t (o b) m := by
    intro a b hab hb
    by_cases e : a = b
    · subst e; exact Nat.le_refl _
    · have := hs a b (by omega) hb
      have := ho.1 a (by omega)
      have := ho.1 b (by omega)
      unfold zk_G at *
      omega
  refine ⟨fun p hp => ?_, fun p q hp hq => ?_⟩
  · obtain ⟨i, hi, rfl⟩ := zp_surj ho p hp
    have := zk_d_le (fun p => zk_K n t p m) o i
    rw [hc i hi]; omega
  · obtain ⟨i, hi, rfl⟩ := zp_surj ho p hp
    obtain ⟨j, hj, rfl⟩ := zp_surj ho q hq
    rw [hc i hi, hc j hj]
    exact zk_d_iff (g := fun p => zk_K n t p m) mono hi hj
/-! the place of a rotation, the order, the column -/
def zk_pl (n : Nat) (t : Nat → Nat) (p : Nat) : Nat := zp_rk (zk_G n t n) n p
def zk_ord (n : Nat) (t : Nat → Nat) (k : Nat) : Nat := zp_iv (zk_pl n t) n k
def zk_pr (n p : Nat) : Nat := if p = 0 then n - 1 else p - 1
def zk_col (n : Nat) (t : Nat → Nat) (k : Nat) : Nat := t (zk_pr n (zk_ord n t k))
theorem zk_pl_pm (hn : n ≤ 32) : zp_pm n (zk_pl n t) := zp_rk_pm (fun i j hi hj e => zk_G_inj hn hi hj e)
theorem zk_ord_pm (hn : n ≤ 32) : zp_pm n (zk_ord n t) := zp_iv_pm (zk_pl_pm hn)
theorem zk_ord_pl (hn : n ≤ 32) {p : Nat} (hp : p < n) : zk_ord n t (zk_pl n t p) = p := zp_iv_of (zk_pl_pm hn) hp
theorem zk_pl_ord (hn : n ≤ 32) {k : Nat} (hk : k < n) : zk_pl n t (zk_ord n t k) = k := (zp_iv_r (zk_pl_pm hn) hk).2
theorem zk_ord_of (ht : ∀ i, i < n → t i < 6) (hn : n ≤ 32) {m : Nat} (hm : n ≤ m) {o : Nat → Nat} (ho : zp_pm n o) (hs : zk_so (zk_G n t m) o n) {k : Nat} (hk : k < n) : zk_ord n t k = o k := by
  have a : zk_pl n t (o k) = k := by
    unfold zk_pl
    rw [← zp_rk_congr (g := zk_G n t m) (ho.1 k hk) (fun a b ha hb => zk_G_long (by omega) ht hn hm a b ha hb)]
    exact zp_rk_so ho hs hk
  have b := zk_ord_pl (t := t) hn (ho.1 k hk)
  rw [a] at b
  exact b
theorem zk_pr_lt {p : Nat} (hp : p < n) : zk_pr n p < n := by unfold zk_pr; split <;> omega
theorem zk_pr_pm : zp_pm n (zk_pr n) := by
  refine ⟨fun i hi => zk_pr_lt hi, fun i j hi hj e => ?_⟩
  unfold zk_pr at e; split at e <;> split at e <;> omega
theorem zk_col6 (ht : ∀ i, i < n → t i < 6) (hn : n ≤ 32) {k : Nat} (hk : k < n) : zk_col n t k < 6 := ht _ (zk_pr_lt ((zk_ord_pm hn).1 k hk))
end ZK
end
section
section ZM
/-! move to front -/
def zm_row (C : Nat → Nat) : Nat → Nat → Nat
  | 0 => fun j => j
  | k + 1 => fun j => zm_row C k (zk_cy (zp_iv (zm_row C k) 6 (C k)) 0 j)
def zm_rk (C : Nat → Nat) (k : Nat) : Nat := zp_iv (zm_row C k) 6 (C k)
theorem zm_row_s (C : Nat → Nat) (k : Nat) : zm_row C (k + 1) = fun j => zm_row C k (zk_cy (zm_rk C k) 0 j) := rfl
variable {C : Nat → Nat} {n : Nat}
theorem zm_pm (hC : ∀ k, k < n → C k < 6) : ∀ k, k ≤ n → zp_pm 6 (zm_row C k) := by
  intro k
  induction k with
  | zero => intro _; exact zp_id 6
  | succ k ih =>
    intro hk
    have h := ih (by omega)
    have iv := (zp_iv_r h (hC k (by omega))).1
    rw [zm_row_s]
    exact zp_comp h (zk_cy_pm (n := 6) (i := zm_rk C k) (a := 0) iv (Nat.zero_le _))
theorem zm_rk6 (hC : ∀ k, k < n → C k < 6) {k : Nat} (hk : k < n) : zm_rk C k < 6 := (zp_iv_r (zm_pm hC k (by omega)) (hC k hk)).1
theorem zm_rk_r (hC : ∀ k, k < n → C k < 6) {k : Nat} (hk : k < n) : zm_row C k (zm_rk C k) = C k := (zp_iv_r (zm_pm hC k (by omega)) (hC k hk)).2
/-! runs -/
def zr_rn : Nat → Nat → List Nat
  | 0, _ => []
  | f + 1, z => if z = 0 then [] else if z % 2 = 1 then 0 :: zr_rn f ((z - 1) / 2) else 1 :: zr_rn f ((z - 2) / 2)
theorem zr_rn0 (f : Nat) : zr_rn f 0 = [] := by cases f <;> rfl
theorem zr_rn_o {f z : Nat} (h : z % 2 = 1) : zr_rn (f + 1) z = 0 :: zr_rn f ((z - 1) / 2) := by
  show (if z = 0 then [] else if z % 2 = 1 then 0 :: zr_rn f ((z - 1) / 2) else 1 :: zr_rn f ((z - 2) / 2)) = _
  rw [if_neg (by omega), if_pos h]
theorem zr_rn_e {f z : Nat} (h0 : z ≠ 0) (h : z % 2 ≠ 1) : zr_rn (f + 1) z = 1 :: zr_rn f ((z - 2) / 2) := by
  show (if z = 0 then [] else if z % 2 = 1 then 0 :: zr_rn f ((z - 1) / 2) else 1 :: zr_rn f ((z - 2) / 2)) = _
  rw [if_neg h0, if_neg h]
theorem zr_rn_len (f : Nat) : ∀ z, (zr_rn f z).length ≤ z := by
  induction f with
  | zero => intro z; exact Nat.zero_le _
  | succ f ih =>
    intro z
    by_cases h0 : z = 0
    · subst h0; rw [zr_rn0]; exact Nat.le_refl _
    · by_cases h1 : z % 2 = 1
      · have := ih ((z - 1) / 2)
        rw [zr_rn_o h1, List.length_cons]; omega
      · have := ih ((z - 2) / 2)
        rw [zr_rn_e h0 h1, List.length_cons]; omega
theorem zr_rn_el (f : Nat) : ∀ z x, x ∈ zr_rn f z → x < 2 := by
  induction f with
  | zero => intro z x hx; cases hx
  | succ f ih =>
    intro z x hx
    by_cases h0 : z = 0
    · subst h0; rw [zr_rn0] at hx; cases hx
    · by_cases h1 : z % 2 = 1
      · rw [zr_rn_o h1] at hx
        rcases List.mem_cons.mp hx with e | e
        · omega
        · exact ih _ x e
      · rw [zr_rn_e h0 h1] at hx
        rcases List.mem_cons.mp hx with e | e
        · omega
        · exact ih _ x e
def zr_z (r : Nat → Nat) : Nat → Nat
  | 0 => 0
  | k + 1 => if r k = 0 then zr_z r k + 1 else 0
def zr_l (r : Nat → Nat) : Nat → List Nat
  | 0 => []
  | k + 1 => if r k = 0 then zr_l r k else zr_l r k ++ (zr_rn 6 (zr_z r k) ++ [r k + 1])
def zr_sy (r : Nat → Nat) (n : Nat) : List Nat := zr_l r n ++ zr_rn 6 (zr_z r n)
theorem zr_zp {r : Nat → Nat} {k : Nat} (h : r k = 0) : zr_z r (k + 1) = zr_z r k + 1 := if_pos h
theorem zr_zn {r : Nat → Nat} {k : Nat} (h : r k ≠ 0) : zr_z r (k + 1) = 0 := if_neg h
theorem zr_lp {r : Nat → Nat} {k : Nat} (h : r k = 0) : zr_l r (k + 1) = zr_l r k := if_pos h
theorem zr_ln {r : Nat → Nat} {k : Nat} (h : r k ≠ 0) : zr_l r (k + 1) = zr_l r k ++ (zr_rn 6 (zr_z r k) ++ [r k + 1]) := if_neg h
theorem zr_len (r : Nat → Nat) (k : Nat) : (zr_l r k).length + zr_z r k ≤ k := by
  induction k with
  | zero => exact Nat.le_refl _
  | succ k ih =>
    by_cases h : r k = 0
    · rw [zr_zp h, zr_lp h]; omega
    · have := zr_rn_len 6 (zr_z r k)
      rw [zr_zn h, zr_ln h, List.length_append, List.length_append, List.length_singleton]; omega
theorem zr_sy_len (r : Nat → Nat) (n : Nat) : (zr_sy r n).length ≤ n := by
  have := zr_len r n
  have := zr_rn_len 6 (zr_z r n)
  unfold zr_sy
  rw [List.length_append]; omega
theorem zr_l_el {r : Nat → Nat} : ∀ k, (∀ j, j < k → r j < 6) → ∀ x, x ∈ zr_l r k → x < 7 := by
  intro k
  induction k with
  | zero => intro _ x hx; cases hx
  | succ k ih =>
    intro hr x hx
    by_cases h : r k = 0
    · rw [zr_lp h] at hx; exact ih (fun j hj => hr j (by omega)) x hx
    · rw [zr_ln h] at hx
      rcases List.mem_append.mp hx with e | e
      · exact ih (fun j hj => hr j (by omega)) x e
      · rcases List.mem_append.mp e with e | e
        · have := zr_rn_el 6 _ x e; omega
        · have := hr k (by omega)
          rw [List.mem_singleton] at e; omega
theorem zr_sy_el {r : Nat → Nat} {n : Nat} (hr : ∀ j, j < n → r j < 6) : ∀ x, x ∈ zr_sy r n → x < 7 := by
  intro x hx
  rcases List.mem_append.mp hx with e | e
  · exact zr_l_el n hr x e
  · have := zr_rn_el 6 _ x e; omega
/-! undoing the runs -/
def zr_ud : Nat → List Nat → List Nat
  | _, [] => []
  | w, s :: r => if s ≤ 1 then List.replicate (w * (s + 1)) 0 ++ zr_ud (w * 2) r else (s - 1) :: zr_ud 1 r
theorem zr_ud_n (w : Nat) : zr_ud w [] = [] := rfl
theorem zr_ud_z {w s : Nat} {r : List Nat} (h : s ≤ 1) : zr_ud w (s :: r) = List.replicate (w * (s + 1)) 0 ++ zr_ud (w * 2) r := if_pos h
theorem zr_ud_r {w s : Nat} {r : List Nat} (h : ¬ s ≤ 1) : zr_ud w (s :: r) = (s - 1) :: zr_ud 1 r := if_neg h
theorem zr_ud_rn (f : Nat) : ∀ (z w : Nat) (r : List Nat), z < 2 ^ f → (∀ w1 w2, zr_ud w1 r = zr_ud w2 r) → zr_ud w (zr_rn f z ++ r) = List.replicate (w * z) 0 ++ zr_ud 1 r := by
  induction f with
  | zero =>
    intro z w r hz hr
    have : z = 0 := by omega
    subst this
    rw [zr_rn0, Nat.mul_zero]
    exact hr w 1
  | succ f ih =>
    intro z w r hz hr
    rw [Nat.pow_succ] at hz
    by_cases h0 : z = 0
    · subst h0
      rw [zr_rn0, Nat.mul_zero]
      exact hr w 1
    · by_cases h1 : z % 2 = 1
      · obtain ⟨a, rfl⟩ : ∃ a, z = 2 * a + 1 := ⟨z / 2, by omega⟩
        have ea : (2 * a + 1 - 1) / 2 = a := by omega
        have e2 : w * (0 + 1) + w * 2 * a = w * (2 * a + 1) := by grind
        rw [zr_rn_o h1, ea, List.cons_append, zr_ud_z (by omega), ih a (w * 2) r (by omega) hr, ← List.append_assoc, List.replicate_append_replicate, e2]
      · obtain ⟨a, rfl⟩ : ∃ a, z = 2 * a + 2 := ⟨z / 2 - 1, by omega⟩
        have ea : (2 * a + 2 - 2) / 2 = a := by omega
        have e2 : w * (1 + 1) + w * 2 * a = w * (2 * a + 2) := by grind
        rw [zr_rn_e h0 h1, ea, List.cons_append, zr_ud_z (by omega), ih a (w * 2) r (by omega) hr, ← List.append_assoc, List.replicate_append_replicate, e2]
def zr_T (r : Nat → Nat) : Nat → List Nat
  | 0 => []
  | k + 1 => zr_T r k ++ [r k]
theorem zr_Ts (r : Nat → Nat) (k : Nat) : zr_T r (k + 1) = zr_T r k ++ [r k] := rfl
theorem zr_T_len (r : Nat → Nat) (k : Nat) : (zr_T r k).length = k := by
  induction k with
  | zero => rfl
  | succ k ih => rw [zr_Ts, List.length_append, ih, List.length_singleton]
theorem zr_T_get (r : Nat → Nat) : ∀ k i, i < k → (zr_T r k).getD i 0 = r i := by
  intro k
  induction k with
  | zero => intro i hi; omega
  | succ k ih =>
    intro i hi
    rw [zr_Ts, List.getD_eq_getElem?_getD]
    by_cases e : i = k
    · subst e
      rw [List.getElem?_append_right (by rw [zr_T_len]; omega), zr_T_len, Nat.sub_self]; rfl
    · rw [List.getElem?_append_left (by rw [zr_T_len]; omega), ← List.getD_eq_getElem?_getD]
      exact ih i (by omega)
theorem zr_z_le (r : Nat → Nat) (k : Nat) : zr_z r k ≤ k := by have := zr_len r k; omega
theorem zr_T_z (r : Nat → Nat) (k : Nat) : zr_T r (k - zr_z r k) ++ List.replicate (zr_z r k) 0 = zr_T r k := by
  induction k with
  | zero => rfl
  | succ k ih =>
    by_cases h : r k = 0
    · have e : k + 1 - (zr_z r k + 1) = k - zr_z r k := by omega
      rw [zr_zp h, e, zr_Ts, List.replicate_succ', ← List.append_assoc, ih, h]
    · rw [zr_zn h]
      exact List.append_nil _
theorem zr_ud_l (r : Nat → Nat) : ∀ (k : Nat), k ≤ 32 → ∀ (q : List Nat), zr_ud 1 (zr_l r k ++ q) = zr_T r (k - zr_z r k) ++ zr_ud 1 q := by
  intro k
  induction k with
  | zero => intro _ q; rfl
  | succ k ih =>
    intro hk q
    by_cases h : r k = 0
    · have e : k + 1 - (zr_z r k + 1) = k - zr_z r k := by omega
      rw [zr_zp h, zr_lp h, e]
      exact ih (by omega) q
    · have hz := zr_z_le r k
      have e1 : ∀ w, zr_ud w ((r k + 1) :: q) = r k :: zr_ud 1 q := fun w => zr_ud_r (s := r k + 1) (by omega)
      rw [zr_zn h, zr_ln h, List.append_assoc, ih (by omega), List.append_assoc, List.singleton_append, zr_ud_rn 6 (zr_z r k) 1 _ (by omega) (fun w1 w2 => (e1 w1).trans (e1 w2).symm)]
      rw [e1, Nat.one_mul, ← List.append_assoc, zr_T_z, Nat.sub_zero, zr_Ts, List.append_assoc]; rfl
theorem zr_ud_sy (r : Nat → Nat) {n : Nat} (hn : n ≤ 32) : zr_ud 1 (zr_sy r n) = zr_T r n := by
  have hz := zr_z_le r n
  have a := zr_ud_rn 6 (zr_z r n) 1 [] (by omega) (fun _ _ => rfl)
  rw [List.append_nil, Nat.one_mul] at a
  unfold zr_sy
  rw [zr_ud_l r n hn, a, ← List.append_assoc, zr_T_z]
  exact List.append_nil _
/-! a list held by an array -/
def zr_ho (L : List Nat) (a : Nat → Int32) : Prop := ∀ i, i < L.length → a i = nI (L.getD i 0)
theorem zr_ho0 (a : Nat → Int32) : zr_ho [] a := fun i hi => absurd hi (Nat.not_lt_zero i)
theorem zr_getl {L M : List Nat} {i : Nat} (h : i < L.length) : (L ++ M).getD i 0 = L.getD i 0 := by
  rw [List.getD_eq_getElem?_getD, List.getD_eq_getElem?_getD, List.getElem?_append_left h]
theorem zr_getr (L : List Nat) (x : Nat) (M : List Nat) : (L ++ x :: M).getD L.length 0 = x := by
  rw [List.getD_eq_getElem?_getD, List.getElem?_append_right (Nat.le_refl _), Nat.sub_self]; rfl
theorem zr_ho1 {L : List Nat} {a : Nat → Int32} (x : Nat) (h : zr_ho L a) : zr_ho (L ++ [x]) (upd a L.length (nI x)) := by
  intro i hi
  rw [List.length_append, List.length_singleton] at hi
  by_cases e : i = L.length
  · subst e
    rw [pk_us, zr_getr]
  · rw [pk_un e, zr_getl (by omega)]
    exact h i (by omega)
theorem zr_mem {L : List Nat} {i : Nat} (h : i < L.length) : L.getD i 0 ∈ L := by
  rw [List.getD_eq_getElem?_getD, List.getElem?_eq_getElem h]
  exact List.getElem_mem h
end ZM
end
section
section ZH
/-! lengths of codes: what they take, what they cost -/
def zh_kr (W L : Nat → Nat) : Nat := zs_sm (fun g => if W g = 0 then 0 else 2 ^ (6 - L g)) 7
def zh_co (W L : Nat → Nat) : Nat := zs_sm (fun g => W g * L g) 7
def zh_Op (W : Nat → Nat) (c : Nat) : Prop := ∀ L : Nat → Nat, (∀ g, g < 7 → W g ≠ 0 → L g ≤ 6) → zh_kr W L ≤ 64 → c ≤ zh_co W L
theorem zh_re {A B p q : Nat} (h : A ≤ B) (g : p ≤ q) : A * q + B * p ≤ A * p + B * q := by
  obtain ⟨x, rfl⟩ : ∃ x, B = A + x := ⟨B - A, by omega⟩
  obtain ⟨y, rfl⟩ : ∃ y, q = p + y := ⟨q - p, by omega⟩
  have e1 : (A + x) * p = A * p + x * p := Nat.add_mul _ _ _
  have e2 : A * (p + y) = A * p + A * y := Nat.mul_add _ _ _
  have e3 : (A + x) * (p + y) = A * p + A * y + (x * p + x * y) := by rw [Nat.add_mul, Nat.mul_add, Nat.mul_add]
  omega
/-- two lengths change places -/
theorem zh_swk {W L : Nat → Nat} {a m : Nat} (ha : a < 7) (hm : m < 7) (wa : W a ≠ 0) (wm : W m ≠ 0) : zh_kr W (fun g => L (zp_sw a m g)) = zh_kr W L := by
  unfold zh_kr
  rw [← zp_re (zp_swp ha hm) (fun g => if W g = 0 then 0 else 2 ^ (6 - L g))]
  refine zs_congr (fun g hg => ?_)
  have e : W g = 0 ↔ W (zp_sw a m g) = 0 := by
    unfold zp_sw
    by_cases h1 : g = a
    · rw [if_pos h1, h1]; exact ⟨fun x => absurd x wa, fun x => absurd x wm⟩
    · rw [if_neg h1]
      by_cases h2 : g = m
      · rw [if_pos h2, h2]; exact ⟨fun x => absurd x wm, fun x => absurd x wa⟩
      · rw [if_neg h2]
  by_cases h : W g = 0
  · rw [if_pos h, if_pos (e.mp h)]
  · rw [if_neg h, if_neg (fun x => h (e.mpr x))]
theorem zp_sw_l (a b : Nat) : zp_sw a b a = b := if_pos rfl
theorem zp_sw_r (a b : Nat) : zp_sw a b b = a := by
  unfold zp_sw
  by_cases h : b = a
  · rw [if_pos h, h]
  · rw [if_neg h, if_pos rfl]
theorem zp_sw_n {a b j : Nat} (h1 : j ≠ a) (h2 : j ≠ b) : zp_sw a b j = j := by
  unfold zp_sw; rw [if_neg h1, if_neg h2]
theorem zh_swc {W L : Nat → Nat} {a m : Nat} (ha : a < 7) (hm : m < 7) (hw : W a ≤ W m) (hl : L a ≤ L m) : zh_co W (fun g => L (zp_sw a m g)) ≤ zh_co W L := by
  unfold zh_co
  dsimp only
  by_cases e : a = m
  · subst e
    refine zs_le (fun g hg => ?_)
    have : zp_sw a a g = g := by
      by_cases h : g = a
      · subst h; exact zp_sw_l _ _
      · exact zp_sw_n h h
    show W g * L (zp_sw a a g) ≤ _
    rw [this]; exact Nat.le_refl _
  · have h1 := zs_upd (f := fun g => W g * L g) (g := fun g => if g = a then W a * L m else W g * L g) ha (fun i _ hn => if_neg hn)
    have h2 := zs_upd (f := fun g => if g = a then W a * L m else W g * L g) (g := fun g => W g * L (zp_sw a m g)) hm (fun i _ hn => by
      show W i * L (zp_sw a m i) = if i = a then W a * L m else W i * L i
      by_cases h : i = a
      · subst h; rw [if_pos rfl, zp_sw_l]
      · rw [if_neg h, zp_sw_n h hn])
    have e1 : (if m = a then W a * L m else W m * L m) = W m * L m := if_neg (fun x => e x.symm)
    have e2 : (if a = a then W a * L m else W a * L a) = W a * L m := if_pos rfl
    simp only [zp_sw_r] at h2
    rw [e1] at h2
    simp only [if_true] at h1
    have := zh_re hw hl
    omega
theorem zh_max (P : Nat → Prop) (L : Nat → Nat) : ∀ n, (∃ g, g < n ∧ P g) → ∃ m, m < n ∧ P m ∧ ∀ g, g < n → P g → L g ≤ L m := by
  intro n
  induction n with
  | zero => intro ⟨g, h, _⟩; omega
  | succ n ih =>
    intro ⟨g, hg, pg⟩
    by_cases h : ∃ g, g < n ∧ P g
    · obtain ⟨m, hm, pm, hx⟩ := ih h
      by_cases c : P n ∧ L m < L n
      · refine ⟨n, by omega, c.1, fun g hg pg => ?_⟩
        by_cases e : g = n
        · subst e; exact Nat.le_refl _
        · have := hx g (by omega) pg; omega
      · refine ⟨m, by omega, pm, fun g hg pg => ?_⟩
        by_cases e : g = n
        · subst e
          have : ¬ L m < L g := fun x => c ⟨pg, x⟩
          omega
        · exact hx g (by omega) pg
    · have e : g = n := by
        by_cases e : g = n
        · exact e
        · exact absurd ⟨g, by omega, pg⟩ h
      subst e
      refine ⟨g, by omega, pg, fun g' hg' pg' => ?_⟩
      by_cases e : g' = g
      · subst e; exact Nat.le_refl _
      · exact absurd ⟨g', by omega, pg'⟩ h
theorem zh_pw {l k : Nat} (h : k ≤ l) (h6 : l ≤ 6) : 2 ^ (6 - k) = 2 ^ (6 - l) * 2 ^ (l - k) := by
  rw [← Nat.pow_add]; congr 1; omega
/-- the longest is no longer than the second longest need be -/
theorem zh_cut {W L : Nat → Nat} {a l : Nat} (ha : a < 7) (wa : W a ≠ 0) (hl : l ≤ 6) (h : ∀ g, g < 7 → W g ≠ 0 → g ≠ a → L g ≤ l) (hk : zh_kr W L ≤ 64) :
    zs_sm (fun g => if g = a then 0 else if W g = 0 then 0 else 2 ^ (6 - L g)) 7 + 2 ^ (6 - l) ≤ 64 := by
  have h1 := zs_upd (f := fun g => if W g = 0 then 0 else 2 ^ (6 - L g)) (g := fun g => if g = a then 0 else if W g = 0 then 0 else 2 ^ (6 - L g)) ha (fun i _ hn => if_neg hn)
  simp only [if_true] at h1
  rw [if_neg wa] at h1
  unfold zh_kr at hk
  have hp : 0 < 2 ^ (6 - L a) := Nat.pow_pos (by omega)
  have h2 : zs_sm (fun g => if g = a then 0 else if W g = 0 then 0 else 2 ^ (6 - L g)) 7 = 2 ^ (6 - l) * zs_sm (fun g => if g = a then 0 else if W g = 0 then 0 else 2 ^ (l - L g)) 7 := by
    rw [← zs_mul]
    refine zs_congr (fun g hg => ?_)
    by_cases e1 : g = a
    · rw [if_pos e1, if_pos e1]; rfl
    · rw [if_neg e1, if_neg e1]
      by_cases e2 : W g = 0
      · rw [if_pos e2, if_pos e2]; rfl
      · rw [if_neg e2, if_neg e2]
        exact zh_pw (h g hg e2 e1) hl
  have h3 : (64 : Nat) = 2 ^ (6 - l) * 2 ^ l := by rw [← Nat.pow_add, Nat.sub_add_cancel hl]
  generalize zs_sm (fun g => if g = a then 0 else if W g = 0 then 0 else 2 ^ (6 - L g)) 7 = T at *
  generalize zs_sm (fun g => if g = a then 0 else if W g = 0 then 0 else 2 ^ (l - L g)) 7 = q at *
  have h4 : q < 2 ^ l := by
    refine Nat.lt_of_mul_lt_mul_left (a := 2 ^ (6 - l)) ?_
    omega
  have h5 : 2 ^ (6 - l) * (q + 1) ≤ 2 ^ (6 - l) * 2 ^ l := Nat.mul_le_mul_left _ h4
  rw [Nat.mul_add, Nat.mul_one] at h5
  omega
def zh_mg (W : Nat → Nat) (a b : Nat) : Nat → Nat := fun g => if g = a then 0 else if g = b then W b + W a else W g
/-- joining the two lightest -/
theorem zh_step {W : Nat → Nat} {a b c : Nat} (ha : a < 7) (hb : b < 7) (hab : a ≠ b) (wa : W a ≠ 0) (wb : W b ≠ 0)
    (ma : ∀ g, g < 7 → W g ≠ 0 → W a ≤ W g) (mb : ∀ g, g < 7 → W g ≠ 0 → g ≠ a → W b ≤ W g) (h : zh_Op (zh_mg W a b) c) : zh_Op W (c + (W a + W b)) := by
  intro L hL hk
  obtain ⟨m1, hm1, p1, x1⟩ := zh_max (fun g => W g ≠ 0) L 7 ⟨a, ha, wa⟩
  have c1 := zh_swc (W := W) (L := L) ha hm1 (ma m1 hm1 p1) (x1 a ha wa)
  have k1 := zh_swk (W := W) (L := L) ha hm1 wa p1
  have al1 : ∀ g, g < 7 → W g ≠ 0 → zp_sw a m1 g < 7 ∧ W (zp_sw a m1 g) ≠ 0 := by
    intro g hg wg
    by_cases e1 : g = a
    · subst e1; rw [zp_sw_l]; exact ⟨hm1, p1⟩
    · by_cases e2 : g = m1
      · subst e2; rw [zp_sw_r]; exact ⟨ha, wa⟩
      · rw [zp_sw_n e1 e2]; exact ⟨hg, wg⟩
  obtain ⟨L1, eL1⟩ : ∃ L1, L1 = fun g => L (zp_sw a m1 g) := ⟨_, rfl⟩
  rw [← eL1] at c1 k1
  have f1 : ∀ g, g < 7 → W g ≠ 0 → L1 g ≤ 6 := by
    intro g hg wg
    have := al1 g hg wg
    rw [eL1]; exact hL _ this.1 this.2
  have g1 : ∀ g, g < 7 → W g ≠ 0 → L1 g ≤ L1 a := by
    intro g hg wg
    have := al1 g hg wg
    rw [eL1]
    show L (zp_sw a m1 g) ≤ L (zp_sw a m1 a)
    rw [zp_sw_l]; exact x1 _ this.1 this.2
  obtain ⟨m2, hm2, p2, x2⟩ := zh_max (fun g => W g ≠ 0 ∧ g ≠ a) L1 7 ⟨b, hb, wb, fun x => hab x.symm⟩
  have c2 := zh_swc (W := W) (L := L1) hb hm2 (mb m2 hm2 p2.1 p2.2) (x2 b hb ⟨wb, fun x => hab x.symm⟩)
  have k2 := zh_swk (W := W) (L := L1) hb hm2 wb p2.1
  have al2 : ∀ g, g < 7 → W g ≠ 0 → g ≠ a → zp_sw b m2 g < 7 ∧ W (zp_sw b m2 g) ≠ 0 ∧ zp_sw b m2 g ≠ a := by
    intro g hg wg ga
    by_cases e1 : g = b
    · subst e1; rw [zp_sw_l]; exact ⟨hm2, p2.1, p2.2⟩
    · by_cases e2 : g = m2
      · subst e2; rw [zp_sw_r]; exact ⟨hb, wb, fun x => hab x.symm⟩
      · rw [zp_sw_n e1 e2]; exact ⟨hg, wg, ga⟩
  obtain ⟨L2, eL2⟩ : ∃ L2, L2 = fun g => L1 (zp_sw b m2 g) := ⟨_, rfl⟩
  rw [← eL2] at c2 k2
  have ea : L2 a = L1 a := by
    rw [eL2]
    show L1 (zp_sw b m2 a) = _
    rw [zp_sw_n hab (fun x => p2.2 x.symm)]
  have g2 : ∀ g, g < 7 → W g ≠ 0 → g ≠ a → L2 g ≤ L2 b := by
    intro g hg wg ga
    have := al2 g hg wg ga
    rw [eL2]
    show L1 (zp_sw b m2 g) ≤ L1 (zp_sw b m2 b)
    rw [zp_sw_l]; exact x2 _ this.1 this.2
  have ba : L2 b ≤ L2 a := by
    rw [ea, eL2]
    show L1 (zp_sw b m2 b) ≤ _
    rw [zp_sw_l]; exact g1 m2 hm2 p2.1
  have a6 : L2 a ≤ 6 := by rw [ea]; exact f1 a ha wa
  have K := zh_cut (W := W) (L := L2) (a := a) (l := L2 b) ha wa (by omega) (fun g hg wg ga => g2 g hg wg ga) (by omega)
  have hb1 : (if b = a then 0 else if W b = 0 then 0 else 2 ^ (6 - L2 b)) = 2 ^ (6 - L2 b) := by
    rw [if_neg (fun x => hab x.symm), if_neg wb]
  have hb2 := zs_mem (f := fun g => if g = a then 0 else if W g = 0 then 0 else 2 ^ (6 - L2 g)) hb
  rw [hb1] at hb2
  have l1 : 1 ≤ L2 b := by
    by_cases e : L2 b = 0
    · rw [e] at hb2 K
      have : (2 : Nat) ^ (6 - 0) = 64 := by decide
      omega
    · omega
  obtain ⟨l, el⟩ : ∃ l, L2 b = l + 1 := ⟨L2 b - 1, by omega⟩
  have K4 := h (fun g => if g = b then l else L2 g) (by
    intro g hg wg
    show (if g = b then l else L2 g) ≤ 6
    by_cases e : g = b
    · rw [if_pos e]; omega
    · rw [if_neg e]
      by_cases e2 : g = a
      · rw [e2]; omega
      · have : zh_mg W a b g = W g := by unfold zh_mg; rw [if_neg e2, if_neg e]
        have := g2 g hg (by rw [← this]; exact wg) e2
        omega) (by
    have u := zs_upd (f := fun g => if g = a then 0 else if W g = 0 then 0 else 2 ^ (6 - L2 g)) (g := fun g => if zh_mg W a b g = 0 then 0 else 2 ^ (6 - if g = b then l else L2 g)) hb (fun i hi hn => by
      show (if zh_mg W a b i = 0 then 0 else 2 ^ (6 - if i = b then l else L2 i)) = if i = a then 0 else if W i = 0 then 0 else 2 ^ (6 - L2 i)
      rw [if_neg hn]
      unfold zh_mg
      by_cases e2 : i = a
      · rw [if_pos e2, if_pos e2, if_pos rfl]
      · rw [if_neg e2, if_neg e2, if_neg hn])
    have hb3 : (if zh_mg W a b b = 0 then 0 else 2 ^ (6 - if b = b then l else L2 b)) = 2 ^ (6 - l) := by
      have : zh_mg W a b b ≠ 0 := by
        unfold zh_mg
        rw [if_neg (fun x => hab x.symm), if_pos rfl]; omega
      rw [if_neg this, if_pos rfl]
    rw [hb1, hb3] at u
    have p2 : 2 ^ (6 - l) = 2 ^ (6 - L2 b) * 2 := by
      rw [← Nat.pow_succ]; congr 1; omega
    unfold zh_kr
    dsimp only
    omega)
  have u1 := zs_upd (f := fun g => W g * if g = a then L2 b else L2 g) (g := fun g => if g = a then 0 else W g * L2 g) ha (fun i _ hn => by
    show (if i = a then 0 else W i * L2 i) = W i * if i = a then L2 b else L2 i
    rw [if_neg hn, if_neg hn])
  have u2 := zs_upd (f := fun g => if g = a then 0 else W g * L2 g) (g := fun g => zh_mg W a b g * if g = b then l else L2 g) hb (fun i _ hn => by
    show (zh_mg W a b i * if i = b then l else L2 i) = if i = a then 0 else W i * L2 i
    unfold zh_mg
    rw [if_neg hn, if_neg hn]
    by_cases e : i = a
    · rw [if_pos e, if_pos e, Nat.zero_mul]
    · rw [if_neg e, if_neg e])
  have u3 := zs_upd (f := fun g => W g * L2 g) (g := fun g => W g * if g = a then L2 b else L2 g) ha (fun i _ hn => by
    show (W i * if i = a then L2 b else L2 i) = W i * L2 i
    rw [if_neg hn])
  have v1 : zh_mg W a b b = W b + W a := by unfold zh_mg; rw [if_neg (fun x => hab x.symm), if_pos rfl]
  have v2 : ¬ b = a := fun x => hab x.symm
  simp only [if_true] at u1 u2 u3
  rw [if_neg v2, v1, el] at u2
  rw [el] at u1 u3
  have w1 : W a * (l + 1) ≤ W a * L2 a := Nat.mul_le_mul_left _ (by omega)
  have w2 : W a * (l + 1) = W a * l + W a := Nat.mul_succ _ _
  have w3 : W b * (l + 1) = W b * l + W b := Nat.mul_succ _ _
  have w4 : (W b + W a) * l = W b * l + W a * l := Nat.add_mul _ _ _
  unfold zh_co at *
  dsimp only at K4
  omega
end ZH
end
section
section ZHI
theorem zs_mem2 {f : Nat → Nat} {n a b : Nat} (ha : a < n) (hb : b < n) (h : a ≠ b) : f a + f b ≤ zs_sm f n := by
  have u := zs_upd (f := f) (g := fun i => if i = a then 0 else f i) ha (fun i _ hn => if_neg hn)
  have m := zs_mem (f := fun i => if i = a then 0 else f i) hb
  simp only [if_true] at u
  rw [if_neg (fun x => h x.symm)] at m
  omega
/-- the groups while they are joined: W weights, M members, B bits so far, w the first weights -/
def zh_H1 (w W : Nat → Nat) (M : Nat → Nat → Bool) : Prop := ∀ g, g < 7 → W g ≠ 0 → W g = zs_sm (fun s => if M g s = true then w s else 0) 7
def zh_H2 (W : Nat → Nat) (M : Nat → Nat → Bool) : Prop := ∀ g h s, g < 7 → h < 7 → s < 7 → W g ≠ 0 → W h ≠ 0 → M g s = true → M h s = true → g = h
def zh_H3 (W : Nat → Nat) (M : Nat → Nat → Bool) (B : Nat → Nat) : Prop := ∀ g, g < 7 → W g ≠ 0 → zs_sm (fun s => if M g s = true then 2 ^ (6 - B s) else 0) 7 = 64
def zh_sz (M : Nat → Nat → Bool) (g : Nat) : Nat := zs_sm (fun s => if M g s = true then 1 else 0) 7
def zh_H4 (w W : Nat → Nat) (M : Nat → Nat → Bool) (B : Nat → Nat) : Prop := ∀ g s, g < 7 → s < 7 → W g ≠ 0 → M g s = true → B s + 1 ≤ zh_sz M g ∧ w s ≠ 0
def zh_H5 (w W : Nat → Nat) (M : Nat → Nat → Bool) (B : Nat → Nat) : Prop := (∀ s, s < 7 → w s ≠ 0 → ∃ g, g < 7 ∧ W g ≠ 0 ∧ M g s = true) ∧ (∀ s, s < 7 → w s = 0 → B s = 0)
def zh_H6 (w W B : Nat → Nat) : Prop := ∀ c, zh_Op W c → zh_Op w (c + zh_co w B)
def zh_HI (w W : Nat → Nat) (M : Nat → Nat → Bool) (B : Nat → Nat) : Prop := zh_H1 w W M ∧ zh_H2 W M ∧ zh_H3 W M B ∧ zh_H4 w W M B ∧ zh_H5 w W M B ∧ zh_H6 w W B
theorem zh_H0 {w B : Nat → Nat} {M : Nat → Nat → Bool} (hM : ∀ g s, g < 7 → s < 7 → M g s = decide (s = g)) (hB : ∀ s, s < 7 → B s = 0) : zh_HI w w M B := by
  have eM : ∀ (g : Nat) (f : Nat → Nat), g < 7 → zs_sm (fun s => if M g s = true then f s else 0) 7 = f g := by
    intro g f hg
    rw [← zs_one hg f]
    refine zs_congr (fun s hs => ?_)
    rw [hM g s hg hs]
    by_cases e : s = g
    · rw [if_pos e, if_pos (decide_eq_true e)]
    · rw [if_neg e, if_neg (by simp only [decide_eq_true_eq]; exact e)]
  refine ⟨fun g hg _ => (eM g w hg).symm, ?_, ?_, ?_, ⟨?_, fun s hs _ => hB s hs⟩, ?_⟩
  · intro g h s hg hh hs _ _ a b
    rw [hM g s hg hs, decide_eq_true_eq] at a
    rw [hM h s hh hs, decide_eq_true_eq] at b
    omega
  · intro g hg _
    rw [eM g (fun s => 2 ^ (6 - B s)) hg, hB g hg]
  · intro g s hg hs wg a
    rw [hM g s hg hs, decide_eq_true_eq] at a
    subst a
    refine ⟨?_, wg⟩
    unfold zh_sz
    rw [eM s (fun _ => 1) hg, hB s hs]; omega
  · intro s hs ws
    exact ⟨s, hs, ws, by rw [hM s s hs hs]; exact decide_eq_true rfl⟩
  · intro c hc
    have : zh_co w B = 0 := by
      unfold zh_co
      exact zs_zero (fun i hi => by rw [hB i hi]; rfl)
    rw [this]; exact hc
/-- one joining -/
theorem zh_join {w W B B' : Nat → Nat} {M M' : Nat → Nat → Bool} {a b : Nat} (H : zh_HI w W M B) (ha : a < 7) (hb : b < 7) (hab : a ≠ b) (wa : W a ≠ 0) (wb : W b ≠ 0)
    (ma : ∀ g, g < 7 → W g ≠ 0 → W a ≤ W g) (mb : ∀ g, g < 7 → W g ≠ 0 → g ≠ a → W b ≤ W g)
    (hM : ∀ g s, g < 7 → s < 7 → M' g s = if g = b then (M b s || M a s) else M g s)
    (hB : ∀ s, s < 7 → B' s = B s + if M' b s = true then 1 else 0) : zh_HI w (zh_mg W a b) M' B' := by
  obtain ⟨H1, H2, H3, H4, H5, H6⟩ := H
  have ba : ¬ b = a := fun x => hab x.symm
  have Wa : zh_mg W a b a = 0 := by unfold zh_mg; rw [if_pos rfl]
  have Wb : zh_mg W a b b = W b + W a := by unfold zh_mg; rw [if_neg ba, if_pos rfl]
  have Wo : ∀ g, g ≠ a → g ≠ b → zh_mg W a b g = W g := by intro g h1 h2; unfold zh_mg; rw [if_neg h1, if_neg h2]
  have Mb : ∀ s, s < 7 → M' b s = (M b s || M a s) := fun s hs => by rw [hM b s hb hs, if_pos rfl]
  have Mo : ∀ g s, g < 7 → s < 7 → g ≠ b → M' g s = M g s := fun g s hg hs h => by rw [hM g s hg hs, if_neg h]
  have dj : ∀ s, s < 7 → ¬ (M b s = true ∧ M a s = true) := fun s hs h => hab (H2 b a s hb ha hs wb wa h.1 h.2).symm
  have spl : ∀ f : Nat → Nat, zs_sm (fun s => if M' b s = true then f s else 0) 7 = zs_sm (fun s => if M b s = true then f s else 0) 7 + zs_sm (fun s => if M a s = true then f s else 0) 7 := by
    intro f
    rw [← zs_add]
    refine zs_congr (fun s hs => ?_)
    have d := dj s hs
    rw [Mb s hs]
    by_cases c1 : M b s = true
    · by_cases c2 : M a s = true
      · exact absurd ⟨c1, c2⟩ d
      · rw [if_pos (by rw [c1]; rfl), if_pos c1, if_neg c2]; omega
    · by_cases c2 : M a s = true
      · rw [if_pos (by rw [c2, Bool.or_true]), if_neg c1, if_pos c2]; omega
      · rw [if_neg c1, if_neg c2, if_neg (by rw [Bool.or_eq_true]; exact fun x => x.elim c1 c2)]
  have ne : ∀ g, g < 7 → W g ≠ 0 → 1 ≤ zh_sz M g := by
    intro g hg wg
    by_cases c : zh_sz M g = 0
    · exfalso
      apply wg
      rw [H1 g hg wg]
      refine zs_zero (fun s hs => ?_)
      have := zs_mem (f := fun s => if M g s = true then 1 else 0) hs
      unfold zh_sz at c
      rw [c] at this
      by_cases d : M g s = true
      · simp only [d, if_true] at this; omega
      · rw [if_neg d]
    · omega
  have sz7 : zh_sz M' b ≤ 7 := by
    have := zs_bound (f := fun s => if M' b s = true then 1 else 0) (n := 7) (c := 1) (fun s _ => by split <;> omega)
    unfold zh_sz; omega
  have szs : zh_sz M' b = zh_sz M b + zh_sz M a := spl (fun _ => 1)
  have na := ne a ha wa
  have nb := ne b hb wb
  have inb : ∀ s, s < 7 → M' b s = true → B s + 2 ≤ zh_sz M' b ∧ w s ≠ 0 := by
    intro s hs h
    rw [Mb s hs, Bool.or_eq_true] at h
    rcases h with h | h
    · have := H4 b s hb hs wb h; exact ⟨by omega, this.2⟩
    · have := H4 a s ha hs wa h; exact ⟨by omega, this.2⟩
  have out : ∀ g s, g < 7 → s < 7 → g ≠ a → g ≠ b → W g ≠ 0 → M g s = true → ¬ M' b s = true := by
    intro g s hg hs ga gb wg h h'
    rw [Mb s hs, Bool.or_eq_true] at h'
    rcases h' with h' | h'
    · exact gb (H2 g b s hg hb hs wg wb h h')
    · exact ga (H2 g a s hg ha hs wg wa h h')
  have K1 : zh_mg W a b b = zs_sm (fun s => if M' b s = true then w s else 0) 7 := by
    rw [Wb, spl w, ← H1 b hb wb, ← H1 a ha wa]
  refine ⟨?_, ?_, ?_, ?_, ⟨?_, ?_⟩, ?_⟩
  · intro g hg wg
    by_cases e1 : g = a
    · exact absurd (e1 ▸ Wa) wg
    · by_cases e2 : g = b
      · rw [e2]; exact K1
      · rw [Wo g e1 e2] at wg ⊢
        rw [H1 g hg wg]
        exact zs_congr (fun s hs => by rw [Mo g s hg hs e2])
  · intro g h s hg hh hs wg wh mg mh
    by_cases e1 : g = a
    · exact absurd (e1 ▸ Wa) wg
    · by_cases e2 : h = a
      · exact absurd (e2 ▸ Wa) wh
      · by_cases e3 : g = b
        · by_cases e4 : h = b
          · omega
          · rw [Wo h e2 e4] at wh
            rw [Mo h s hh hs e4] at mh
            exact absurd (e3 ▸ mg) (out h s hh hs e2 e4 wh mh)
        · by_cases e4 : h = b
          · rw [Wo g e1 e3] at wg
            rw [Mo g s hg hs e3] at mg
            exact absurd (e4 ▸ mh) (out g s hg hs e1 e3 wg mg)
          · rw [Wo h e2 e4] at wh
            rw [Mo h s hh hs e4] at mh
            rw [Wo g e1 e3] at wg
            rw [Mo g s hg hs e3] at mg
            exact H2 g h s hg hh hs wg wh mg mh
  · intro g hg wg
    by_cases e1 : g = a
    · exact absurd (e1 ▸ Wa) wg
    · by_cases e2 : g = b
      · subst e2
        have x1 := spl (fun s => 2 ^ (6 - B s))
        rw [H3 g hb wb, H3 a ha wa] at x1
        have x2 : zs_sm (fun s => if M' g s = true then 2 ^ (6 - B s) else 0) 7 = 2 * zs_sm (fun s => if M' g s = true then 2 ^ (6 - B' s) else 0) 7 := by
          rw [← zs_mul]
          refine zs_congr (fun s hs => ?_)
          by_cases c : M' g s = true
          · have i := inb s hs c
            rw [if_pos c, if_pos c, hB s hs, if_pos c, Nat.mul_comm, ← Nat.pow_succ]
            congr 1
            omega
          · rw [if_neg c, if_neg c]
        omega
      · rw [Wo g e1 e2] at wg
        rw [← H3 g hg wg]
        refine zs_congr (fun s hs => ?_)
        rw [Mo g s hg hs e2]
        by_cases c : M g s = true
        · rw [if_pos c, if_pos c, hB s hs, if_neg (out g s hg hs e1 e2 wg c)]; rfl
        · rw [if_neg c, if_neg c]
  · intro g s hg hs wg mg
    by_cases e1 : g = a
    · exact absurd (e1 ▸ Wa) wg
    · by_cases e2 : g = b
      · subst e2
        have i := inb s hs mg
        rw [hB s hs, if_pos mg]
        exact ⟨by omega, i.2⟩
      · rw [Wo g e1 e2] at wg
        rw [Mo g s hg hs e2] at mg
        have h := H4 g s hg hs wg mg
        rw [hB s hs, if_neg (out g s hg hs e1 e2 wg mg)]
        have : zh_sz M' g = zh_sz M g := zs_congr (fun s hs => by rw [Mo g s hg hs e2])
        rw [this]
        exact h
  · intro s hs ws
    obtain ⟨g, hg, wg, mg⟩ := H5.1 s hs ws
    by_cases e1 : g = a
    · refine ⟨b, hb, by rw [Wb]; omega, ?_⟩
      rw [Mb s hs, ← e1, mg, Bool.or_true]
    · by_cases e2 : g = b
      · refine ⟨b, hb, by rw [Wb]; omega, ?_⟩
        rw [Mb s hs, ← e2, mg]; rfl
      · exact ⟨g, hg, by rw [Wo g e1 e2]; exact wg, by rw [Mo g s hg hs e2]; exact mg⟩
  · intro s hs ws
    rw [hB s hs, H5.2 s hs ws, if_neg (fun h => (inb s hs h).2 ws)]
  · intro c hc
    have h1 := H6 _ (zh_step ha hb hab wa wb ma mb hc)
    have h2 : zh_co w B' = zh_co w B + (W a + W b) := by
      have : zh_co w B' = zs_sm (fun s => w s * B s + if M' b s = true then w s else 0) 7 := by
        refine zs_congr (fun s hs => ?_)
        show w s * B' s = _
        rw [hB s hs]
        by_cases c : M' b s = true
        · rw [if_pos c, if_pos c, Nat.mul_add, Nat.mul_one]
        · rw [if_neg c, if_neg c]; rfl
      rw [this, zs_add, ← K1, Wb]
      unfold zh_co
      omega
    rw [h2]
    have e : c + (W a + W b) + zh_co w B = c + (zh_co w B + (W a + W b)) := by omega
    rw [← e]
    exact h1
/-- what the bits are in the end -/
def zh_Fin (w B : Nat → Nat) : Prop := (∀ s, s < 7 → w s ≠ 0 → 1 ≤ B s ∧ B s ≤ 6) ∧ (∀ s, s < 7 → w s = 0 → B s = 0) ∧ zh_kr w B ≤ 64 ∧ (∀ L : Nat → Nat, (∀ s, s < 7 → w s ≠ 0 → 1 ≤ L s ∧ L s ≤ 6) → zh_kr w L ≤ 64 → zh_co w B ≤ zh_co w L)
theorem zh_fin0 {w B : Nat → Nat} (hw : ∀ s, s < 7 → w s = 0) (hB : ∀ s, s < 7 → B s = 0) : zh_Fin w B := by
  have e : zh_co w B = 0 := zs_zero (fun s hs => by rw [hw s hs, Nat.zero_mul])
  have k : zh_kr w B = 0 := zs_zero (fun s hs => by rw [if_pos (hw s hs)])
  refine ⟨fun s hs h => absurd (hw s hs) h, fun s hs _ => hB s hs, by omega, fun L _ _ => by omega⟩
theorem zh_fin1 {w B : Nat → Nat} {f : Nat} (hf : f < 7) (wf : w f ≠ 0) (hw : ∀ s, s < 7 → w s ≠ 0 → s = f) (hB : ∀ s, s < 7 → B s = if s = f then 1 else 0) : zh_Fin w B := by
  have z : ∀ s, s < 7 → s ≠ f → w s = 0 := by
    intro s hs h
    by_cases c : w s = 0
    · exact c
    · exact absurd (hw s hs c) h
  have e : zh_co w B = w f := by
    rw [← zs_one hf w]
    refine zs_congr (fun s hs => ?_)
    show w s * B s = _
    rw [hB s hs]
    by_cases c : s = f
    · rw [if_pos c, if_pos c, Nat.mul_one]
    · rw [if_neg c, if_neg c]; rfl
  have k : zh_kr w B = 32 := by
    have : zh_kr w B = zs_sm (fun s => if s = f then 32 else 0) 7 := by
      refine zs_congr (fun s hs => ?_)
      by_cases c : s = f
      · rw [if_pos c, if_neg (by rw [c]; exact wf), hB s hs, if_pos c]
      · rw [if_neg c, if_pos (z s hs c)]
    rw [this, zs_one hf (fun _ => 32)]
  refine ⟨fun s hs h => ?_, fun s hs h => ?_, by omega, fun L hL _ => ?_⟩
  · rw [hB s hs, if_pos (hw s hs h)]; omega
  · rw [hB s hs, if_neg (fun c => wf (by rw [← c]; exact h))]
  · have m := zs_mem (f := fun g => w g * L g) hf
    have l := (hL f hf wf).1
    have : w f * 1 ≤ w f * L f := Nat.mul_le_mul_left _ l
    unfold zh_co at e ⊢
    omega
theorem zh_fin {w W B : Nat → Nat} {M : Nat → Nat → Bool} {g s1 s2 : Nat} (H : zh_HI w W M B) (hg : g < 7) (wg : W g ≠ 0) (one : ∀ h, h < 7 → W h ≠ 0 → h = g)
    (h1 : s1 < 7) (h2 : s2 < 7) (h12 : s1 ≠ s2) (w1 : w s1 ≠ 0) (w2 : w s2 ≠ 0) : zh_Fin w B := by
  obtain ⟨H1, H2, H3, H4, H5, H6⟩ := H
  have mem : ∀ s, s < 7 → (w s ≠ 0 ↔ M g s = true) := by
    intro s hs
    constructor
    · intro h
      obtain ⟨h', a, b, c⟩ := H5.1 s hs h
      rw [one h' a b] at c
      exact c
    · intro h
      exact (H4 g s hg hs wg h).2
  have sz7 : zh_sz M g ≤ 7 := by
    have := zs_bound (f := fun s => if M g s = true then 1 else 0) (n := 7) (c := 1) (fun s _ => by split <;> omega)
    unfold zh_sz; omega
  have kr : zh_kr w B = 64 := by
    rw [← H3 g hg wg]
    refine zs_congr (fun s hs => ?_)
    by_cases c : w s = 0
    · rw [if_pos c, if_neg (fun h => (mem s hs).mpr h c)]
    · rw [if_neg c, if_pos ((mem s hs).mp c)]
  refine ⟨fun s hs h => ?_, H5.2, by omega, fun L hL hk => ?_⟩
  · have a := (H4 g s hg hs wg ((mem s hs).mp h)).1
    refine ⟨?_, by omega⟩
    by_cases c : B s = 0
    · exfalso
      obtain ⟨s', hs', ws', ne⟩ : ∃ s', s' < 7 ∧ w s' ≠ 0 ∧ s ≠ s' := by
        by_cases e : s = s1
        · exact ⟨s2, h2, w2, by omega⟩
        · exact ⟨s1, h1, w1, e⟩
      have m := zs_mem2 (f := fun g => if w g = 0 then 0 else 2 ^ (6 - B g)) hs hs' ne
      have p : 0 < 2 ^ (6 - B s') := Nat.pow_pos (by omega)
      unfold zh_kr at kr
      rw [kr] at m
      simp only [if_neg h, if_neg ws', c] at m
      have : (2 : Nat) ^ (6 - 0) = 64 := by decide
      omega
    · omega
  · have o := H6 0 (fun _ _ _ => Nat.zero_le _) L (fun s hs h => (hL s hs h).2) hk
    omega
end ZHI
end
section
section ZC
/-! numbered codes -/
def zc_pre (B : Nat → Nat) (b s : Nat) : Nat := zs_sm (fun u => if 1 ≤ B u ∧ (B u < b ∨ (B u = b ∧ u < s)) then 2 ^ (b - B u) else 0) 7
def zc_cd (B : Nat → Nat) (s : Nat) : Nat := zc_pre B (B s) s
variable {B : Nat → Nat}
theorem zc_1 : zc_pre B 1 0 = 0 := zs_zero (fun u _ => if_neg (by omega))
theorem zc_b (b : Nat) : zc_pre B (b + 1) 0 = zc_pre B b 7 * 2 := by
  unfold zc_pre
  rw [Nat.mul_comm, ← zs_mul]
  refine zs_congr (fun u hu => ?_)
  by_cases c : 1 ≤ B u ∧ B u ≤ b
  · rw [if_pos (by omega), if_pos (by omega), Nat.mul_comm, ← Nat.pow_succ]
    congr 1
    omega
  · rw [if_neg (by omega), if_neg (by omega)]
theorem zc_s1 {b s : Nat} (hb : 1 ≤ b) (hs : s < 7) (h : B s = b) : zc_pre B b (s + 1) = zc_pre B b s + 1 := by
  have u := zs_upd (f := fun u => if 1 ≤ B u ∧ (B u < b ∨ (B u = b ∧ u < s)) then 2 ^ (b - B u) else 0) (g := fun u => if 1 ≤ B u ∧ (B u < b ∨ (B u = b ∧ u < s + 1)) then 2 ^ (b - B u) else 0) hs (fun i hi hn => by
    by_cases c : 1 ≤ B i ∧ (B i < b ∨ (B i = b ∧ i < s))
    · show (if _ then _ else _) = (if _ then _ else _)
      rw [if_pos c, if_pos (by omega)]
    · show (if _ then _ else _) = (if _ then _ else _)
      rw [if_neg c, if_neg (by omega)])
  rw [if_neg (by omega), if_pos (by omega)] at u
  have e : 2 ^ (b - B s) = 1 := by rw [h, Nat.sub_self]
  rw [e] at u
  exact u
theorem zc_s0 {b s : Nat} (h : B s ≠ b) : zc_pre B b (s + 1) = zc_pre B b s := by
  refine zs_congr (fun i hi => ?_)
  by_cases c : 1 ≤ B i ∧ (B i < b ∨ (B i = b ∧ i < s))
  · rw [if_pos c, if_pos (by omega)]
  · rw [if_neg c, if_neg (by intro d; apply c; refine ⟨d.1, ?_⟩; rcases d.2 with e | e; exact Or.inl e; refine Or.inr ⟨e.1, ?_⟩; have : i ≠ s := (fun x => h (by rw [← x]; exact e.1)); omega)]
/-- all that is taken, in units of the longest -/
def zc_K (B : Nat → Nat) : Nat := zs_sm (fun u => if 1 ≤ B u then 2 ^ (6 - B u) else 0) 7
theorem zc_lt (h6 : ∀ s, s < 7 → B s ≤ 6) (hK : zc_K B ≤ 64) {s : Nat} (hs : s < 7) (h1 : 1 ≤ B s) : zc_cd B s < 2 ^ B s := by
  have a := zc_s1 (B := B) (b := B s) h1 hs rfl
  have b : zc_pre B (B s) (s + 1) * 2 ^ (6 - B s) ≤ zc_K B := by
    unfold zc_pre zc_K
    rw [Nat.mul_comm, ← zs_mul]
    refine zs_le (fun u hu => ?_)
    by_cases c : 1 ≤ B u ∧ (B u < B s ∨ (B u = B s ∧ u < s + 1))
    · rw [if_pos c, if_pos c.1, ← Nat.pow_add]
      have := h6 s hs
      have e : 6 - B s + (B s - B u) = 6 - B u := by omega
      rw [e]; exact Nat.le_refl _
    · rw [if_neg c]; omega
  have e : (64 : Nat) = 2 ^ B s * 2 ^ (6 - B s) := by
    have := h6 s hs
    rw [← Nat.pow_add]
    have e : B s + (6 - B s) = 6 := by omega
    rw [e]
  have p : 0 < 2 ^ (6 - B s) := Nat.pow_pos (by omega)
  have l : zc_pre B (B s) (s + 1) ≤ 2 ^ B s := by
    refine Nat.le_of_mul_le_mul_right (c := 2 ^ (6 - B s)) ?_ p
    omega
  unfold zc_cd
  omega
theorem zc_bef {s u : Nat} (hs : s < 7) (h1 : 1 ≤ B s) (h : B s < B u ∨ (B s = B u ∧ s < u)) : (zc_cd B s + 1) * 2 ^ (B u - B s) ≤ zc_cd B u := by
  have a := zc_s1 (B := B) (b := B s) h1 hs rfl
  unfold zc_cd
  rw [← a, Nat.mul_comm]
  unfold zc_pre
  rw [← zs_mul]
  refine zs_le (fun v hv => ?_)
  by_cases c : 1 ≤ B v ∧ (B v < B s ∨ (B v = B s ∧ v < s + 1))
  · rw [if_pos c, if_pos (by omega), ← Nat.pow_add]
    have e : B u - B s + (B s - B v) = B u - B v := by omega
    rw [e]; exact Nat.le_refl _
  · rw [if_neg c]; omega
/-- no shorter code begins a code -/
theorem zc_pf {s u b : Nat} (hu : u < 7) (hb : 1 ≤ b) (h : b < B s) (e : B u = b) : zc_cd B u ≠ zc_cd B s / 2 ^ (B s - b) := by
  have a := zc_bef (B := B) (s := u) (u := s) hu (by omega) (Or.inl (by omega))
  rw [e] at a
  have p : 0 < 2 ^ (B s - b) := Nat.pow_pos (by omega)
  have := (Nat.le_div_iff_mul_le p).mpr a
  omega
theorem zc_inj {s u : Nat} (hs : s < 7) (hu : u < 7) (h1 : 1 ≤ B s) (e : B u = B s) (c : zc_cd B u = zc_cd B s) : u = s := by
  rcases Nat.lt_trichotomy u s with h | h | h
  · have a := zc_bef (B := B) (s := u) (u := s) hu (by omega) (Or.inr ⟨e, h⟩)
    rw [e, Nat.sub_self] at a
    omega
  · exact h
  · have a := zc_bef (B := B) (s := s) (u := u) hs h1 (Or.inr ⟨e.symm, h⟩)
    rw [e, Nat.sub_self] at a
    omega
theorem zc_half (c k : Nat) : 2 * (c / 2 ^ (k + 1)) + c / 2 ^ k % 2 = c / 2 ^ k := by
  rw [Nat.pow_succ, ← Nat.div_div_eq_div_mul]
  omega
end ZC
section ZB
/-! undoing the sorting -/
def zb_g (C : Nat → Nat) (k : Nat) : Nat := C k * 32 + k
def zb_lam (n : Nat) (C : Nat → Nat) (k : Nat) : Nat := zp_rk (zb_g C) n k
def zb_sg (n : Nat) (C : Nat → Nat) (j : Nat) : Nat := zp_iv (zb_lam n C) n j
variable {n : Nat} {t : Nat → Nat}
theorem zb_inj (hn : n ≤ 32) (C : Nat → Nat) {i j : Nat} (hi : i < n) (hj : j < n) (h : zb_g C i = zb_g C j) : i = j := by
  unfold zb_g at h; omega
theorem zb_lam_pm (hn : n ≤ 32) (C : Nat → Nat) : zp_pm n (zb_lam n C) := zp_rk_pm (fun _ _ hi hj e => zb_inj hn C hi hj e)
theorem zb_sg_pm (hn : n ≤ 32) (C : Nat → Nat) : zp_pm n (zb_sg n C) := zp_iv_pm (zb_lam_pm hn C)
/-- a rank that rises comes from a key that rises -/
theorem zp_rk_back {g : Nat → Nat} {p q : Nat} (hg : ∀ i j, i < n → j < n → g i = g j → i = j) (hp : p < n) (hq : q < n) (h : zp_rk g n p < zp_rk g n q) : g p < g q := by
  rcases Nat.lt_trichotomy (g p) (g q) with c | c | c
  · exact c
  · have := hg p q hp hq c; subst this; omega
  · have := zp_rk_lt (n := n) hq c; omega
theorem zb_so (hn : n ≤ 32) {i j : Nat} (hij : i < j) (hj : j < n) : zk_G n t n (zk_ord n t i) < zk_G n t n (zk_ord n t j) := by
  have oi := (zk_ord_pm (t := t) hn).1 i (by omega)
  have oj := (zk_ord_pm (t := t) hn).1 j hj
  refine zp_rk_back (n := n) (fun a b ha hb e => zk_G_inj hn ha hb e) oi oj ?_
  have a := zk_pl_ord (t := t) hn (k := i) (by omega)
  have b := zk_pl_ord (t := t) hn hj
  unfold zk_pl at a b
  omega
theorem zb_f (hn : n ≤ 32) {i j : Nat} (hij : i ≤ j) (hj : j < n) : zk_K n t (zk_ord n t i) n ≤ zk_K n t (zk_ord n t j) n := by
  by_cases e : i = j
  · subst e; exact Nat.le_refl _
  · have a := zb_so (t := t) hn (i := i) (by omega) hj
    have oi := (zk_ord_pm (t := t) hn).1 i (by omega)
    have oj := (zk_ord_pm (t := t) hn).1 j hj
    unfold zk_G at a
    omega
theorem zb_pm {p : Nat} (hp : p < n) : (zk_pr n p + 1) % n = p := by
  unfold zk_pr
  by_cases e : p = 0
  · rw [if_pos e]
    have : n - 1 + 1 = n := by omega
    rw [this, Nat.mod_self]; omega
  · rw [if_neg e]
    have : p - 1 + 1 = p := by omega
    rw [this, Nat.mod_eq_of_lt hp]
theorem zb_prK {p : Nat} (hp : p < n) : zk_K n t (zk_pr n p) n = t (zk_pr n p) * 6 ^ (n - 1) + zk_K n t p (n - 1) := by
  have e : n = 1 + (n - 1) := by omega
  have a := zk_K_add (n := n) (t := t) (zk_pr n p) 1 (n - 1)
  rw [← e] at a
  rw [a, ← zk_K_mod (zk_pr n p + 1), zb_pm hp, zk_Ks, zk_K0]
  unfold zk_R
  rw [Nat.add_zero, Nat.mod_eq_of_lt (zk_pr_lt hp), Nat.zero_mul, Nat.zero_add]
theorem zb_main (hn : n ≤ 32) (ht : ∀ i, i < n → t i < 6) : ∀ j, j < n → zk_K n t (zk_pr n (zk_ord n t (zb_sg n (zk_col n t) j))) n = zk_K n t (zk_ord n t j) n := by
  intro j hj
  have h0 : 0 < n := by omega
  have pmo := zk_ord_pm (t := t) hn
  have pms := zb_sg_pm hn (zk_col n t)
  refine zp_two (n := n) (f := fun j => zk_K n t (zk_pr n (zk_ord n t (zb_sg n (zk_col n t) j))) n) (g := fun j => zk_K n t (zk_ord n t j) n) ?_ (fun i j hij hj => zb_f hn hij hj) ?_ j hj
  · intro i j hij hj
    show zk_K n t (zk_pr n (zk_ord n t (zb_sg n (zk_col n t) i))) n ≤ zk_K n t (zk_pr n (zk_ord n t (zb_sg n (zk_col n t) j))) n
    by_cases e : i = j
    · subst e; exact Nat.le_refl _
    · have si := pms.1 i (by omega)
      have sj := pms.1 j hj
      have li := (zp_iv_r (zb_lam_pm hn (zk_col n t)) (k := i) (by omega)).2
      have lj := (zp_iv_r (zb_lam_pm hn (zk_col n t)) (k := j) hj).2
      have key := zp_rk_back (n := n) (g := zb_g (zk_col n t)) (p := zb_sg n (zk_col n t) i) (q := zb_sg n (zk_col n t) j) (fun a b ha hb e => zb_inj hn _ ha hb e) si sj (by
        unfold zb_lam at li lj
        unfold zb_sg zb_lam
        omega)
      have oi := pmo.1 _ si
      have oj := pmo.1 _ sj
      rw [zb_prK oi, zb_prK oj]
      have lx := (zk_lex (A := t (zk_pr n (zk_ord n t (zb_sg n (zk_col n t) i)))) (B := t (zk_pr n (zk_ord n t (zb_sg n (zk_col n t) j)))) (zk_K_lt h0 ht (zk_ord n t (zb_sg n (zk_col n t) i)) (n - 1)) (zk_K_lt h0 ht (zk_ord n t (zb_sg n (zk_col n t) j)) (n - 1))).1
      have ci : zk_col n t (zb_sg n (zk_col n t) i) = t (zk_pr n (zk_ord n t (zb_sg n (zk_col n t) i))) := rfl
      have cj : zk_col n t (zb_sg n (zk_col n t) j) = t (zk_pr n (zk_ord n t (zb_sg n (zk_col n t) j))) := rfl
      unfold zb_g at key
      rw [ci, cj] at key
      by_cases c : t (zk_pr n (zk_ord n t (zb_sg n (zk_col n t) i))) < t (zk_pr n (zk_ord n t (zb_sg n (zk_col n t) j)))
      · have := lx.mpr (Or.inl c)
        omega
      · have ce : t (zk_pr n (zk_ord n t (zb_sg n (zk_col n t) i))) = t (zk_pr n (zk_ord n t (zb_sg n (zk_col n t) j))) := by omega
        have kl : zb_sg n (zk_col n t) i < zb_sg n (zk_col n t) j := by omega
        have f := zb_f (t := t) hn (Nat.le_of_lt kl) sj
        have : zk_K n t (zk_ord n t (zb_sg n (zk_col n t) i)) (n - 1) ≤ zk_K n t (zk_ord n t (zb_sg n (zk_col n t) j)) (n - 1) := by
          by_cases d : zk_K n t (zk_ord n t (zb_sg n (zk_col n t) j)) (n - 1) < zk_K n t (zk_ord n t (zb_sg n (zk_col n t) i)) (n - 1)
          · have m := zk_K_mono h0 ht d 1
            have e1 : n - 1 + 1 = n := by omega
            rw [e1] at m
            omega
          · omega
        rw [ce]
        omega
  · intro v
    have a := zp_re (zp_comp (zk_pr_pm (n := n)) (zp_comp pmo pms)) (fun p => if zk_K n t p n < v then 1 else 0)
    have b := zp_re pmo (fun p => if zk_K n t p n < v then 1 else 0)
    exact a.trans b.symm
/-- one step back: from a rotation like the k-th to one like the next, and the letter in between -/
theorem zb_step (hn : n ≤ 32) (ht : ∀ i, i < n → t i < 6) {j k : Nat} (hj : j < n) (hk : k < n) (h : ∀ i, zk_R n t (zk_ord n t j) i = zk_R n t k i) :
    zb_sg n (zk_col n t) j < n ∧ zk_col n t (zb_sg n (zk_col n t) j) = t k ∧ ∀ i, zk_R n t (zk_ord n t (zb_sg n (zk_col n t) j)) i = zk_R n t (k + 1) i := by
  have h0 : 0 < n := by omega
  have sj := (zb_sg_pm hn (zk_col n t)).1 j hj
  have os := (zk_ord_pm (t := t) hn).1 _ sj
  have m := zk_all h0 ht (Nat.le_refl n) (zb_main hn ht j hj)
  refine ⟨sj, ?_, ?_⟩
  · have a := m 0
    rw [h 0] at a
    unfold zk_R at a
    rw [Nat.add_zero, Nat.add_zero, Nat.mod_eq_of_lt (zk_pr_lt os), Nat.mod_eq_of_lt hk] at a
    exact a
  · intro i
    have a := m (1 + i)
    rw [h (1 + i), zk_R_add, zk_R_add, ← zk_R_mod (zk_pr n _ + 1), zb_pm os] at a
    exact a
end ZB
end
section
section ZL
/-! the reference's lengths: all rising lists, one behind the other -/
def zl_gen : Nat → Nat → List (List Nat)
  | 0, _ => [[]]
  | k + 1, lo => (List.range' lo (7 - lo)).flatMap (fun x => (zl_gen k x).map (fun l => x :: l))
def zl_at (f : Nat → Nat) : Nat → Option Nat
  | 0 => none
  | k + 1 => if f k < 6 then some k else zl_at f k
def zl_nx (l : List Nat) : Option (List Nat) :=
  match zl_at (fun i => l.getD i 0) l.length with
  | none => none
  | some a => some (l.take a ++ List.replicate (l.length - a) (l.getD a 0 + 1))
def zl_ch : List (List Nat) → Bool
  | [] => true
  | [a] => zl_nx a == none
  | a :: b :: r => (zl_nx a == some b) && zl_ch (b :: r)
def zl_all (k : Nat) : Bool := zl_ch (zl_gen k 1) && decide ((zl_gen k 1).length ≤ 792) && ((zl_gen k 1).head? == some (List.replicate k 1)) && (zl_gen k 1).all (fun l => l.length == k && l.all (fun x => decide (1 ≤ x) && decide (x ≤ 6)))
theorem zl_1 : zl_all 1 = true := by decide +kernel
theorem zl_2 : zl_all 2 = true := by decide +kernel
theorem zl_3 : zl_all 3 = true := by decide +kernel
theorem zl_4 : zl_all 4 = true := by decide +kernel
theorem zl_5 : zl_all 5 = true := by decide +kernel
theorem zl_6 : zl_all 6 = true := by decide +kernel
theorem zl_7 : zl_all 7 = true := by decide +kernel
theorem zl_any {k : Nat} (h1 : 1 ≤ k) (h7 : k ≤ 7) : zl_all k = true := by
  have : k = 1 ∨ k = 2 ∨ k = 3 ∨ k = 4 ∨ k = 5 ∨ k = 6 ∨ k = 7 := by omega
  rcases this with h | h | h | h | h | h | h <;> subst h
  · exact zl_1
  · exact zl_2
  · exact zl_3
  · exact zl_4
  · exact zl_5
  · exact zl_6
  · exact zl_7
theorem zl_facts {k : Nat} (h1 : 1 ≤ k) (h7 : k ≤ 7) : zl_ch (zl_gen k 1) = true ∧ (zl_gen k 1).length ≤ 792 ∧ (∃ r, zl_gen k 1 = List.replicate k 1 :: r) ∧ ∀ l, l ∈ zl_gen k 1 → l.length = k ∧ ∀ x, x ∈ l → 1 ≤ x ∧ x ≤ 6 := by
  have h := zl_any h1 h7
  unfold zl_all at h
  rw [Bool.and_eq_true, Bool.and_eq_true, Bool.and_eq_true] at h
  obtain ⟨⟨⟨a, b⟩, c⟩, d⟩ := h
  refine ⟨a, of_decide_eq_true b, ?_, ?_⟩
  · have e : (zl_gen k 1).head? = some (List.replicate k 1) := eq_of_beq c
    revert e
    cases zl_gen k 1 with
    | nil => intro e; cases e
    | cons x r => intro e; exact ⟨r, by rw [List.head?_cons, Option.some_inj] at e; rw [e]⟩
  · intro l hl
    have e := List.all_eq_true.mp d l hl
    rw [Bool.and_eq_true] at e
    refine ⟨eq_of_beq e.1, fun x hx => ?_⟩
    have f := List.all_eq_true.mp e.2 x hx
    rw [Bool.and_eq_true] at f
    exact ⟨of_decide_eq_true f.1, of_decide_eq_true f.2⟩
/-- a rising function's list is among them -/
def zl_ls (f : Nat → Nat) : Nat → List Nat
  | 0 => []
  | k + 1 => f 0 :: zl_ls (fun i => f (i + 1)) k
theorem zl_ls_len : ∀ (k : Nat) (f : Nat → Nat), (zl_ls f k).length = k := by
  intro k
  induction k with
  | zero => intro f; rfl
  | succ k ih => intro f; show (zl_ls (fun i => f (i + 1)) k).length + 1 = _; rw [ih]
theorem zl_ls_get : ∀ (k : Nat) (f : Nat → Nat) (i : Nat), i < k → (zl_ls f k).getD i 0 = f i := by
  intro k
  induction k with
  | zero => intro f i hi; omega
  | succ k ih =>
    intro f i hi
    cases i with
    | zero => rfl
    | succ i => exact ih (fun i => f (i + 1)) i (by omega)
theorem zl_ls_in : ∀ (k lo : Nat) (f : Nat → Nat), (∀ i, i < k → lo ≤ f i ∧ f i ≤ 6) → (∀ i j, i ≤ j → j < k → f i ≤ f j) → zl_ls f k ∈ zl_gen k lo := by
  intro k
  induction k with
  | zero => intro lo f _ _; exact List.mem_singleton.mpr rfl
  | succ k ih =>
    intro lo f hf hm
    show _ ∈ (List.range' lo (7 - lo)).flatMap (fun x => (zl_gen k x).map (fun l => x :: l))
    have h0 := hf 0 (by omega)
    refine List.mem_flatMap.mpr ⟨f 0, ?_, List.mem_map.mpr ⟨zl_ls (fun i => f (i + 1)) k, ?_, rfl⟩⟩
    · rw [List.mem_range'_1]; omega
    · exact ih (f 0) (fun i => f (i + 1)) (fun i hi => ⟨hm 0 (i + 1) (by omega) (by omega), (hf (i + 1) (by omega)).2⟩) (fun i j hij hj => hm (i + 1) (j + 1) (by omega) (by omega))
/-! the least cost over a list of lengths -/
def zl_tk (k : Nat) (l : List Nat) : Nat := zs_sm (fun i => 2 ^ (6 - l.getD i 0)) k
def zl_co (v : Nat → Nat) (k : Nat) (l : List Nat) : Nat := zs_sm (fun i => v i * l.getD i 0) k
def zl_up (v : Nat → Nat) (k m : Nat) (l : List Nat) : Nat := if zl_tk k l ≤ 64 ∧ (m = 0 ∨ zl_co v k l < m) then zl_co v k l else m
def zl_ok (v : Nat → Nat) (k : Nat) (P : List (List Nat)) (m : Nat) : Prop := (∀ l, l ∈ P → zl_tk k l ≤ 64 → m ≠ 0 ∧ m ≤ zl_co v k l) ∧ (m = 0 ∨ ∃ l, l ∈ P ∧ zl_tk k l ≤ 64 ∧ m = zl_co v k l)
theorem zl_ok0 (v : Nat → Nat) (k : Nat) : zl_ok v k [] 0 := ⟨fun l h => (nomatch h), Or.inl rfl⟩
theorem zl_ok1 {v : Nat → Nat} {k m : Nat} {P : List (List Nat)} {l : List Nat} (h : zl_ok v k P m) (hl : zl_co v k l ≠ 0) : zl_ok v k (P ++ [l]) (zl_up v k m l) := by
  unfold zl_up
  by_cases c : zl_tk k l ≤ 64 ∧ (m = 0 ∨ zl_co v k l < m)
  · rw [if_pos c]
    refine ⟨fun x hx tx => ?_, Or.inr ⟨l, List.mem_append.mpr (Or.inr (List.mem_singleton.mpr rfl)), c.1, rfl⟩⟩
    rcases List.mem_append.mp hx with e | e
    · have := h.1 x e tx
      exact ⟨hl, by omega⟩
    · rw [List.mem_singleton] at e
      subst e
      exact ⟨hl, Nat.le_refl _⟩
  · rw [if_neg c]
    refine ⟨fun x hx tx => ?_, ?_⟩
    · rcases List.mem_append.mp hx with e | e
      · exact h.1 x e tx
      · rw [List.mem_singleton] at e
        subst e
        have : ¬ (m = 0 ∨ zl_co v k x < m) := fun y => c ⟨tx, y⟩
        omega
    · rcases h.2 with e | ⟨x, hx, tx, ex⟩
      · exact Or.inl e
      · exact Or.inr ⟨x, List.mem_append.mpr (Or.inl hx), tx, ex⟩
/-! sorting lengths -/
theorem zs_sw {W L : Nat → Nat} {n a m : Nat} (ha : a < n) (hm : m < n) (e : a ≠ m) : zs_sm (fun g => W g * L (zp_sw a m g)) n + (W a * L a + W m * L m) = zs_sm (fun g => W g * L g) n + (W a * L m + W m * L a) := by
  have h1 := zs_upd (f := fun g => W g * L g) (g := fun g => if g = a then W a * L m else W g * L g) ha (fun i _ hn => if_neg hn)
  have h2 := zs_upd (f := fun g => if g = a then W a * L m else W g * L g) (g := fun g => W g * L (zp_sw a m g)) hm (fun i _ hn => by
    show W i * L (zp_sw a m i) = if i = a then W a * L m else W i * L i
    by_cases h : i = a
    · subst h; rw [if_pos rfl, zp_sw_l]
    · rw [if_neg h, zp_sw_n h hn])
  simp only [zp_sw_r] at h2
  rw [if_neg (fun x => e x.symm)] at h2
  simp only [if_true] at h1
  omega
theorem zh_re2 {A B p q : Nat} (h : A < B) (g : p < q) : A * q + B * p < A * p + B * q := by
  obtain ⟨x, rfl⟩ : ∃ x, B = A + (x + 1) := ⟨B - A - 1, by omega⟩
  obtain ⟨y, rfl⟩ : ∃ y, q = p + (y + 1) := ⟨q - p - 1, by omega⟩
  have e1 : (A + (x + 1)) * p = A * p + (x + 1) * p := Nat.add_mul _ _ _
  have e2 : A * (p + (y + 1)) = A * p + A * (y + 1) := Nat.mul_add _ _ _
  have e3 : (A + (x + 1)) * (p + (y + 1)) = A * p + A * (y + 1) + ((x + 1) * p + (x + 1) * (y + 1)) := by rw [Nat.add_mul, Nat.mul_add A p (y + 1), Nat.mul_add (x + 1) p (y + 1)]
  have e4 : 0 < (x + 1) * (y + 1) := Nat.mul_pos (by omega) (by omega)
  omega
theorem zl_sort {v : Nat → Nat} {k : Nat} (hv : ∀ i j, i ≤ j → j < k → v j ≤ v i) : ∀ (μ : Nat) (l : Nat → Nat), (∀ i, i < k → 1 ≤ l i ∧ l i ≤ 6) → zs_sm (fun i => i * (6 - l i)) k ≤ μ →
    ∃ l' : Nat → Nat, (∀ i, i < k → 1 ≤ l' i ∧ l' i ≤ 6) ∧ (∀ i j, i ≤ j → j < k → l' i ≤ l' j) ∧ zs_sm (fun i => 2 ^ (6 - l' i)) k = zs_sm (fun i => 2 ^ (6 - l i)) k ∧ zs_sm (fun i => v i * l' i) k ≤ zs_sm (fun i => v i * l i) k := by
  intro μ
  induction μ with
  | zero =>
    intro l hl hμ
    by_cases h : ∃ i, i + 1 < k ∧ l (i + 1) < l i
    · exfalso
      obtain ⟨i, hi, hlt⟩ := h
      have m := zs_mem (f := fun i => i * (6 - l i)) hi
      have : 0 < (i + 1) * (6 - l (i + 1)) := Nat.mul_pos (by omega) (by have := hl i (by omega); omega)
      omega
    · refine ⟨l, hl, ?_, rfl, Nat.le_refl _⟩
      intro i j hij
      induction j with
      | zero => intro _; have : i = 0 := (by omega); subst this; exact Nat.le_refl _
      | succ j ih =>
        intro hj
        by_cases e : i = j + 1
        · subst e; exact Nat.le_refl _
        · have a := ih (by omega) (by omega)
          have b : ¬ l (j + 1) < l j := fun x => h ⟨j, hj, x⟩
          omega
  | succ μ ih =>
    intro l hl hμ
    by_cases h : ∃ i, i + 1 < k ∧ l (i + 1) < l i
    · obtain ⟨i, hi, hlt⟩ := h
      have li := hl i (by omega)
      have pm := zp_swp (n := k) (a := i + 1) (b := i) hi (by omega)
      have m1 := zs_sw (W := fun j => j) (L := fun j => 6 - l j) (n := k) (a := i) (m := i + 1) (by omega) hi (by omega)
      have m2 := zh_re2 (A := i) (B := i + 1) (p := 6 - l i) (q := 6 - l (i + 1)) (by omega) (by omega)
      have sy : ∀ j, zp_sw i (i + 1) j = zp_sw (i + 1) i j := by
        intro j
        unfold zp_sw
        by_cases e1 : j = i
        · rw [if_pos e1, if_neg (by omega), if_pos e1]
        · rw [if_neg e1]
          by_cases e2 : j = i + 1
          · rw [if_pos e2, if_pos e2]
          · rw [if_neg e2, if_neg e2, if_neg e1]
      have m3 : zs_sm (fun j => j * (6 - l (zp_sw (i + 1) i j))) k = zs_sm (fun j => j * (6 - l (zp_sw i (i + 1) j))) k := zs_congr (fun j _ => by rw [sy])
      obtain ⟨l', a, b, c, d⟩ := ih (fun j => l (zp_sw (i + 1) i j)) (fun j hj => hl _ (pm.1 j hj)) (by
        show zs_sm (fun j => j * (6 - l (zp_sw (i + 1) i j))) k ≤ μ
        omega)
      refine ⟨l', a, b, ?_, ?_⟩
      · rw [c]
        exact zp_re pm (fun j => 2 ^ (6 - l j))
      · have m4 := zs_sw (W := v) (L := l) (n := k) (a := i + 1) (m := i) hi (by omega) (by omega)
        have m5 := zh_re (A := v (i + 1)) (B := v i) (p := l (i + 1)) (q := l i) (hv i (i + 1) (by omega) hi) (by omega)
        omega
    · refine ⟨l, hl, ?_, rfl, Nat.le_refl _⟩
      intro i j hij
      induction j with
      | zero => intro _; have : i = 0 := (by omega); subst this; exact Nat.le_refl _
      | succ j ih =>
        intro hj
        by_cases e : i = j + 1
        · subst e; exact Nat.le_refl _
        · have a := ih (by omega) (by omega)
          have b : ¬ l (j + 1) < l j := fun x => h ⟨j, hj, x⟩
          omega
/-! the counts sorted, how many are not zero -/
theorem zs_trunc {f : Nat → Nat} {k n : Nat} (h : k ≤ n) : zs_sm (fun i => if i < k then f i else 0) n = zs_sm f k := by
  induction n with
  | zero =>
    have : k = 0 := by omega
    subst this; rfl
  | succ n ih =>
    by_cases e : k = n + 1
    · subst e
      exact zs_congr (fun i hi => if_pos hi)
    · rw [zs_s, ih (by omega), if_neg (by omega)]; rfl
theorem zl_kinds {v : Nat → Nat} {n : Nat} (hv : ∀ i j, i ≤ j → j < n → v j ≤ v i) {i : Nat} (hi : i < n) : v i ≠ 0 ↔ i < zs_sm (fun i => if v i = 0 then 0 else 1) n := by
  constructor
  · intro h
    have a : zs_sm (fun j => if j < i + 1 then 1 else 0) n ≤ zs_sm (fun i => if v i = 0 then 0 else 1) n := by
      refine zs_le (fun j hj => ?_)
      by_cases c : j < i + 1
      · have := hv j i (by omega) hi
        rw [if_pos c, if_neg (by omega)]; exact Nat.le_refl _
      · rw [if_neg c]; omega
    rw [zs_below (by omega)] at a
    omega
  · intro h c
    have a : zs_sm (fun i => if v i = 0 then 0 else 1) n ≤ zs_sm (fun j => if j < i then 1 else 0) n := by
      refine zs_le (fun j hj => ?_)
      by_cases c2 : j < i
      · rw [if_pos c2]; split <;> omega
      · have := hv i j (by omega) hj
        rw [if_neg c2, if_pos (by omega)]; exact Nat.le_refl _
    rw [zs_below (by omega)] at a
    omega
def zl_kn (w : Nat → Nat) : Nat := zs_sm (fun s => if w s = 0 then 0 else 1) 7
theorem zl_kn7 (w : Nat → Nat) : zl_kn w ≤ 7 := by
  have := zs_bound (f := fun s => if w s = 0 then 0 else 1) (n := 7) (c := 1) (fun s _ => by split <;> omega)
  unfold zl_kn; omega
theorem zl_kn_pm {w v π : Nat → Nat} (hπ : zp_pm 7 π) (hv : ∀ i, i < 7 → v i = w (π i)) : zl_kn v = zl_kn w := by
  unfold zl_kn
  rw [← zp_re hπ (fun s => if w s = 0 then 0 else 1)]
  exact zs_congr (fun i hi => by rw [hv i hi])
/-- the least over all the lengths is what the bits cost -/
theorem zl_final {w v π B : Nat → Nat} {m : Nat} (hF : zh_Fin w B) (hπ : zp_pm 7 π) (hv : ∀ i, i < 7 → v i = w (π i)) (hs : ∀ i j, i ≤ j → j < 7 → v j ≤ v i) (hm : zl_ok v (zl_kn v) (zl_gen (zl_kn v) 1) m) (h1 : 1 ≤ zl_kn v) : m = zh_co w B := by
  have h7 := zl_kn7 v
  obtain ⟨F1, F2, F3, F4⟩ := hF
  have al : ∀ i, i < 7 → (v i ≠ 0 ↔ i < zl_kn v) := fun i hi => zl_kinds hs hi
  have al' : ∀ i, i < 7 → (w (π i) = 0 ↔ ¬ i < zl_kn v) := by
    intro i hi
    rw [← hv i hi]
    have := al i hi
    constructor
    · intro a b; exact (this.mpr b) a
    · intro a
      by_cases c : v i = 0
      · exact c
      · exact absurd (this.mp c) a
  generalize hk : zl_kn v = k at *
  have eco : ∀ L : Nat → Nat, zh_co w L = zs_sm (fun i => v i * L (π i)) k := by
    intro L
    unfold zh_co
    rw [← zp_re hπ (fun s => w s * L s), ← zs_trunc (f := fun i => v i * L (π i)) h7]
    refine zs_congr (fun i hi => ?_)
    by_cases c : i < k
    · rw [if_pos c, hv i hi]
    · rw [if_neg c, (al' i hi).mpr c, Nat.zero_mul]
  have ekr : ∀ L : Nat → Nat, zh_kr w L = zs_sm (fun i => 2 ^ (6 - L (π i))) k := by
    intro L
    unfold zh_kr
    rw [← zp_re hπ (fun s => if w s = 0 then 0 else 2 ^ (6 - L s)), ← zs_trunc (f := fun i => 2 ^ (6 - L (π i))) h7]
    refine zs_congr (fun i hi => ?_)
    by_cases c : i < k
    · rw [if_pos c, if_neg (fun x => (al' i hi).mp x c)]
    · rw [if_neg c, if_pos ((al' i hi).mpr c)]
  obtain ⟨l', a, b, c, d⟩ := zl_sort (v := v) (k := k) (fun i j hij hj => hs i j hij (by omega)) _ (fun i => B (π i)) (fun i hi => F1 _ (hπ.1 i (by omega)) (fun x => (al' i (by omega)).mp x hi)) (Nat.le_refl _)
  have low : m ≠ 0 ∧ m ≤ zh_co w B := by
    have tk : zl_tk k (zl_ls l' k) = zh_kr w B := by
      rw [ekr, ← c]
      exact zs_congr (fun i hi => by rw [zl_ls_get k l' i hi])
    have co : zl_co v k (zl_ls l' k) = zs_sm (fun i => v i * l' i) k := zs_congr (fun i hi => by rw [zl_ls_get k l' i hi])
    have := hm.1 (zl_ls l' k) (zl_ls_in k 1 l' a b) (by omega)
    refine ⟨this.1, ?_⟩
    rw [eco B]
    omega
  rcases hm.2 with e | ⟨l, hl, tl, el⟩
  · exact absurd e low.1
  · have fl := (zl_facts h1 h7).2.2.2 l hl
    have gl : ∀ i, i < k → 1 ≤ l.getD i 0 ∧ l.getD i 0 ≤ 6 := fun i hi => fl.2 _ (zr_mem (by rw [fl.1]; exact hi))
    have q := F4 (fun s => l.getD (zp_iv π 7 s) 0) (fun s hs ws => by
      have iv := zp_iv_r hπ hs
      refine gl _ ?_
      by_cases c : zp_iv π 7 s < k
      · exact c
      · exfalso
        apply ws
        have := (al' _ iv.1).mpr c
        rwa [iv.2] at this) (by
      rw [ekr]
      have : zs_sm (fun i => 2 ^ (6 - l.getD (zp_iv π 7 (π i)) 0)) k = zl_tk k l := zs_congr (fun i hi => by rw [zp_iv_of hπ (by omega)])
      omega)
    rw [eco (fun s => l.getD (zp_iv π 7 s) 0)] at q
    have : zs_sm (fun i => v i * l.getD (zp_iv π 7 (π i)) 0) k = zl_co v k l := zs_congr (fun i hi => by rw [zp_iv_of hπ (by omega)])
    omega
/-! six passes of neighbours changing places -/
def zl_Iv (p s : Nat) (v : Nat → Nat) : Prop := ∀ i j, j < i → i < 7 → (7 ≤ i + p ∨ (i + p = 6 ∧ i ≤ s) ∨ i = s) → v i ≤ v j
theorem zl_Iv0 (v : Nat → Nat) : zl_Iv 0 0 v := fun i j h1 h2 h3 => by omega
theorem zl_Iv_n {p s : Nat} {v : Nat → Nat} (h : zl_Iv p s v) (hs : s < 6) (c : v (s + 1) ≤ v s) : zl_Iv p (s + 1) v := by
  intro i j hj hi hc
  by_cases e : i = s + 1
  · subst e
    by_cases e2 : j = s
    · subst e2; exact c
    · have := h s j (by omega) (by omega) (Or.inr (Or.inr rfl)); omega
  · exact h i j hj hi (by omega)
theorem zl_Iv_s {p s : Nat} {v : Nat → Nat} (h : zl_Iv p s v) (hs : s < 6) (c : v s < v (s + 1)) : zl_Iv p (s + 1) (fun j => v (zp_sw s (s + 1) j)) := by
  have q : ¬ 7 ≤ s + 1 + p := fun x => by have := h (s + 1) s (by omega) (by omega) (Or.inl x); omega
  intro i j hj hi hc
  show v (zp_sw s (s + 1) i) ≤ v (zp_sw s (s + 1) j)
  by_cases e : i = s + 1
  · subst e
    rw [zp_sw_r]
    by_cases e2 : j = s
    · subst e2; rw [zp_sw_l]; omega
    · rw [zp_sw_n e2 (by omega)]
      exact h s j (by omega) (by omega) (Or.inr (Or.inr rfl))
  · have big : 7 ≤ i + p := by omega
    rw [zp_sw_n (j := i) (by omega) e]
    by_cases e2 : j = s
    · subst e2; rw [zp_sw_l]; exact h i (j + 1) (by omega) hi (Or.inl big)
    · by_cases e3 : j = s + 1
      · subst e3; rw [zp_sw_r]; exact h i s (by omega) hi (Or.inl big)
      · rw [zp_sw_n e2 e3]; exact h i j hj hi (Or.inl big)
theorem zl_Iv_p {p : Nat} {v : Nat → Nat} (h : zl_Iv p 6 v) : zl_Iv (p + 1) 0 v := by
  intro i j hj hi hc
  exact h i j hj hi (by omega)
theorem zl_Iv_k {k : Nat} {v : Nat → Nat} (h : zl_Iv (k / 6) (k % 6 + 1) v) : zl_Iv ((k + 1) / 6) ((k + 1) % 6) v := by
  by_cases e : k % 6 = 5
  · have e1 : (k + 1) / 6 = k / 6 + 1 := by omega
    have e2 : (k + 1) % 6 = 0 := by omega
    rw [e] at h
    rw [e1, e2]
    exact zl_Iv_p h
  · have e1 : (k + 1) / 6 = k / 6 := by omega
    have e2 : (k + 1) % 6 = k % 6 + 1 := by omega
    rw [e1, e2]
    exact h
theorem zl_Iv_e {v : Nat → Nat} (h : zl_Iv 6 0 v) : ∀ i j, i ≤ j → j < 7 → v j ≤ v i := by
  intro i j hij hj
  by_cases e : i = j
  · subst e; exact Nat.le_refl _
  · exact h j i (by omega) hj (Or.inl (by omega))
end ZL
end
section
section ZXS
abbrev zx_A : Type := (Nat → Int32) → (Nat → Int32) → (Nat → Int32) → (Nat → Int32) → (Nat → Int32) → (Nat → Int32) → (Nat → Int32) → (Nat → Int32) → (Nat → Int32) → (Nat → Int32) → (Nat → Int32) → (Nat → Int32) → (Nat → Int64) → (Nat → Int32) → (Nat → Int32) → Prop
abbrev zx_J1 : Type := Int32 → zx_A
abbrev zx_J2 : Type := Int32 → Int32 → zx_A
abbrev zx_J3 : Type := Int32 → Int32 → Int32 → zx_A
abbrev zx_J6 : Type := Int32 → Int32 → Int32 → Int32 → Int32 → Int32 → zx_A
abbrev zx_J7 : Type := Int32 → Int32 → Int32 → Int32 → Int32 → Int32 → Int32 → zx_A
/-! numbers -/
theorem zx_i8 : ∀ x, x < 128 → (nI x).toInt8.toInt32 = nI x := by decide +kernel
theorem zx_nb {x : Nat} (h : x < 128) : vp_nar .byte (nI x) = nI x := by rw [vp_nar_byte, zx_i8 x h]
theorem zx_nb8 {x : Nat} (h : x < 128) : vp_nar .byte (nI x).toInt8.toInt32 = nI x := by rw [zx_i8 x h, zx_nb h]
theorem zx_le0 {a : Nat} (h : a < 2 ^ 31) : nI a ≤ 0 ↔ a = 0 := by
  rw [← nI_0, nI_leI h (by omega)]; omega
theorem zx_eq0 {a : Nat} (h : a < 2 ^ 31) : nI a = 0 ↔ a = 0 := by
  rw [← nI_0, nI_eq h (by omega)]
theorem zx_lt0 {a : Nat} (h : a < 2 ^ 31) : nI a < 0 ↔ False := by
  rw [iff_false]; exact nI_pos h
theorem zx_dif {a b : Nat} (ha : a < 2 ^ 30) (hb : b < 2 ^ 30) : (0 < nI a - nI b ↔ b < a) ∧ (nI a - nI b = 0 ↔ a = b) := by
  constructor
  · rw [Int32.lt_iff_toInt_lt, pk_sub_toInt ha hb, Int32.toInt_zero]; omega
  · rw [← Int32.toInt_inj, pk_sub_toInt ha hb, Int32.toInt_zero]; omega
variable {n : Nat} {t : Nat → Nat} {post : SX → Prop} {f_coded f_markAt f_symbolCount f_bitCount : Int32} {a_text a_order a_classOf a_nextClass a_columnOf a_ranks a_symbolList a_row a_weight a_group a_bitsOf a_codeOf a_back a_stepTo : Nat → Int32} {a_stream : Nat → Int64}
theorem zx_cmp {q : Int32 → Prop} {m : Nat} {c : Nat → Nat} (hn : n ≤ 32) (ht : ∀ i, i < n → t i < 6) (hm : m ≤ 32) (hC : zk_C n t m c) (hc : ∀ p, p < n → a_classOf p = nI (c p)) {p1 p2 : Nat} (h1 : p1 < n) (h2 : p2 < n)
    (K : ∀ r : Int32, (0 < r ↔ zk_K n t p2 (m + m) < zk_K n t p1 (m + m)) → (r = 0 ↔ zk_K n t p1 (m + m) = zk_K n t p2 (m + m)) → q r) : wpX_compare q ((nI n), f_coded, f_markAt, f_symbolCount, f_bitCount, a_text, a_order, a_classOf, a_nextClass, a_columnOf, a_ranks, a_symbolList, a_row, a_weight, a_group, a_bitsOf, a_codeOf, a_stream, a_back, a_stepTo) (nI p1) (nI p2) (nI m) := by
  have h0 : 0 < n := by omega
  have A := zk_cmp h0 ht hC h1 h2
  have A' := zk_cmp h0 ht hC h2 h1
  have m1 := Nat.mod_lt (p1 + m) h0
  have m2 := Nat.mod_lt (p2 + m) h0
  have b1 := hC.1 p1 h1
  have b2 := hC.1 p2 h2
  have b3 := hC.1 _ m1
  have b4 := hC.1 _ m2
  unfold wpX_compare
  dsimp only
  refine ⟨vp_in_nI (by omega) (by omega), vp_in_nI (by omega) (by omega), ?_⟩
  rw [nI_clamp (n := p1) (by omega), nI_clamp (n := p2) (by omega), hc p1 h1, hc p2 h2]
  refine ek_if (nI_eq (by omega) (by omega)) (fun e => ?_) (fun e => ?_)
  · have D := zx_dif (a := c ((p1 + m) % n)) (b := c ((p2 + m) % n)) (by omega) (by omega)
    rw [nI_add, nI_add, pk_rem (by omega) h0 (by omega), pk_rem (by omega) h0 (by omega), nI_clamp (n := (p1 + m) % n) (by omega), nI_clamp (n := (p2 + m) % n) (by omega), hc _ m1, hc _ m2]
    refine ⟨nI_ne0 h0 (by omega), vp_in_nI (by omega) (by omega), nI_ne0 h0 (by omega), vp_in_nI (by omega) (by omega), K _ ?_ ?_⟩
    · rw [D.1]; exact (A'.2 e.symm).1
    · rw [D.2]; exact (A.2 e).2
  · have D := zx_dif (a := c p1) (b := c p2) (by omega) (by omega)
    refine ⟨vp_in_nI (by omega) (by omega), vp_in_nI (by omega) (by omega), K _ ?_ ?_⟩
    · rw [D.1]
      constructor
      · intro x; exact A'.1 x
      · intro x
        by_cases y : c p1 < c p2
        · have := A.1 y; omega
        · omega
    · rw [D.2]
      constructor
      · intro x; exact absurd x e
      · intro x
        by_cases y : c p1 < c p2
        · have := A.1 y; omega
        · have := A'.1 (by omega); omega
theorem zx_ca {q : Int32 → Prop} {m : Nat} {c : Nat → Nat} (hn : n ≤ 32) (ht : ∀ i, i < n → t i < 6) (hm : m ≤ 32) (hC : zk_C n t m c) (hc : ∀ p, p < n → a_classOf p = nI (c p)) {p1 p2 : Nat} (h1 : p1 < n) (h2 : p2 < n)
    (K1 : zk_G n t (m + m) p2 < zk_G n t (m + m) p1 → q 1) (K0 : ¬ zk_G n t (m + m) p2 < zk_G n t (m + m) p1 → q 0) : wpX_comesAfter q ((nI n), f_coded, f_markAt, f_symbolCount, f_bitCount, a_text, a_order, a_classOf, a_nextClass, a_columnOf, a_ranks, a_symbolList, a_row, a_weight, a_group, a_bitsOf, a_codeOf, a_stream, a_back, a_stepTo) (nI p1) (nI p2) (nI m) := by
  unfold wpX_comesAfter
  dsimp only
  refine zx_cmp hn ht hm hC hc h1 h2 (fun r a b => ?_)
  unfold zk_G at K1 K0
  refine br_c (fun x => K1 ?_) (fun x => br_c (fun y => ?_) (fun y => K0 ?_))
  · have := a.mp x; omega
  · have e := b.mp y
    refine ek_if (nI_leI (by omega) (by omega)) (fun z => K0 (by omega)) (fun z => K1 (by omega))
  · have e1 : ¬ zk_K n t p2 (m + m) < zk_K n t p1 (m + m) := fun z => x (a.mpr z)
    have e2 : ¬ zk_K n t p1 (m + m) = zk_K n t p2 (m + m) := fun z => y (b.mpr z)
    omega
theorem zk_cy_lt {i a j : Nat} (h : j < a) : zk_cy i a j = j := if_pos h
theorem zk_cy_eq (i a : Nat) : zk_cy i a a = i := by
  unfold zk_cy; rw [if_neg (by omega), if_pos rfl]
theorem zk_cy_md {i a j : Nat} (h : a < j) (h2 : j ≤ i) : zk_cy i a j = j - 1 := by
  unfold zk_cy; rw [if_neg (by omega), if_neg (by omega), if_pos h2]
theorem zk_cy_gt {i a j : Nat} (h : a ≤ i) (h2 : i < j) : zk_cy i a j = j := by
  unfold zk_cy; rw [if_neg (by omega), if_neg (by omega), if_neg (by omega)]
theorem zx_sink10 {m i : Nat} {c o : Nat → Nat} (hn : n ≤ 32) (ht : ∀ i, i < n → t i < 6) (hm : m ≤ 32) (hC : zk_C n t m c) (hc : ∀ p, p < n → a_classOf p = nI (c p)) (hi : i < n) (ho : zp_pm n o) (hs : zk_so (zk_G n t (m + m)) o i)
    (K : ∀ (a_order : Nat → Int32) (o' : Nat → Nat), zp_pm n o' → zk_so (zk_G n t (m + m)) o' (i + 1) → (∀ j, j < n → a_order j = nI (o' j)) → post ((nI n), f_coded, f_markAt, f_symbolCount, f_bitCount, a_text, a_order, a_classOf, a_nextClass, a_columnOf, a_ranks, a_symbolList, a_row, a_weight, a_group, a_bitsOf, a_codeOf, a_stream, a_back, a_stepTo)) :
    ∀ (a f : Nat) (a_order : Nat → Int32), a ≤ i → a < f → (∀ j, j < n → j ≠ a → a_order j = nI (o (zk_cy i a j))) → (∀ j, a ≤ j → j < i → zk_G n t (m + m) (o i) < zk_G n t (m + m) (o j)) → wX_sink_10 post (nI m) (nI (o i)) (nI n) f_coded f_markAt f_symbolCount f_bitCount f (nI a) a_text a_order a_classOf a_nextClass a_columnOf a_ranks a_symbolList a_row a_weight a_group a_bitsOf a_codeOf a_stream a_back a_stepTo := by
  have oi := ho.1 i hi
  have fin : ∀ (a : Nat) (a_order : Nat → Int32), a ≤ i → (∀ j, j < n → j ≠ a → a_order j = nI (o (zk_cy i a j))) → (∀ j, j < a → zk_G n t (m + m) (o j) < zk_G n t (m + m) (o i)) → (∀ j, a ≤ j → j < i → zk_G n t (m + m) (o i) < zk_G n t (m + m) (o j)) →
      vp_in (nI a) 32 ∧ ∀ a_order_5 : Nat → Int32, a_order_5 = upd a_order (nI a).toNatClampNeg (vp_nar .byte (nI (o i))) → post ((nI n), f_coded, f_markAt, f_symbolCount, f_bitCount, a_text, a_order_5, a_classOf, a_nextClass, a_columnOf, a_ranks, a_symbolList, a_row, a_weight, a_group, a_bitsOf, a_codeOf, a_stream, a_back, a_stepTo) := by
    intro a a_order ha hj h1 h2
    rw [nI_clamp (n := a) (by omega), zx_nb (x := o i) (by omega)]
    refine ⟨vp_in_nI (by omega) (by omega), nm_e (K _ (fun j => o (zk_cy i a j)) (zp_comp ho (zk_cy_pm hi ha)) (zk_cy_so ha hs h1 h2) (fun j hj' => ?_))⟩
    by_cases e : j = a
    · subst e; rw [pk_us, zk_cy_eq]
    · rw [pk_un e]; exact hj j hj' e
  intro a
  induction a with
  | zero =>
    intro f a_order ha hf hj h2
    obtain ⟨f, rfl⟩ : ∃ f', f = f' + 1 := ⟨f - 1, by omega⟩
    exact br_t (show nI 0 ≤ 0 from (zx_le0 (by omega)).mpr rfl) (fin 0 a_order ha hj (fun j hj => absurd hj (by omega)) h2)
  | succ a ih =>
    intro f a_order ha hf hj h2
    obtain ⟨f, rfl⟩ : ∃ f', f = f' + 1 := ⟨f - 1, by omega⟩
    have oa := ho.1 a (by omega)
    have ea : a_order a = nI (o a) := by rw [hj a (by omega) (by omega), zk_cy_lt (by omega)]
    rw [wX_sink_10]
    refine br_f (fun x => by have := (zx_le0 (a := a + 1) (by omega)).mp x; omega) ?_
    rw [nI_pred, nI_clamp (n := a) (by omega)]
    refine ⟨vp_in_nI (by omega) (by omega), ?_⟩
    rw [ea]
    refine zx_ca hn ht hm hC hc oa oi (fun x => ?_) (fun x => ?_)
    · refine br_f (by decide) ⟨vp_in_nI (by omega) (by omega), vp_in_nI (by omega) (by omega), ?_⟩
      rw [nI_clamp (n := a + 1) (by omega), zx_nb (x := o a) (by omega)]
      refine nm_e (nm_r (pk_m1 a) (ih f _ (by omega) (by omega) (fun j hj' hne => ?_) (fun j hj' hji => ?_)))
      · by_cases e : j = a + 1
        · subst e; rw [pk_us, zk_cy_md (by omega) ha]; rfl
        · rw [pk_un e, hj j hj' e]
          by_cases e2 : j < a
          · rw [zk_cy_lt (by omega), zk_cy_lt e2]
          · by_cases e3 : j ≤ i
            · rw [zk_cy_md (by omega) e3, zk_cy_md (by omega) e3]
            · rw [zk_cy_gt ha (by omega), zk_cy_gt (by omega) (by omega)]
      · by_cases e : j = a
        · subst e; exact x
        · exact h2 j (by omega) hji
    · refine br_t rfl (fin (a + 1) a_order ha hj (fun j hj' => ?_) h2)
      have ne : zk_G n t (m + m) (o a) ≠ zk_G n t (m + m) (o i) := fun e => by
        have := ho.2 a i (by omega) hi (zk_G_inj hn oa oi e)
        omega
      by_cases e : j = a
      · subst e; omega
      · have := hs j a (by omega) (by omega)
        omega
theorem zx_sink {m i : Nat} {c o : Nat → Nat} (hn : n ≤ 32) (ht : ∀ i, i < n → t i < 6) (hm : m ≤ 32) (hC : zk_C n t m c) (hc : ∀ p, p < n → a_classOf p = nI (c p)) (hi : i < n) (ho : zp_pm n o) (hs : zk_so (zk_G n t (m + m)) o i) (hO : ∀ j, j < n → a_order j = nI (o j))
    (K : ∀ (a_order : Nat → Int32) (o' : Nat → Nat), zp_pm n o' → zk_so (zk_G n t (m + m)) o' (i + 1) → (∀ j, j < n → a_order j = nI (o' j)) → post ((nI n), f_coded, f_markAt, f_symbolCount, f_bitCount, a_text, a_order, a_classOf, a_nextClass, a_columnOf, a_ranks, a_symbolList, a_row, a_weight, a_group, a_bitsOf, a_codeOf, a_stream, a_back, a_stepTo)) : wpX_sink post ((nI n), f_coded, f_markAt, f_symbolCount, f_bitCount, a_text, a_order, a_classOf, a_nextClass, a_columnOf, a_ranks, a_symbolList, a_row, a_weight, a_group, a_bitsOf, a_codeOf, a_stream, a_back, a_stepTo) (nI i) (nI m) := by
  unfold wpX_sink
  dsimp only
  rw [nI_clamp (n := i) (by omega), hO i hi]
  refine ⟨vp_in_nI (by omega) (by omega), nm_e ⟨i + 1, zx_sink10 hn ht hm hC hc hi ho hs K i (i + 1) _ (Nat.le_refl i) (by omega) (fun j hj hne => ?_) (fun j h1 h2 => absurd h1 (by omega))⟩⟩
  rw [hO j hj]
  by_cases e : j < i
  · rw [zk_cy_lt e]
  · rw [zk_cy_gt (Nat.le_refl i) (by omega)]
theorem zx_s46 {J38 : zx_J6} {m : Nat} {c : Nat → Nat} (hn : n ≤ 32) (ht : ∀ i, i < n → t i < 6) (hm : m ≤ 32) (hC : zk_C n t m c) (hc : ∀ p, p < n → a_classOf p = nI (c p))
    (K : ∀ (a_order : Nat → Int32) (o : Nat → Nat), zp_pm n o → zk_so (zk_G n t (m + m)) o n → (∀ j, j < n → a_order j = nI (o j)) → ∃ n70, wX_sortRotations_70 post J38 (nI m) (nI n) f_coded f_markAt f_symbolCount f_bitCount n70 0 0 a_text a_order a_classOf a_nextClass a_columnOf a_ranks a_symbolList a_row a_weight a_group a_bitsOf a_codeOf a_stream a_back a_stepTo) :
    ∀ (f i : Nat) (a_order : Nat → Int32) (o : Nat → Nat), i ≤ 32 → n - i < f → zp_pm n o → zk_so (zk_G n t (m + m)) o i → (∀ j, j < n → a_order j = nI (o j)) → wX_sortRotations_46 post J38 (nI m) f (nI i) (nI n) f_coded f_markAt f_symbolCount f_bitCount a_text a_order a_classOf a_nextClass a_columnOf a_ranks a_symbolList a_row a_weight a_group a_bitsOf a_codeOf a_stream a_back a_stepTo := by
  intro f
  induction f with
  | zero =>
    intro i a_order o h32 hf ho hs hO
    omega
  | succ f ih =>
    intro i a_order o h32 hf ho hs hO
    rw [wX_sortRotations_46]
    refine ek_if (nI_leI (by omega) (by omega)) (fun e => K a_order o ho (fun a b hab hb => hs a b hab (by omega)) hO) (fun e => ?_)
    refine zx_sink hn ht hm hC hc (by omega) ho hs hO (fun a_order o' ho' hs' hO' => ?_)
    exact nm_r (nI_1 i) (ih (i + 1) a_order o' (by omega) (by omega) ho' hs' hO')
theorem zx_s107 {J38 : zx_J6} {J70 : zx_J2} {x1 : Int32} {i d q : Nat} (hi : i < n) (hn : n ≤ 32) (hd : d < 128) (hq : q < 32) (hO : a_order i = nI q) (K : J70 (nI d) (nI (i + 1)) a_text a_order a_classOf (upd a_nextClass q (nI d)) a_columnOf a_ranks a_symbolList a_row a_weight a_group a_bitsOf a_codeOf a_stream a_back a_stepTo) : wX_sortRotations_107 post J38 J70 x1 (nI d) (nI i) (nI n) f_coded f_markAt f_symbolCount f_bitCount a_text a_order a_classOf a_nextClass a_columnOf a_ranks a_symbolList a_row a_weight a_group a_bitsOf a_codeOf a_stream a_back a_stepTo := by
  unfold wX_sortRotations_107
  rw [nI_clamp (n := i) (by omega), hO, nI_clamp (n := q) (by omega), zx_nb8 hd]
  exact ⟨vp_in_nI (by omega) (by omega), vp_in_nI hq (by omega), nm_e (nm_r (nI_1 i) K)⟩
theorem zx_s70 {J38 : zx_J6} {m : Nat} {c o : Nat → Nat} (hn : n ≤ 32) (ht : ∀ i, i < n → t i < 6) (hm : m ≤ 32) (hC : zk_C n t m c) (hc : ∀ p, p < n → a_classOf p = nI (c p)) (ho : zp_pm n o) (hO : ∀ j, j < n → a_order j = nI (o j))
    (K : ∀ (a_nextClass : Nat → Int32), (∀ j, j < n → a_nextClass (o j) = nI (zk_d (fun p => zk_K n t p (m + m)) o j)) → ∃ n128, wX_sortRotations_128 post J38 (nI m) (nI n) f_coded f_markAt f_symbolCount f_bitCount n128 0 a_text a_order a_classOf a_nextClass a_columnOf a_ranks a_symbolList a_row a_weight a_group a_bitsOf a_codeOf a_stream a_back a_stepTo) :
    ∀ (f i : Nat) (a_nextClass : Nat → Int32), i ≤ n → n - i < f → (∀ j, j < i → a_nextClass (o j) = nI (zk_d (fun p => zk_K n t p (m + m)) o j)) → wX_sortRotations_70 post J38 (nI m) (nI n) f_coded f_markAt f_symbolCount f_bitCount f (nI (zk_d (fun p => zk_K n t p (m + m)) o (i - 1))) (nI i) a_text a_order a_classOf a_nextClass a_columnOf a_ranks a_symbolList a_row a_weight a_group a_bitsOf a_codeOf a_stream a_back a_stepTo := by
  intro f
  induction f with
  | zero =>
    intro i a_nextClass hi hf hN
    omega
  | succ f ih =>
    intro i a_nextClass hi hf hN
    rw [wX_sortRotations_70]
    refine ek_if (nI_leI (by omega) (by omega)) (fun e => K a_nextClass (fun j hj => hN j (by omega))) (fun e => ?_)
    have oi := ho.1 i (by omega)
    have dl := zk_d_le (fun p => zk_K n t p (m + m)) o i
    have dl' := zk_d_le (fun p => zk_K n t p (m + m)) o (i - 1)
    have nx : wX_sortRotations_70 post J38 (nI m) (nI n) f_coded f_markAt f_symbolCount f_bitCount f (nI (zk_d (fun p => zk_K n t p (m + m)) o i)) (nI (i + 1)) a_text a_order a_classOf (upd a_nextClass (o i) (nI (zk_d (fun p => zk_K n t p (m + m)) o i))) a_columnOf a_ranks a_symbolList a_row a_weight a_group a_bitsOf a_codeOf a_stream a_back a_stepTo := by
      refine ih (i + 1) _ (by omega) (by omega) (fun j hj => ?_)
      by_cases ej : j = i
      · subst ej; rw [pk_us]
      · have : o j ≠ o i := fun x => ej (ho.2 j i (by omega) (by omega) x)
        rw [pk_un this]; exact hN j (by omega)
    refine ek_if (zx_le0 (by omega)) (fun e0 => ?_) (fun e0 => ?_)
    · subst e0
      exact zx_s107 (by omega) hn (by omega) (by omega) (hO 0 (by omega)) nx
    · obtain ⟨i, rfl⟩ : ∃ i', i = i' + 1 := ⟨i - 1, by omega⟩
      have oi' := ho.1 i (by omega)
      have es : i + 1 - 1 = i := by omega
      rw [es] at dl' ⊢
      rw [nI_pred, nI_clamp (n := i) (by omega), nI_clamp (n := i + 1) (by omega), hO i (by omega), hO (i + 1) (by omega)]
      refine ⟨vp_in_nI (by omega) (by omega), vp_in_nI (by omega) (by omega), zx_cmp hn ht hm hC hc oi' oi (fun r a b => ?_)⟩
      have ds : zk_d (fun p => zk_K n t p (m + m)) o (i + 1) = zk_d (fun p => zk_K n t p (m + m)) o i + if zk_K n t (o i) (m + m) = zk_K n t (o (i + 1)) (m + m) then 0 else 1 := rfl
      refine ek_if b (fun e1 => ?_) (fun e1 => ?_)
      · rw [if_pos e1, Nat.add_zero] at ds
        rw [ds] at nx
        exact zx_s107 (by omega) hn (by omega) (by omega) (hO (i + 1) (by omega)) nx
      · rw [if_neg e1] at ds
        rw [ds] at nx
        exact nm_r (nI_1 _) (zx_s107 (by omega) hn (by omega) (by omega) (hO (i + 1) (by omega)) nx)
theorem zx_s128 {J38 : zx_J6} {m : Nat} {c : Nat → Nat} (hn : n ≤ 32) (hN : ∀ p, p < n → c p < 32 ∧ a_nextClass p = nI (c p))
    (K : ∀ (a_classOf : Nat → Int32), (∀ p, p < n → a_classOf p = nI (c p)) → J38 (nI (m * 2)) (nI n) f_coded f_markAt f_symbolCount f_bitCount a_text a_order a_classOf a_nextClass a_columnOf a_ranks a_symbolList a_row a_weight a_group a_bitsOf a_codeOf a_stream a_back a_stepTo) :
    ∀ (f i : Nat) (a_classOf : Nat → Int32), i ≤ n → n - i < f → (∀ p, p < i → a_classOf p = nI (c p)) → wX_sortRotations_128 post J38 (nI m) (nI n) f_coded f_markAt f_symbolCount f_bitCount f (nI i) a_text a_order a_classOf a_nextClass a_columnOf a_ranks a_symbolList a_row a_weight a_group a_bitsOf a_codeOf a_stream a_back a_stepTo := by
  intro f
  induction f with
  | zero =>
    intro i a_classOf hi hf hc
    omega
  | succ f ih =>
    intro i a_classOf hi hf hc
    rw [wX_sortRotations_128]
    refine ek_if (nI_leI (by omega) (by omega)) (fun e => ?_) (fun e => ?_)
    · exact nm_r (pk_mul m 2) (K a_classOf (fun p hp => hc p (by omega)))
    · have h := hN i (by omega)
      rw [nI_clamp (n := i) (by omega), h.2, zx_nb (x := c i) (by omega)]
      refine ⟨vp_in_nI (by omega) (by omega), vp_in_nI (by omega) (by omega), nm_e (nm_r (nI_1 i) (ih (i + 1) _ (by omega) (by omega) (fun p hp => ?_)))⟩
      by_cases e2 : p = i
      · subst e2; rw [pk_us]
      · rw [pk_un e2]; exact hc p (by omega)
theorem zx_s38 (hn : n ≤ 32) (ht : ∀ i, i < n → t i < 6) (K : ∀ (a_order a_classOf a_nextClass : Nat → Int32), (∀ k, k < n → a_order k = nI (zk_ord n t k)) → post ((nI n), f_coded, f_markAt, f_symbolCount, f_bitCount, a_text, a_order, a_classOf, a_nextClass, a_columnOf, a_ranks, a_symbolList, a_row, a_weight, a_group, a_bitsOf, a_codeOf, a_stream, a_back, a_stepTo)) :
    ∀ (d e f : Nat) (a_order a_classOf a_nextClass : Nat → Int32) (o c : Nat → Nat), e + d = 6 → d < f → zp_pm n o → (∀ j, j < n → a_order j = nI (o j)) → zk_C n t (2 ^ e) c → (∀ p, p < n → a_classOf p = nI (c p)) → (1 ≤ e → zk_so (zk_G n t (2 ^ e)) o n) → wX_sortRotations_38 post f (nI (2 ^ e)) (nI n) f_coded f_markAt f_symbolCount f_bitCount a_text a_order a_classOf a_nextClass a_columnOf a_ranks a_symbolList a_row a_weight a_group a_bitsOf a_codeOf a_stream a_back a_stepTo := by
  intro d
  induction d with
  | zero =>
    intro e f a_order a_classOf a_nextClass o c he hf ho hO hC hc hs
    obtain ⟨f, rfl⟩ : ∃ f', f = f' + 1 := ⟨f - 1, by omega⟩
    have e6 : e = 6 := by omega
    subst e6
    have s := hs (by omega)
    exact br_t (show (64 : Int32) ≤ nI (2 ^ 6) by decide) (K a_order a_classOf a_nextClass (fun k hk => by rw [hO k hk, zk_ord_of ht hn (m := 2 ^ 6) (by omega) ho s hk]))
  | succ d ih =>
    intro e f a_order a_classOf a_nextClass o c he hf ho hO hC hc hs
    obtain ⟨f, rfl⟩ : ∃ f', f = f' + 1 := ⟨f - 1, by omega⟩
    have e5 : 2 ^ e ≤ 32 := Nat.pow_le_pow_right (n := 2) (j := 5) (by omega) (by omega)
    have dbl : 2 ^ e + 2 ^ e = 2 ^ (e + 1) := by rw [Nat.pow_succ]; omega
    rw [wX_sortRotations_38]
    refine br_f (nI_ge (b := 64) (by omega) (by omega)) ⟨n + 1, zx_s46 hn ht e5 hC hc (fun a_order o ho hs hO => ⟨n + 1, ?_⟩) (n + 1) 1 a_order o (by omega) (by omega) ho (fun a b hab hb => absurd hb (by omega)) hO⟩
    have d0 : nI (zk_d (fun p => zk_K n t p (2 ^ e + 2 ^ e)) o (0 - 1)) = 0 := nI_0
    have l := zx_s70 (post := post) (J38 := wX_sortRotations_38 post f) (m := 2 ^ e) (c := c) (o := o) (f_coded := f_coded) (f_markAt := f_markAt) (f_symbolCount := f_symbolCount) (f_bitCount := f_bitCount) (a_text := a_text) (a_order := a_order) (a_classOf := a_classOf) (a_columnOf := a_columnOf) (a_ranks := a_ranks) (a_symbolList := a_symbolList) (a_row := a_row) (a_weight := a_weight) (a_group := a_group) (a_bitsOf := a_bitsOf) (a_codeOf := a_codeOf) (a_stream := a_stream) (a_back := a_back) (a_stepTo := a_stepTo) hn ht e5 hC hc ho hO (fun a_nextClass hN => ⟨n + 1, ?_⟩) (n + 1) 0 a_nextClass (by omega) (by omega) (fun j hj => absurd hj (by omega))
    · rw [d0, nI_0] at l
      exact l
    · have cN : ∀ p, p < n → (a_nextClass p).toNatClampNeg < 32 ∧ a_nextClass p = nI (a_nextClass p).toNatClampNeg := by
        intro p hp
        obtain ⟨j, hj, rfl⟩ := zp_surj ho p hp
        have := zk_d_le (fun p => zk_K n t p (2 ^ e + 2 ^ e)) o j
        rw [hN j hj, nI_clamp (by omega)]
        exact ⟨by omega, rfl⟩
      have cC : zk_C n t (2 ^ (e + 1)) (fun p => (a_nextClass p).toNatClampNeg) := by
        rw [← dbl]
        refine zk_C_next hn ho hs (fun i hi => ?_)
        have := zk_d_le (fun p => zk_K n t p (2 ^ e + 2 ^ e)) o i
        show (a_nextClass (o i)).toNatClampNeg = _
        rw [hN i hi, nI_clamp (by omega)]
      have l2 := zx_s128 (post := post) (J38 := wX_sortRotations_38 post f) (m := 2 ^ e) (c := fun p => (a_nextClass p).toNatClampNeg) (f_coded := f_coded) (f_markAt := f_markAt) (f_symbolCount := f_symbolCount) (f_bitCount := f_bitCount) (a_text := a_text) (a_order := a_order) (a_nextClass := a_nextClass) (a_columnOf := a_columnOf) (a_ranks := a_ranks) (a_symbolList := a_symbolList) (a_row := a_row) (a_weight := a_weight) (a_group := a_group) (a_bitsOf := a_bitsOf) (a_codeOf := a_codeOf) (a_stream := a_stream) (a_back := a_back) (a_stepTo := a_stepTo) hn cN (fun a_classOf hc' => ?_) (n + 1) 0 a_classOf (by omega) (by omega) (fun p hp => absurd hp (by omega))
      · rw [nI_0] at l2
        exact l2
      · rw [← Nat.pow_succ]
        refine ih (e + 1) f a_order a_classOf a_nextClass o _ (by omega) (by omega) ho hO cC hc' (fun _ => ?_)
        rw [← dbl]
        exact hs
theorem zx_s2 (hn : n ≤ 32) (ht : ∀ i, i < n → t i < 6) (hT : ∀ i, i < n → a_text i = nI (t i)) (K : ∀ (a_order a_classOf a_nextClass : Nat → Int32), (∀ k, k < n → a_order k = nI (zk_ord n t k)) → post ((nI n), f_coded, f_markAt, f_symbolCount, f_bitCount, a_text, a_order, a_classOf, a_nextClass, a_columnOf, a_ranks, a_symbolList, a_row, a_weight, a_group, a_bitsOf, a_codeOf, a_stream, a_back, a_stepTo)) :
    ∀ (f i : Nat) (a_order a_classOf : Nat → Int32), i ≤ n → n - i < f → (∀ p, p < i → a_order p = nI p ∧ a_classOf p = nI (t p)) → wX_sortRotations_2 post (nI n) f_coded f_markAt f_symbolCount f_bitCount f (nI i) a_text a_order a_classOf a_nextClass a_columnOf a_ranks a_symbolList a_row a_weight a_group a_bitsOf a_codeOf a_stream a_back a_stepTo := by
  intro f
  induction f with
  | zero =>
    intro i a_order a_classOf hi hf h
    omega
  | succ f ih =>
    intro i a_order a_classOf hi hf h
    rw [wX_sortRotations_2]
    refine ek_if (nI_leI (by omega) (by omega)) (fun e => ?_) (fun e => ?_)
    · refine ⟨7, ?_⟩
      exact zx_s38 hn ht K 6 0 7 a_order a_classOf a_nextClass (fun i => i) t (by omega) (by omega) (zp_id n) (fun j hj => (h j (by omega)).1) (zk_C1 ht) (fun p hp => (h p (by omega)).2) (fun x => absurd x (by omega))
    · have h6 := ht i (by omega)
      rw [nI_clamp (n := i) (by omega), hT i (by omega), zx_nb (x := t i) (by omega), zx_nb8 (x := i) (by omega)]
      refine ⟨vp_in_nI (by omega) (by omega), nm_e ⟨vp_in_nI (by omega) (by omega), vp_in_nI (by omega) (by omega), nm_e (nm_r (nI_1 i) (ih (i + 1) _ _ (by omega) (by omega) (fun p hp => ?_)))⟩⟩
      by_cases e2 : p = i
      · subst e2; rw [pk_us, pk_us]; exact ⟨rfl, rfl⟩
      · rw [pk_un e2, pk_un e2]; exact h p (by omega)
theorem zx_sort (hn : n ≤ 32) (ht : ∀ i, i < n → t i < 6) (hT : ∀ i, i < n → a_text i = nI (t i)) (K : ∀ (a_order a_classOf a_nextClass : Nat → Int32), (∀ k, k < n → a_order k = nI (zk_ord n t k)) → post ((nI n), f_coded, f_markAt, f_symbolCount, f_bitCount, a_text, a_order, a_classOf, a_nextClass, a_columnOf, a_ranks, a_symbolList, a_row, a_weight, a_group, a_bitsOf, a_codeOf, a_stream, a_back, a_stepTo)) : wpX_sortRotations post ((nI n), f_coded, f_markAt, f_symbolCount, f_bitCount, a_text, a_order, a_classOf, a_nextClass, a_columnOf, a_ranks, a_symbolList, a_row, a_weight, a_group, a_bitsOf, a_codeOf, a_stream, a_back, a_stepTo) := by
  unfold wpX_sortRotations
  dsimp only
  exact ⟨n + 1, zx_s2 hn ht hT K (n + 1) 0 _ _ (by omega) (by omega) (fun p hp => absurd hp (by omega))⟩
end ZXS
end
section
section ZXR
variable {n : Nat} {post : SX → Prop} {f_length f_coded f_markAt f_symbolCount f_bitCount : Int32} {a_text a_order a_classOf a_nextClass a_columnOf a_ranks a_symbolList a_row a_weight a_group a_bitsOf a_codeOf a_back a_stepTo : Nat → Int32} {a_stream : Nat → Int64}
theorem zx_reset2 (K : ∀ a_row : Nat → Int32, (∀ j, j < 6 → a_row j = nI j) → post (f_length, f_coded, f_markAt, f_symbolCount, f_bitCount, a_text, a_order, a_classOf, a_nextClass, a_columnOf, a_ranks, a_symbolList, a_row, a_weight, a_group, a_bitsOf, a_codeOf, a_stream, a_back, a_stepTo)) : ∀ (f i : Nat) (a_row : Nat → Int32), i ≤ 6 → 6 - i < f → (∀ j, j < i → a_row j = nI j) → wX_resetRow_2 post f_length f_coded f_markAt f_symbolCount f_bitCount f (nI i) a_text a_order a_classOf a_nextClass a_columnOf a_ranks a_symbolList a_row a_weight a_group a_bitsOf a_codeOf a_stream a_back a_stepTo := by
  intro f
  induction f with
  | zero => intro i a_row hi hf h; omega
  | succ f ih =>
    intro i a_row hi hf h
    rw [wX_resetRow_2]
    refine ek_if (nI_leI (a := 6) (by omega) (by omega)) (fun e => K a_row (fun j hj => h j (by omega))) (fun e => ?_)
    rw [nI_clamp (n := i) (by omega), zx_nb8 (x := i) (by omega)]
    refine ⟨vp_in_nI (by omega) (by omega), nm_e (nm_r (nI_1 i) (ih (i + 1) _ (by omega) (by omega) (fun j hj => ?_)))⟩
    by_cases e2 : j = i
    · subst e2; rw [pk_us]
    · rw [pk_un e2]; exact h j (by omega)
theorem zx_reset (K : ∀ a_row : Nat → Int32, (∀ j, j < 6 → a_row j = nI j) → post (f_length, f_coded, f_markAt, f_symbolCount, f_bitCount, a_text, a_order, a_classOf, a_nextClass, a_columnOf, a_ranks, a_symbolList, a_row, a_weight, a_group, a_bitsOf, a_codeOf, a_stream, a_back, a_stepTo)) : wpX_resetRow post (f_length, f_coded, f_markAt, f_symbolCount, f_bitCount, a_text, a_order, a_classOf, a_nextClass, a_columnOf, a_ranks, a_symbolList, a_row, a_weight, a_group, a_bitsOf, a_codeOf, a_stream, a_back, a_stepTo) := by
  unfold wpX_resetRow
  dsimp only
  exact ⟨7, zx_reset2 K 7 0 a_row (by omega) (by omega) (fun j hj => absurd hj (by omega))⟩
theorem zx_front9 {r : Nat → Nat} {p : Nat} (hp : p < 6) (hr : ∀ j, j < 6 → r j < 6) (K : ∀ a_row : Nat → Int32, (∀ j, j < 6 → a_row j = nI (r (zk_cy p 0 j))) → post (f_length, f_coded, f_markAt, f_symbolCount, f_bitCount, a_text, a_order, a_classOf, a_nextClass, a_columnOf, a_ranks, a_symbolList, a_row, a_weight, a_group, a_bitsOf, a_codeOf, a_stream, a_back, a_stepTo)) :
    ∀ (a f : Nat) (a_row : Nat → Int32), a ≤ p → a < f → (∀ j, j < 6 → j ≠ a → a_row j = nI (r (zk_cy p a j))) → wX_toFront_9 post (nI (r p)) f_length f_coded f_markAt f_symbolCount f_bitCount f (nI a) a_text a_order a_classOf a_nextClass a_columnOf a_ranks a_symbolList a_row a_weight a_group a_bitsOf a_codeOf a_stream a_back a_stepTo := by
  have rp := hr p hp
  intro a
  induction a with
  | zero =>
    intro f a_row ha hf h
    obtain ⟨f, rfl⟩ : ∃ f', f = f' + 1 := ⟨f - 1, by omega⟩
    rw [wX_toFront_9]
    refine br_t ((zx_le0 (by omega)).mpr rfl) ?_
    rw [zx_nb (x := r p) (by omega)]
    refine nm_e (K _ (fun j hj => ?_))
    by_cases e : j = 0
    · subst e; rw [pk_us, zk_cy_eq]
    · rw [pk_un e]; exact h j hj e
  | succ a ih =>
    intro f a_row ha hf h
    obtain ⟨f, rfl⟩ : ∃ f', f = f' + 1 := ⟨f - 1, by omega⟩
    have ra := hr a (by omega)
    have ea : a_row a = nI (r a) := by rw [h a (by omega) (by omega), zk_cy_lt (by omega)]
    rw [wX_toFront_9]
    refine br_f (fun x => by have := (zx_le0 (a := a + 1) (by omega)).mp x; omega) ?_
    rw [nI_pred, nI_clamp (n := a) (by omega), nI_clamp (n := a + 1) (by omega), ea, zx_nb (x := r a) (by omega)]
    refine ⟨vp_in_nI (by omega) (by omega), vp_in_nI (by omega) (by omega), nm_e (nm_r (pk_m1 a) (ih f _ (by omega) (by omega) (fun j hj hne => ?_)))⟩
    by_cases e : j = a + 1
    · subst e; rw [pk_us, zk_cy_md (by omega) ha]; rfl
    · rw [pk_un e, h j hj e]
      by_cases e2 : j < a
      · rw [zk_cy_lt (by omega), zk_cy_lt e2]
      · by_cases e3 : j ≤ p
        · rw [zk_cy_md (by omega) e3, zk_cy_md (by omega) e3]
        · rw [zk_cy_gt ha (by omega), zk_cy_gt (by omega) (by omega)]
theorem zx_front {r : Nat → Nat} {p : Nat} (hp : p < 6) (hr : ∀ j, j < 6 → r j < 6) (hR : ∀ j, j < 6 → a_row j = nI (r j)) (K : ∀ a_row : Nat → Int32, (∀ j, j < 6 → a_row j = nI (r (zk_cy p 0 j))) → post (f_length, f_coded, f_markAt, f_symbolCount, f_bitCount, a_text, a_order, a_classOf, a_nextClass, a_columnOf, a_ranks, a_symbolList, a_row, a_weight, a_group, a_bitsOf, a_codeOf, a_stream, a_back, a_stepTo)) : wpX_toFront post (f_length, f_coded, f_markAt, f_symbolCount, f_bitCount, a_text, a_order, a_classOf, a_nextClass, a_columnOf, a_ranks, a_symbolList, a_row, a_weight, a_group, a_bitsOf, a_codeOf, a_stream, a_back, a_stepTo) (nI p) := by
  unfold wpX_toFront
  dsimp only
  rw [nI_clamp (n := p) (by omega), hR p hp]
  refine ⟨vp_in_nI (by omega) (by omega), nm_e ⟨p + 1, zx_front9 hp hr K p (p + 1) a_row (Nat.le_refl p) (by omega) (fun j hj hne => ?_)⟩⟩
  rw [hR j hj]
  by_cases e : j < p
  · rw [zk_cy_lt e]
  · rw [zk_cy_gt (Nat.le_refl p) (by omega)]
theorem zx_rk16 {J6 : zx_J6} {r : Nat → Nat} {k c : Nat} (hk : k < 32) (hc : c < 6) (hr : zp_pm 6 r) (hR : ∀ j, j < 6 → a_row j = nI (r j)) (hcol : a_columnOf k = nI c)
    (K : ∀ a_row : Nat → Int32, (∀ j, j < 6 → a_row j = nI (r (zk_cy (zp_iv r 6 c) 0 j))) → J6 (nI (k + 1)) (nI n) f_coded f_markAt f_symbolCount f_bitCount a_text a_order a_classOf a_nextClass a_columnOf (upd a_ranks k (nI (zp_iv r 6 c))) a_symbolList a_row a_weight a_group a_bitsOf a_codeOf a_stream a_back a_stepTo) :
    ∀ (d j f : Nat), j + d = zp_iv r 6 c → d < f → wX_rankLetters_16 post J6 (nI k) (nI n) f_coded f_markAt f_symbolCount f_bitCount a_text a_order a_classOf a_nextClass a_columnOf a_ranks a_symbolList a_row a_weight a_group a_bitsOf a_codeOf a_stream a_back a_stepTo f (nI j) := by
  have iv := zp_iv_r hr hc
  intro d
  induction d with
  | zero =>
    intro j f hj hf
    obtain ⟨f, rfl⟩ : ∃ f', f = f' + 1 := ⟨f - 1, by omega⟩
    have e : j = zp_iv r 6 c := by omega
    subst e
    rw [wX_rankLetters_16]
    dsimp only
    rw [nI_clamp (n := zp_iv r 6 c) (by omega), nI_clamp (n := k) (by omega), hR _ iv.1, iv.2, hcol, zx_nb8 (x := zp_iv r 6 c) (by omega)]
    refine ⟨vp_in_nI (by omega) (by omega), vp_in_nI (by omega) (by omega), br_t rfl ⟨vp_in_nI (by omega) (by omega), nm_e ?_⟩⟩
    refine zx_front iv.1 hr.1 hR (fun a_row h => ?_)
    exact nm_r (nI_1 k) (K a_row h)
  | succ d ih =>
    intro j f hj hf
    obtain ⟨f, rfl⟩ : ∃ f', f = f' + 1 := ⟨f - 1, by omega⟩
    have rj := hr.1 j (by omega)
    have ne : r j ≠ c := fun x => by
      have := zp_iv_of hr (p := j) (by omega)
      rw [x] at this
      omega
    rw [wX_rankLetters_16]
    dsimp only
    rw [nI_clamp (n := j) (by omega), nI_clamp (n := k) (by omega), hR j (by omega), hcol]
    refine ⟨vp_in_nI (by omega) (by omega), vp_in_nI (by omega) (by omega), br_f (fun x => ne ((nI_eq (by omega) (by omega)).mp x)) (nm_r (nI_1 j) (ih (j + 1) f (by omega) (by omega)))⟩
theorem zx_rk6 {C : Nat → Nat} (hn : n ≤ 32) (hC : ∀ k, k < n → C k < 6) (hcol : ∀ k, k < n → a_columnOf k = nI (C k)) (K : ∀ a_ranks a_row : Nat → Int32, (∀ j, j < n → a_ranks j = nI (zm_rk C j)) → post ((nI n), f_coded, f_markAt, f_symbolCount, f_bitCount, a_text, a_order, a_classOf, a_nextClass, a_columnOf, a_ranks, a_symbolList, a_row, a_weight, a_group, a_bitsOf, a_codeOf, a_stream, a_back, a_stepTo)) :
    ∀ (f k : Nat) (a_ranks a_row : Nat → Int32), k ≤ n → n - k < f → (∀ j, j < k → a_ranks j = nI (zm_rk C j)) → (∀ j, j < 6 → a_row j = nI (zm_row C k j)) → wX_rankLetters_6 post f (nI k) (nI n) f_coded f_markAt f_symbolCount f_bitCount a_text a_order a_classOf a_nextClass a_columnOf a_ranks a_symbolList a_row a_weight a_group a_bitsOf a_codeOf a_stream a_back a_stepTo := by
  intro f
  induction f with
  | zero => intro k a_ranks a_row hk hf h1 h2; omega
  | succ f ih =>
    intro k a_ranks a_row hk hf h1 h2
    rw [wX_rankLetters_6]
    refine ek_if (nI_leI (by omega) (by omega)) (fun e => K a_ranks a_row (fun j hj => h1 j (by omega))) (fun e => ?_)
    have pm := zm_pm hC k (by omega)
    refine ⟨7, zx_rk16 (r := zm_row C k) (c := C k) (by omega) (hC k (by omega)) pm h2 (hcol k (by omega)) (fun a_row h => ?_) (zp_iv (zm_row C k) 6 (C k)) 0 7 (by omega) (by have := (zp_iv_r pm (hC k (by omega))).1; omega)⟩
    refine ih (k + 1) _ a_row (by omega) (by omega) (fun j hj => ?_) h
    by_cases e2 : j = k
    · subst e2; rw [pk_us]; rfl
    · rw [pk_un e2]; exact h1 j (by omega)
theorem zx_rank {C : Nat → Nat} (hn : n ≤ 32) (hC : ∀ k, k < n → C k < 6) (hcol : ∀ k, k < n → a_columnOf k = nI (C k)) (K : ∀ a_ranks a_row : Nat → Int32, (∀ j, j < n → a_ranks j = nI (zm_rk C j)) → post ((nI n), f_coded, f_markAt, f_symbolCount, f_bitCount, a_text, a_order, a_classOf, a_nextClass, a_columnOf, a_ranks, a_symbolList, a_row, a_weight, a_group, a_bitsOf, a_codeOf, a_stream, a_back, a_stepTo)) : wpX_rankLetters post ((nI n), f_coded, f_markAt, f_symbolCount, f_bitCount, a_text, a_order, a_classOf, a_nextClass, a_columnOf, a_ranks, a_symbolList, a_row, a_weight, a_group, a_bitsOf, a_codeOf, a_stream, a_back, a_stepTo) := by
  unfold wpX_rankLetters
  dsimp only
  refine zx_reset (fun a_row h => ?_)
  exact ⟨n + 1, zx_rk6 hn hC hcol K (n + 1) 0 a_ranks a_row (by omega) (by omega) (fun j hj => absurd hj (by omega)) h⟩
/-! the runs -/
theorem zx_add {L : List Nat} {s : Nat} (hL : L.length < 32) (hs : s < 128) (hh : zr_ho L a_symbolList) (K : ∀ a_symbolList : Nat → Int32, zr_ho (L ++ [s]) a_symbolList → post ((nI n), f_coded, f_markAt, (nI (L.length + 1)), f_bitCount, a_text, a_order, a_classOf, a_nextClass, a_columnOf, a_ranks, a_symbolList, a_row, a_weight, a_group, a_bitsOf, a_codeOf, a_stream, a_back, a_stepTo)) : wpX_addSymbol post ((nI n), f_coded, f_markAt, (nI L.length), f_bitCount, a_text, a_order, a_classOf, a_nextClass, a_columnOf, a_ranks, a_symbolList, a_row, a_weight, a_group, a_bitsOf, a_codeOf, a_stream, a_back, a_stepTo) (nI s) := by
  unfold wpX_addSymbol
  dsimp only
  rw [nI_clamp (n := L.length) (by omega), zx_nb8 hs]
  exact ⟨vp_in_nI hL (by omega), nm_e (nm_r (nI_1 _) (K _ (zr_ho1 s hh)))⟩
theorem zx_and1 {z : Nat} (h : z < 2 ^ 31) : nI z &&& 1 = nI (z % 2) := pk_andN (by omega) 1 (by decide)
theorem zx_half {z k : Nat} (h : z < 2 ^ 31) (hk : k ≤ z) : (nI z - nI k) / 2 = nI ((z - k) / 2) := by
  rw [pk_sub hk]
  exact pk_div (d := 2) (by omega) (by omega) (by omega)
theorem zx_dr {J9 : zx_J7} {k : Nat} : ∀ (g z f : Nat) (L : List Nat) (a_symbolList : Nat → Int32), z < 2 ^ g → z ≤ 64 → g < f → L.length + z ≤ 32 → zr_ho L a_symbolList →
    (∀ (f' : Nat) (a_symbolList : Nat → Int32), zr_ho (L ++ zr_rn g z) a_symbolList → wX_shortenRuns_40 post J9 (nI k) (f' + 1) (nI 0) (nI n) f_coded f_markAt (nI (L ++ zr_rn g z).length) f_bitCount a_text a_order a_classOf a_nextClass a_columnOf a_ranks a_symbolList a_row a_weight a_group a_bitsOf a_codeOf a_stream a_back a_stepTo) → wX_shortenRuns_40 post J9 (nI k) f (nI z) (nI n) f_coded f_markAt (nI L.length) f_bitCount a_text a_order a_classOf a_nextClass a_columnOf a_ranks a_symbolList a_row a_weight a_group a_bitsOf a_codeOf a_stream a_back a_stepTo := by
  intro g
  induction g with
  | zero =>
    intro z f L a_symbolList hz h64 hf hL hh K
    obtain ⟨f, rfl⟩ : ∃ f', f = f' + 1 := ⟨f - 1, by omega⟩
    have e : z = 0 := by omega
    subst e
    have := K f a_symbolList (by rw [zr_rn0, List.append_nil]; exact hh)
    rw [zr_rn0, List.append_nil] at this
    exact this
  | succ g ih =>
    intro z f L a_symbolList hz h64 hf hL hh K
    obtain ⟨f, rfl⟩ : ∃ f', f = f' + 1 := ⟨f - 1, by omega⟩
    rw [Nat.pow_succ] at hz
    by_cases e0 : z = 0
    · subst e0
      have := K f a_symbolList (by rw [zr_rn0, List.append_nil]; exact hh)
      rw [zr_rn0, List.append_nil] at this
      exact this
    · rw [wX_shortenRuns_40]
      refine br_f (fun x => e0 ((zx_le0 (by omega)).mp x)) ?_
      rw [zx_and1 (by omega)]
      have step : ∀ (s z' : Nat) (a_symbolList : Nat → Int32), z' < 2 ^ g → L.length + 1 + z' ≤ 32 → zr_rn (g + 1) z = s :: zr_rn g z' → zr_ho (L ++ [s]) a_symbolList → wX_shortenRuns_40 post J9 (nI k) f (nI z') (nI n) f_coded f_markAt (nI (L.length + 1)) f_bitCount a_text a_order a_classOf a_nextClass a_columnOf a_ranks a_symbolList a_row a_weight a_group a_bitsOf a_codeOf a_stream a_back a_stepTo := by
        intro s z' a_symbolList h1 h2 h3 h4
        have el : (L ++ [s]).length = L.length + 1 := by rw [List.length_append, List.length_singleton]
        have ea : L ++ [s] ++ zr_rn g z' = L ++ zr_rn (g + 1) z := by rw [h3, List.append_assoc]; rfl
        have := ih z' f (L ++ [s]) a_symbolList h1 (by omega) (by omega) (by omega) h4 (fun f' a_symbolList h => by rw [ea] at h ⊢; exact K f' a_symbolList h)
        rw [el] at this
        exact this
      refine ek_if (zx_eq0 (a := z % 2) (by omega)) (fun e1 => ?_) (fun e1 => ?_)
      · unfold wX_shortenRuns_55
        refine br_t rfl ?_
        unfold wX_shortenRuns_66
        refine zx_add (s := 1) (by omega) (by omega) hh (fun a_symbolList h => ?_)
        refine br_t rfl ⟨by decide, nm_r (zx_half (k := 2) (by omega) (by omega)) ?_⟩
        exact step 1 ((z - 2) / 2) a_symbolList (by omega) (by omega) (zr_rn_e e0 (by omega)) h
      · unfold wX_shortenRuns_55
        refine br_f (by decide) ?_
        unfold wX_shortenRuns_66
        refine zx_add (s := 0) (by omega) (by omega) hh (fun a_symbolList h => ?_)
        refine br_f (by decide) ⟨by decide, nm_r (zx_half (k := 1) (by omega) (by omega)) ?_⟩
        exact step 0 ((z - 1) / 2) a_symbolList (by omega) (by omega) (zr_rn_o (by omega)) h
theorem zx_rn9 {r : Nat → Nat} (hn : n ≤ 32) (hr : ∀ k, k < n → r k < 6) (hR : ∀ k, k < n → a_ranks k = nI (r k)) (K : ∀ a_symbolList : Nat → Int32, zr_ho (zr_sy r n) a_symbolList → post ((nI n), f_coded, f_markAt, (nI (zr_sy r n).length), f_bitCount, a_text, a_order, a_classOf, a_nextClass, a_columnOf, a_ranks, a_symbolList, a_row, a_weight, a_group, a_bitsOf, a_codeOf, a_stream, a_back, a_stepTo)) :
    ∀ (f k : Nat) (a_symbolList : Nat → Int32), k ≤ n → n - k + 1 < f → zr_ho (zr_l r k) a_symbolList → wX_shortenRuns_9 post f (nI (zr_z r k)) (nI k) (nI n) f_coded f_markAt (nI (zr_l r k).length) f_bitCount a_text a_order a_classOf a_nextClass a_columnOf a_ranks a_symbolList a_row a_weight a_group a_bitsOf a_codeOf a_stream a_back a_stepTo := by
  intro f
  induction f with
  | zero => intro k a_symbolList hk hf h; omega
  | succ f ih =>
    intro k a_symbolList hk hf h
    have len := zr_len r k
    rw [wX_shortenRuns_9]
    refine br_f (fun x => by have := (nI_ltI (a := n) (b := k) (by omega) (by omega)).mp x; omega) ?_
    refine ek_if (nI_leI (by omega) (by omega)) (fun e => ⟨7, ?_⟩) (fun e => ?_)
    · have e : k = n := by omega
      subst e
      refine zx_dr 6 (zr_z r k) 7 (zr_l r k) a_symbolList (by omega) (by omega) (by omega) (by omega) h (fun f' a_symbolList h' => ?_)
      rw [wX_shortenRuns_40]
      refine br_t ((zx_le0 (by omega)).mpr rfl) (br_t (nI_le (Nat.le_refl _) (by omega)) (nm_r (nI_1 k) ?_))
      obtain ⟨f, rfl⟩ : ∃ f', f = f' + 1 := ⟨f - 1, by omega⟩
      rw [wX_shortenRuns_9]
      exact br_t (nI_lt (by omega) (by omega)) (K a_symbolList h')
    · have r6 := hr k (by omega)
      rw [nI_clamp (n := k) (by omega), hR k (by omega)]
      refine ⟨vp_in_nI (by omega) (by omega), ek_if (zx_eq0 (by omega)) (fun e2 => ?_) (fun e2 => ⟨7, ?_⟩)⟩
      · have := ih (k + 1) a_symbolList (by omega) (by omega) (by rw [zr_lp e2]; exact h)
        rw [zr_lp e2, zr_zp e2] at this
        exact nm_r (nI_1 _) (nm_r (nI_1 k) this)
      · refine zx_dr 6 (zr_z r k) 7 (zr_l r k) a_symbolList (by omega) (by omega) (by omega) (by omega) h (fun f' a_symbolList h' => ?_)
        have rl := zr_rn_len 6 (zr_z r k)
        have ll : (zr_l r k ++ zr_rn 6 (zr_z r k)).length = (zr_l r k).length + (zr_rn 6 (zr_z r k)).length := List.length_append
        rw [wX_shortenRuns_40]
        refine br_t ((zx_le0 (by omega)).mpr rfl) (br_f (nI_ge (by omega) (by omega)) ?_)
        rw [nI_clamp (n := k) (by omega), hR k (by omega), nI_1 (r k)]
        refine ⟨vp_in_nI (by omega) (by omega), ?_⟩
        refine zx_add (L := zr_l r k ++ zr_rn 6 (zr_z r k)) (s := r k + 1) (by omega) (by omega) h' (fun a_symbolList h'' => ?_)
        have ea : zr_l r k ++ zr_rn 6 (zr_z r k) ++ [r k + 1] = zr_l r (k + 1) := by rw [zr_ln e2, List.append_assoc]
        have el : (zr_l r k ++ zr_rn 6 (zr_z r k)).length + 1 = (zr_l r (k + 1)).length := by rw [← ea]; exact (List.length_append (bs := [r k + 1])).symm
        rw [ea] at h''
        have := ih (k + 1) a_symbolList (by omega) (by omega) h''
        rw [zr_zn e2, ← el] at this
        exact nm_r (nI_1 k) this
theorem zx_runs {r : Nat → Nat} (hn : n ≤ 32) (hr : ∀ k, k < n → r k < 6) (hR : ∀ k, k < n → a_ranks k = nI (r k)) (K : ∀ a_symbolList : Nat → Int32, zr_ho (zr_sy r n) a_symbolList → post ((nI n), f_coded, f_markAt, (nI (zr_sy r n).length), f_bitCount, a_text, a_order, a_classOf, a_nextClass, a_columnOf, a_ranks, a_symbolList, a_row, a_weight, a_group, a_bitsOf, a_codeOf, a_stream, a_back, a_stepTo)) : wpX_shortenRuns post ((nI n), f_coded, f_markAt, f_symbolCount, f_bitCount, a_text, a_order, a_classOf, a_nextClass, a_columnOf, a_ranks, a_symbolList, a_row, a_weight, a_group, a_bitsOf, a_codeOf, a_stream, a_back, a_stepTo) := by
  unfold wpX_shortenRuns
  dsimp only
  exact ⟨n + 2, zx_rn9 hn hr hR K (n + 2) 0 a_symbolList (by omega) (by omega) (zr_ho0 _)⟩
end ZXR
end
section
section ZXB
/-! counts of the symbols -/
def zh_wk (L : List Nat) (k s : Nat) : Nat := zs_sm (fun j => if L.getD j 0 = s then 1 else 0) k
def zh_w (L : List Nat) (s : Nat) : Nat := zh_wk L L.length s
theorem zh_wk_s (L : List Nat) (k s : Nat) : zh_wk L (k + 1) s = zh_wk L k s + if L.getD k 0 = s then 1 else 0 := rfl
theorem zh_w_sum {L : List Nat} (h7 : ∀ x, x ∈ L → x < 7) (f : Nat → Nat) : zs_sm (fun s => zh_w L s * f s) 7 = zs_sm (fun k => f (L.getD k 0)) L.length := by
  have e : zs_sm (fun k => f (L.getD k 0)) L.length = zs_sm (fun k => zs_sm (fun s => if s = L.getD k 0 then f s else 0) 7) L.length :=
    zs_congr (fun k hk => (zs_one (h7 _ (zr_mem hk)) f).symm)
  rw [e, zs_comm]
  refine zs_congr (fun s hs => ?_)
  unfold zh_w zh_wk
  rw [Nat.mul_comm, ← zs_mul]
  refine zs_congr (fun k hk => ?_)
  by_cases c : L.getD k 0 = s
  · rw [if_pos c, if_pos c.symm, Nat.mul_one]
  · rw [if_neg c, if_neg (fun x => c x.symm), Nat.mul_zero]
theorem zh_w_tot {L : List Nat} (h7 : ∀ x, x ∈ L → x < 7) : zs_sm (zh_w L) 7 = L.length := by
  have := zh_w_sum h7 (fun _ => 1)
  rw [zs_const, Nat.mul_one] at this
  rw [← this]
  exact zs_congr (fun s _ => (Nat.mul_one _).symm)
theorem zh_w_pos {L : List Nat} {k : Nat} (hk : k < L.length) : zh_w L (L.getD k 0) ≠ 0 := by
  have := zs_mem (f := fun j => if L.getD j 0 = L.getD k 0 then 1 else 0) hk
  simp only [if_true] at this
  unfold zh_w zh_wk
  omega
theorem zh_B6 {w W B : Nat → Nat} {M : Nat → Nat → Bool} (H : zh_HI w W M B) : ∀ s, s < 7 → B s ≤ 6 := by
  obtain ⟨H1, H2, H3, H4, H5, H6⟩ := H
  intro s hs
  by_cases c : w s = 0
  · rw [H5.2 s hs c]; omega
  · obtain ⟨g, hg, wg, mg⟩ := H5.1 s hs c
    have a := (H4 g s hg hs wg mg).1
    have := zs_bound (f := fun s => if M g s = true then 1 else 0) (n := 7) (c := 1) (fun s _ => by split <;> omega)
    unfold zh_sz at a
    omega
theorem zh_W32 {w W B : Nat → Nat} {M : Nat → Nat → Bool} (H : zh_HI w W M B) (hw : zs_sm w 7 ≤ 32) : ∀ g, g < 7 → W g ≤ 32 := by
  intro g hg
  by_cases c : W g = 0
  · omega
  · rw [H.1 g hg c]
    have := zs_le (f := fun s => if M g s = true then w s else 0) (g := w) (n := 7) (fun s _ => by split <;> omega)
    omega
theorem zl_kn_mg {W : Nat → Nat} {a b : Nat} (ha : a < 7) (hab : a ≠ b) (wa : W a ≠ 0) (wb : W b ≠ 0) : zl_kn (zh_mg W a b) < zl_kn W := by
  refine zs_lt (a := a) (fun g hg => ?_) ha ?_
  · unfold zh_mg
    by_cases e1 : g = a
    · rw [if_pos e1, if_pos rfl]; omega
    · rw [if_neg e1]
      by_cases e2 : g = b
      · rw [if_pos e2, e2, if_neg wb]; split <;> omega
      · rw [if_neg e2]; exact Nat.le_refl _
  · have : zh_mg W a b a = 0 := by unfold zh_mg; rw [if_pos rfl]
    rw [if_pos this, if_neg wa]; omega
/-! bits of a group -/
theorem zx_b1 (y : Int32) : (y &&& 1) = 0 ↔ bt y 0 = false := by
  rw [pk_and y 1 (by decide), zx_eq0 (by have := Nat.mod_lt y.toBitVec.toNat (y := 2 ^ 1) (by decide); omega)]
  unfold bt
  rw [BitVec.getLsbD, Nat.testBit_zero]
  constructor
  · intro h; rw [decide_eq_false]; omega
  · intro h
    have := of_decide_eq_false h
    omega
theorem zx_gbit (x : Int32) {s : Nat} (hs : s < 7) : ((x >>> (nI s &&& 31)) &&& 1) = 0 ↔ bt x s = false := by
  rw [zx_b1, b_sshr s (by omega) x (by omega), if_pos (by omega)]; rfl
theorem zx_g1 : ∀ g, g < 7 → ∀ s, s < 7 → bt ((1 : Int32) <<< (nI g &&& 31)) s = decide (s = g) := by decide +kernel
theorem zx_n3 : (-3 : Int32) < 0 := by decide
theorem zx_n3' : ¬ (0 : Int32) ≤ -3 := by decide
theorem zx_ne3 {g : Nat} (h : g < 2 ^ 31) : ¬ nI g = -3 := fun e => by
  have := nI_pos h
  rw [e] at this
  exact this zx_n3
variable {n : Nat} {post : SX → Prop} {f_length f_coded f_markAt f_symbolCount f_bitCount : Int32} {a_text a_order a_classOf a_nextClass a_columnOf a_ranks a_symbolList a_row a_weight a_group a_bitsOf a_codeOf a_back a_stepTo : Nat → Int32} {a_stream : Nat → Int64}
theorem zx_light5 {q : Int32 → Prop} {x1 : Int32} {W : Nat → Nat} (h32 : ∀ g, g < 7 → W g ≤ 32) (hW : ∀ g, g < 7 → a_weight g = nI (W g))
    (K0 : (∀ g, g < 7 → W g ≠ 0 → nI g = x1) → q (-3)) (K1 : ∀ b, b < 7 → W b ≠ 0 → ¬ nI b = x1 → (∀ g, g < 7 → W g ≠ 0 → ¬ nI g = x1 → W b ≤ W g) → q (nI b)) :
    ∀ (f i : Nat) (x2 : Int32), i ≤ 7 → 7 - i < f → ((x2 = -3 ∧ ∀ g, g < i → W g ≠ 0 → nI g = x1) ∨ (∃ b, b < i ∧ x2 = nI b ∧ W b ≠ 0 ∧ ¬ nI b = x1 ∧ ∀ g, g < i → W g ≠ 0 → ¬ nI g = x1 → W b ≤ W g)) → wX_lightest_5 q x1 f_length f_coded f_markAt f_symbolCount f_bitCount a_text a_order a_classOf a_nextClass a_columnOf a_ranks a_symbolList a_row a_weight a_group a_bitsOf a_codeOf a_stream a_back a_stepTo f x2 (nI i) := by
  intro f
  induction f with
  | zero => intro i x2 hi hf h; omega
  | succ f ih =>
    intro i x2 hi hf h
    rw [wX_lightest_5]
    refine ek_if (nI_leI (a := 7) (by omega) (by omega)) (fun e => ?_) (fun e => ?_)
    · have : i = 7 := by omega
      subst this
      rcases h with ⟨rfl, h⟩ | ⟨b, hb, rfl, wb, nb, h⟩
      · exact K0 h
      · exact K1 b hb wb nb h
    · refine br_c (fun ex => ?_) (fun ex => ?_)
      · refine nm_r (nI_1 i) (ih (i + 1) x2 (by omega) (by omega) ?_)
        rcases h with ⟨e1, h⟩ | ⟨b, hb, e1, wb, nb, h⟩
        · refine Or.inl ⟨e1, fun g hg wg => ?_⟩
          by_cases e2 : g = i
          · subst e2; exact ex
          · exact h g (by omega) wg
        · refine Or.inr ⟨b, by omega, e1, wb, nb, fun g hg wg ng => ?_⟩
          by_cases e2 : g = i
          · subst e2; exact absurd ex ng
          · exact h g (by omega) wg ng
      · rw [nI_clamp (n := i) (by omega), hW i (by omega)]
        have wi := h32 i (by omega)
        refine ⟨vp_in_nI (by omega) (by omega), ek_if (zx_eq0 (by omega)) (fun w0 => ?_) (fun w0 => ?_)⟩
        · refine nm_r (nI_1 i) (ih (i + 1) x2 (by omega) (by omega) ?_)
          rcases h with ⟨e1, h⟩ | ⟨b, hb, e1, wb, nb, h⟩
          · refine Or.inl ⟨e1, fun g hg wg => ?_⟩
            by_cases e2 : g = i
            · subst e2; exact absurd w0 wg
            · exact h g (by omega) wg
          · refine Or.inr ⟨b, by omega, e1, wb, nb, fun g hg wg ng => ?_⟩
            by_cases e2 : g = i
            · subst e2; exact absurd w0 wg
            · exact h g (by omega) wg ng
        · rcases h with ⟨rfl, h⟩ | ⟨b, hb, rfl, wb, nb, h⟩
          · refine br_t zx_n3 (nm_r (nI_1 i) (ih (i + 1) (nI i) (by omega) (by omega) (Or.inr ⟨i, by omega, rfl, w0, ex, fun g hg wg ng => ?_⟩)))
            by_cases e2 : g = i
            · subst e2; exact Nat.le_refl _
            · exact absurd (h g (by omega) wg) ng
          · have wb32 := h32 b (by omega)
            refine br_f (nI_pos (by omega)) ⟨vp_in_nI (by omega) (by omega), vp_in_nI (by omega) (by omega), ?_⟩
            rw [nI_clamp (n := b) (by omega), hW b (by omega)]
            refine ek_if (nI_leI (by omega) (by omega)) (fun le => ?_) (fun le => ?_)
            · refine nm_r (nI_1 i) (ih (i + 1) (nI b) (by omega) (by omega) (Or.inr ⟨b, by omega, rfl, wb, nb, fun g hg wg ng => ?_⟩))
              by_cases e2 : g = i
              · subst e2; exact le
              · exact h g (by omega) wg ng
            · refine nm_r (nI_1 i) (ih (i + 1) (nI i) (by omega) (by omega) (Or.inr ⟨i, by omega, rfl, w0, ex, fun g hg wg ng => ?_⟩))
              by_cases e2 : g = i
              · subst e2; exact Nat.le_refl _
              · have := h g (by omega) wg ng; omega
theorem zx_light {q : Int32 → Prop} {x1 : Int32} {W : Nat → Nat} (h32 : ∀ g, g < 7 → W g ≤ 32) (hW : ∀ g, g < 7 → a_weight g = nI (W g))
    (K0 : (∀ g, g < 7 → W g ≠ 0 → nI g = x1) → q (-3)) (K1 : ∀ b, b < 7 → W b ≠ 0 → ¬ nI b = x1 → (∀ g, g < 7 → W g ≠ 0 → ¬ nI g = x1 → W b ≤ W g) → q (nI b)) : wpX_lightest q (f_length, f_coded, f_markAt, f_symbolCount, f_bitCount, a_text, a_order, a_classOf, a_nextClass, a_columnOf, a_ranks, a_symbolList, a_row, a_weight, a_group, a_bitsOf, a_codeOf, a_stream, a_back, a_stepTo) x1 := by
  unfold wpX_lightest
  dsimp only
  exact ⟨8, zx_light5 h32 hW K0 K1 8 0 (-3) (by omega) (by omega) (Or.inl ⟨rfl, fun g hg => absurd hg (by omega)⟩)⟩
/-- the two lightest -/
def zx_LS (W : Nat → Nat) (r1 r2 : Int32) : Prop := (r1 = -3 ∧ r2 = -3 ∧ ∀ g, g < 7 → W g = 0) ∨ (∃ a, a < 7 ∧ r1 = nI a ∧ W a ≠ 0 ∧ (∀ g, g < 7 → W g ≠ 0 → W a ≤ W g) ∧ ((r2 = -3 ∧ ∀ g, g < 7 → W g ≠ 0 → g = a) ∨ ∃ b, b < 7 ∧ r2 = nI b ∧ a ≠ b ∧ W b ≠ 0 ∧ ∀ g, g < 7 → W g ≠ 0 → g ≠ a → W b ≤ W g))
theorem zx_two {q : Int32 → Int32 → Prop} {W : Nat → Nat} (h32 : ∀ g, g < 7 → W g ≤ 32) (hW : ∀ g, g < 7 → a_weight g = nI (W g)) (K : ∀ r1 r2, zx_LS W r1 r2 → q r1 r2) :
    wpX_lightest (fun r1 => wpX_lightest (fun r2 => q r1 r2) (f_length, f_coded, f_markAt, f_symbolCount, f_bitCount, a_text, a_order, a_classOf, a_nextClass, a_columnOf, a_ranks, a_symbolList, a_row, a_weight, a_group, a_bitsOf, a_codeOf, a_stream, a_back, a_stepTo) r1) (f_length, f_coded, f_markAt, f_symbolCount, f_bitCount, a_text, a_order, a_classOf, a_nextClass, a_columnOf, a_ranks, a_symbolList, a_row, a_weight, a_group, a_bitsOf, a_codeOf, a_stream, a_back, a_stepTo) (-3) := by
  refine zx_light h32 hW (fun h => ?_) (fun a ha wa na h => ?_)
  · have z : ∀ g, g < 7 → W g = 0 := by
      intro g hg
      by_cases c : W g = 0
      · exact c
      · exact absurd (h g hg c) (zx_ne3 (by omega))
    refine zx_light h32 hW (fun _ => K _ _ (Or.inl ⟨rfl, rfl, z⟩)) (fun b hb wb _ _ => absurd (z b hb) wb)
  · have h' : ∀ g, g < 7 → W g ≠ 0 → W a ≤ W g := fun g hg wg => h g hg wg (zx_ne3 (by omega))
    refine zx_light h32 hW (fun h2 => K _ _ (Or.inr ⟨a, ha, rfl, wa, h', Or.inl ⟨rfl, fun g hg wg => (nI_eq (by omega) (by omega)).mp (h2 g hg wg)⟩⟩)) (fun b hb wb nb h2 => K _ _ (Or.inr ⟨a, ha, rfl, wa, h', Or.inr ⟨b, hb, rfl, fun x => nb (by rw [x]), wb, fun g hg wg ng => h2 g hg wg (fun x => ng ((nI_eq (by omega) (by omega)).mp x))⟩⟩))
/-! numbering the codes -/
theorem zx_nc16 {J4 : zx_J2} {B : Nat → Nat} {b : Nat} (hb : 1 ≤ b) (hb8 : b < 8) (h6 : ∀ s, s < 7 → B s ≤ 6) (hB : ∀ s, s < 7 → a_bitsOf s = nI (B s))
    (K : ∀ a_codeOf : Nat → Int32, (∀ u, u < 7 → 1 ≤ B u → B u ≤ b → a_codeOf u = nI (zc_cd B u)) → J4 (nI (zc_pre B b 7)) (nI (b + 1)) a_text a_order a_classOf a_nextClass a_columnOf a_ranks a_symbolList a_row a_weight a_group a_bitsOf a_codeOf a_stream a_back a_stepTo) :
    ∀ (f s : Nat) (a_codeOf : Nat → Int32), s ≤ 7 → 7 - s < f → (∀ u, u < 7 → 1 ≤ B u → (B u < b ∨ (B u = b ∧ u < s)) → a_codeOf u = nI (zc_cd B u)) → wX_numberCodes_16 post J4 (nI b) f_length f_coded f_markAt f_symbolCount f_bitCount f (nI (zc_pre B b s)) (nI s) a_text a_order a_classOf a_nextClass a_columnOf a_ranks a_symbolList a_row a_weight a_group a_bitsOf a_codeOf a_stream a_back a_stepTo := by
  intro f
  induction f with
  | zero => intro s a_codeOf hs hf h; omega
  | succ f ih =>
    intro s a_codeOf hs hf h
    rw [wX_numberCodes_16]
    refine ek_if (nI_leI (a := 7) (by omega) (by omega)) (fun e => ?_) (fun e => ?_)
    · have : s = 7 := by omega
      subst this
      exact nm_r (nI_1 b) (K a_codeOf (fun u hu h1 h2 => h u hu h1 (by omega)))
    · have s6 := h6 s (by omega)
      rw [nI_clamp (n := s) (by omega), hB s (by omega)]
      refine ⟨vp_in_nI (by omega) (by omega), ek_if (nI_eq (by omega) (by omega)) (fun e2 => ?_) (fun e2 => ?_)⟩
      · have nx := ih (s + 1) (upd a_codeOf s (nI (zc_pre B b s))) (by omega) (by omega) (fun u hu h1 h2 => by
          by_cases e3 : u = s
          · subst e3
            rw [pk_us]
            unfold zc_cd
            rw [e2]
          · rw [pk_un e3]; exact h u hu h1 (by omega))
        rw [zc_s1 hb (by omega) e2] at nx
        exact ⟨vp_in_nI (by omega) (by omega), nm_e (nm_r (nI_1 _) (nm_r (nI_1 s) nx))⟩
      · have nx := ih (s + 1) a_codeOf (by omega) (by omega) (fun u hu h1 h2 => by
          refine h u hu h1 ?_
          by_cases e3 : u = s
          · subst e3; omega
          · omega)
        rw [zc_s0 e2] at nx
        exact nm_r (nI_1 s) nx
theorem zx_nc4 {B : Nat → Nat} (h6 : ∀ s, s < 7 → B s ≤ 6) (hB : ∀ s, s < 7 → a_bitsOf s = nI (B s))
    (K : ∀ a_codeOf : Nat → Int32, (∀ u, u < 7 → 1 ≤ B u → a_codeOf u = nI (zc_cd B u)) → post (f_length, f_coded, f_markAt, f_symbolCount, f_bitCount, a_text, a_order, a_classOf, a_nextClass, a_columnOf, a_ranks, a_symbolList, a_row, a_weight, a_group, a_bitsOf, a_codeOf, a_stream, a_back, a_stepTo)) :
    ∀ (f b y : Nat) (a_codeOf : Nat → Int32), 1 ≤ b → b ≤ 8 → 8 - b < f → y * 2 = zc_pre B b 0 → (∀ u, u < 7 → 1 ≤ B u → B u < b → a_codeOf u = nI (zc_cd B u)) → wX_numberCodes_4 post f_length f_coded f_markAt f_symbolCount f_bitCount f (nI y) (nI b) a_text a_order a_classOf a_nextClass a_columnOf a_ranks a_symbolList a_row a_weight a_group a_bitsOf a_codeOf a_stream a_back a_stepTo := by
  intro f
  induction f with
  | zero => intro b y a_codeOf h1 h8 hf hy h; omega
  | succ f ih =>
    intro b y a_codeOf h1 h8 hf hy h
    rw [wX_numberCodes_4]
    refine ek_if (nI_leI (a := 8) (by omega) (by omega)) (fun e => K a_codeOf (fun u hu hu1 => h u hu hu1 (by have := h6 u hu; omega))) (fun e => ?_)
    have e2 : nI y * 2 = nI (zc_pre B b 0) := by rw [← hy]; exact pk_mul y 2
    refine nm_r e2 ⟨8, ?_⟩
    refine zx_nc16 h1 (by omega) h6 hB (fun a_codeOf h' => ?_) 8 0 a_codeOf (by omega) (by omega) (fun u hu hu1 h2 => h u hu hu1 (by omega))
    exact ih (b + 1) (zc_pre B b 7) a_codeOf (by omega) (by omega) (by omega) (zc_b b).symm (fun u hu hu1 h2 => h' u hu hu1 (by omega))
theorem zx_nc {B : Nat → Nat} (h6 : ∀ s, s < 7 → B s ≤ 6) (hB : ∀ s, s < 7 → a_bitsOf s = nI (B s))
    (K : ∀ a_codeOf : Nat → Int32, (∀ u, u < 7 → 1 ≤ B u → a_codeOf u = nI (zc_cd B u)) → post (f_length, f_coded, f_markAt, f_symbolCount, f_bitCount, a_text, a_order, a_classOf, a_nextClass, a_columnOf, a_ranks, a_symbolList, a_row, a_weight, a_group, a_bitsOf, a_codeOf, a_stream, a_back, a_stepTo)) : wpX_numberCodes post (f_length, f_coded, f_markAt, f_symbolCount, f_bitCount, a_text, a_order, a_classOf, a_nextClass, a_columnOf, a_ranks, a_symbolList, a_row, a_weight, a_group, a_bitsOf, a_codeOf, a_stream, a_back, a_stepTo) := by
  unfold wpX_numberCodes
  dsimp only
  exact ⟨8, zx_nc4 h6 hB K 8 1 0 a_codeOf (by omega) (by omega) (by omega) (by rw [zc_1]) (fun u hu h1 h2 => absurd h1 (by omega))⟩
/-! one joining -/
theorem zx_fb143 {J96 : zx_J2} {B : Nat → Nat} {b : Nat} (hb : b < 7) (h6 : ∀ s, s < 7 → B s ≤ 6)
    (K : ∀ a_bitsOf : Nat → Int32, (∀ s, s < 7 → a_bitsOf s = nI (B s + if bt (a_group b) s = true then 1 else 0)) → wpX_lightest (fun r1 => wpX_lightest (fun r2 => J96 r1 r2 a_text a_order a_classOf a_nextClass a_columnOf a_ranks a_symbolList a_row a_weight a_group a_bitsOf a_codeOf a_stream a_back a_stepTo) (f_length, f_coded, f_markAt, f_symbolCount, f_bitCount, a_text, a_order, a_classOf, a_nextClass, a_columnOf, a_ranks, a_symbolList, a_row, a_weight, a_group, a_bitsOf, a_codeOf, a_stream, a_back, a_stepTo) r1) (f_length, f_coded, f_markAt, f_symbolCount, f_bitCount, a_text, a_order, a_classOf, a_nextClass, a_columnOf, a_ranks, a_symbolList, a_row, a_weight, a_group, a_bitsOf, a_codeOf, a_stream, a_back, a_stepTo) (-3)) :
    ∀ (f i : Nat) (a_bitsOf : Nat → Int32), i ≤ 7 → 7 - i < f → (∀ s, s < 7 → a_bitsOf s = nI (if s < i then (B s + if bt (a_group b) s = true then 1 else 0) else B s)) → wX_findBits_143 post J96 (nI b) f_length f_coded f_markAt f_symbolCount f_bitCount f (nI i) a_text a_order a_classOf a_nextClass a_columnOf a_ranks a_symbolList a_row a_weight a_group a_bitsOf a_codeOf a_stream a_back a_stepTo := by
  intro f
  induction f with
  | zero => intro i a_bitsOf hi hf h; omega
  | succ f ih =>
    intro i a_bitsOf hi hf h
    rw [wX_findBits_143]
    refine ek_if (nI_leI (a := 7) (by omega) (by omega)) (fun e => K a_bitsOf (fun s hs => by rw [h s hs, if_pos (by omega)])) (fun e => ?_)
    have b6 := h6 i (by omega)
    rw [nI_clamp (n := b) (by omega), nI_clamp (n := i) (by omega), h i (by omega), if_neg (by omega)]
    refine ⟨vp_in_nI (by omega) (by omega), ek_if (zx_gbit _ (by omega)) (fun e2 => ?_) (fun e2 => ?_)⟩
    · refine nm_r (nI_1 i) (ih (i + 1) a_bitsOf (by omega) (by omega) (fun s hs => ?_))
      rw [h s hs]
      by_cases e3 : s = i
      · subst e3
        rw [if_neg (by omega), if_pos (by omega), if_neg (by rw [e2]; decide)]; rfl
      · by_cases e4 : s < i
        · rw [if_pos e4, if_pos (show s < i + 1 by omega)]
        · rw [if_neg e4, if_neg (by omega)]
    · have et : bt (a_group b) i = true := ts_nf e2
      rw [nI_1, zx_nb8 (x := B i + 1) (by omega)]
      refine ⟨vp_in_nI (by omega) (by omega), vp_in_nI (by omega) (by omega), nm_e (nm_r (nI_1 i) (ih (i + 1) _ (by omega) (by omega) (fun s hs => ?_)))⟩
      by_cases e3 : s = i
      · subst e3
        rw [pk_us, if_pos (by omega), if_pos et]
      · rw [pk_un e3, h s hs]
        by_cases e4 : s < i
        · rw [if_pos e4, if_pos (show s < i + 1 by omega)]
        · rw [if_neg e4, if_neg (by omega)]
theorem zx_fb96 {w : Nat → Nat} {s1 s2 : Nat} (hw : zs_sm w 7 ≤ 32) (h1 : s1 < 7) (h2 : s2 < 7) (h12 : s1 ≠ s2) (w1 : w s1 ≠ 0) (w2 : w s2 ≠ 0)
    (K : ∀ (a_weight a_group a_bitsOf : Nat → Int32) (B : Nat → Nat), zh_Fin w B → (∀ s, s < 7 → a_bitsOf s = nI (B s)) → wX_findBits_195 post f_length f_coded f_markAt f_symbolCount f_bitCount a_text a_order a_classOf a_nextClass a_columnOf a_ranks a_symbolList a_row a_weight a_group a_bitsOf a_codeOf a_stream a_back a_stepTo) :
    ∀ (f : Nat) (a_weight a_group a_bitsOf : Nat → Int32) (W B : Nat → Nat) (r1 r2 : Int32), zl_kn W < f → zx_LS W r1 r2 → zh_HI w W (fun g s => bt (a_group g) s) B → (∀ g, g < 7 → a_weight g = nI (W g)) → (∀ s, s < 7 → a_bitsOf s = nI (B s)) → wX_findBits_96 post f_length f_coded f_markAt f_symbolCount f_bitCount f r1 r2 a_text a_order a_classOf a_nextClass a_columnOf a_ranks a_symbolList a_row a_weight a_group a_bitsOf a_codeOf a_stream a_back a_stepTo := by
  intro f
  induction f with
  | zero => intro a_weight a_group a_bitsOf W B r1 r2 hf; omega
  | succ f ih =>
    intro a_weight a_group a_bitsOf W B r1 r2 hf hLS H hW hB
    rw [wX_findBits_96]
    have W32 := zh_W32 H hw
    have B6 := zh_B6 H
    rcases hLS with ⟨rfl, rfl, z⟩ | ⟨a, ha, rfl, wa, ma, h⟩
    · exfalso
      obtain ⟨g, hg, wg, _⟩ := H.2.2.2.2.1.1 s1 h1 w1
      exact wg (z g hg)
    · refine br_f (nI_pos (by omega)) ?_
      rcases h with ⟨rfl, one⟩ | ⟨b, hb, rfl, hab, wb, mb⟩
      · exact br_t zx_n3 (K a_weight a_group a_bitsOf B (zh_fin H ha wa one h1 h2 h12 w1 w2) hB)
      · refine br_f (nI_pos (by omega)) ?_
        rw [nI_clamp (n := a) (by omega), nI_clamp (n := b) (by omega), hW a ha, hW b hb, nI_add]
        refine ⟨vp_in_nI hb (by omega), vp_in_nI ha (by omega), vp_in_nI hb (by omega), nm_e ⟨vp_in_nI hb (by omega), vp_in_nI ha (by omega), vp_in_nI hb (by omega), nm_e ⟨vp_in_nI ha (by omega), nm_e ⟨8, ?_⟩⟩⟩⟩
        have hM : ∀ g s, g < 7 → s < 7 → bt (upd a_group b (a_group b ||| a_group a) g) s = if g = b then (bt (a_group b) s || bt (a_group a) s) else bt (a_group g) s := by
          intro g s hg hs
          by_cases e : g = b
          · subst e; rw [pk_us, if_pos rfl, b_or]
          · rw [pk_un e, if_neg e]
        refine zx_fb143 (B := B) hb B6 (fun a_bitsOf hB' => ?_) 8 0 a_bitsOf (by omega) (by omega) (fun s hs => by rw [if_neg (by omega)]; exact hB s hs)
        have H' := zh_join (B' := fun s => B s + if bt (upd a_group b (a_group b ||| a_group a) b) s = true then 1 else 0) (M' := fun g s => bt (upd a_group b (a_group b ||| a_group a) g) s) H ha hb hab wa wb ma mb hM (fun s hs => rfl)
        have hW' : ∀ g, g < 7 → upd (upd a_weight b (nI (W b + W a))) a 0 g = nI (zh_mg W a b g) := by
          intro g hg
          unfold zh_mg
          by_cases e1 : g = a
          · subst e1; rw [pk_us, if_pos rfl]; exact nI_0.symm
          · rw [pk_un e1, if_neg e1]
            by_cases e2 : g = b
            · subst e2; rw [pk_us, if_pos rfl]
            · rw [pk_un e2, if_neg e2]; exact hW g hg
        refine zx_two (W := zh_mg W a b) (zh_W32 H' hw) hW' (fun r1 r2 hLS => ?_)
        exact ih _ _ a_bitsOf (zh_mg W a b) _ r1 r2 (by have := zl_kn_mg ha hab wa wb; omega) hLS H' hW' hB'
theorem zx_fb195 {w B : Nat → Nat} (hF : zh_Fin w B) (hB : ∀ s, s < 7 → a_bitsOf s = nI (B s)) (K : ∀ a_codeOf : Nat → Int32, (∀ u, u < 7 → 1 ≤ B u → a_codeOf u = nI (zc_cd B u)) → post (f_length, f_coded, f_markAt, f_symbolCount, f_bitCount, a_text, a_order, a_classOf, a_nextClass, a_columnOf, a_ranks, a_symbolList, a_row, a_weight, a_group, a_bitsOf, a_codeOf, a_stream, a_back, a_stepTo)) : wX_findBits_195 post f_length f_coded f_markAt f_symbolCount f_bitCount a_text a_order a_classOf a_nextClass a_columnOf a_ranks a_symbolList a_row a_weight a_group a_bitsOf a_codeOf a_stream a_back a_stepTo := by
  unfold wX_findBits_195
  refine zx_nc (B := B) (fun s hs => ?_) hB K
  by_cases c : w s = 0
  · rw [hF.2.1 s hs c]; omega
  · exact (hF.1 s hs c).2
theorem zx_fbz {r1 r2 : Int32} (h : r1 < 0 ∨ r2 < 0) (K : wX_findBits_195 post f_length f_coded f_markAt f_symbolCount f_bitCount a_text a_order a_classOf a_nextClass a_columnOf a_ranks a_symbolList a_row a_weight a_group a_bitsOf a_codeOf a_stream a_back a_stepTo) : ∃ n96, wX_findBits_96 post f_length f_coded f_markAt f_symbolCount f_bitCount n96 r1 r2 a_text a_order a_classOf a_nextClass a_columnOf a_ranks a_symbolList a_row a_weight a_group a_bitsOf a_codeOf a_stream a_back a_stepTo := by
  refine ⟨1, ?_⟩
  rw [wX_findBits_96]
  refine br_c (fun _ => K) (fun x => br_c (fun _ => K) (fun y => ?_))
  rcases h with h | h
  · exact absurd h x
  · exact absurd h y
theorem zx_fb39 {L : List Nat} (hL : L.length ≤ 32) (h7 : ∀ x, x ∈ L → x < 7) (hS : zr_ho L a_symbolList) (hG : ∀ g s, g < 7 → s < 7 → bt (a_group g) s = decide (s = g)) (hB0 : ∀ s, s < 7 → a_bitsOf s = nI 0)
    (K : ∀ (a_weight a_group a_bitsOf a_codeOf : Nat → Int32) (B : Nat → Nat), zh_Fin (zh_w L) B → (∀ s, s < 7 → a_bitsOf s = nI (B s)) → (∀ u, u < 7 → 1 ≤ B u → a_codeOf u = nI (zc_cd B u)) → post (f_length, f_coded, f_markAt, (nI L.length), f_bitCount, a_text, a_order, a_classOf, a_nextClass, a_columnOf, a_ranks, a_symbolList, a_row, a_weight, a_group, a_bitsOf, a_codeOf, a_stream, a_back, a_stepTo)) :
    ∀ (f k : Nat) (a_weight : Nat → Int32), k ≤ L.length → L.length - k < f → (∀ s, s < 7 → a_weight s = nI (zh_wk L k s)) → wX_findBits_39 post f_length f_coded f_markAt (nI L.length) f_bitCount f (nI k) a_text a_order a_classOf a_nextClass a_columnOf a_ranks a_symbolList a_row a_weight a_group a_bitsOf a_codeOf a_stream a_back a_stepTo := by
  have tot := zh_w_tot h7
  intro f
  induction f with
  | zero => intro k a_weight hk hf h; omega
  | succ f ih =>
    intro k a_weight hk hf h
    rw [wX_findBits_39]
    refine ek_if (nI_leI (by omega) (by omega)) (fun e => ?_) (fun e => ?_)
    · have ek : k = L.length := by omega
      subst ek
      have h32 : ∀ g, g < 7 → zh_w L g ≤ 32 := fun g hg => by have := zs_mem (f := zh_w L) hg; omega
      refine zx_two (W := zh_w L) (q := fun r1 r2 => (r1 < 0 → ∃ n96, wX_findBits_96 post f_length f_coded f_markAt (nI L.length) f_bitCount n96 r1 r2 a_text a_order a_classOf a_nextClass a_columnOf a_ranks a_symbolList a_row a_weight a_group a_bitsOf a_codeOf a_stream a_back a_stepTo) ∧ (¬ r1 < 0 → ((0 ≤ r2 → ∃ n96, wX_findBits_96 post f_length f_coded f_markAt (nI L.length) f_bitCount n96 r1 r2 a_text a_order a_classOf a_nextClass a_columnOf a_ranks a_symbolList a_row a_weight a_group a_bitsOf a_codeOf a_stream a_back a_stepTo) ∧ (¬ 0 ≤ r2 → vp_in r1 7 ∧ ∀ a_bitsOf_131 : Nat → Int32, a_bitsOf_131 = upd a_bitsOf r1.toNatClampNeg (vp_nar .byte 1) → ∃ n96, wX_findBits_96 post f_length f_coded f_markAt (nI L.length) f_bitCount n96 r1 r2 a_text a_order a_classOf a_nextClass a_columnOf a_ranks a_symbolList a_row a_weight a_group a_bitsOf_131 a_codeOf a_stream a_back a_stepTo)))) h32 h (fun r1 r2 hLS => ?_)
      have z0 : zh_HI (zh_w L) (zh_w L) (fun g s => bt (a_group g) s) (fun _ => 0) := zh_H0 hG (fun _ _ => rfl)
      rcases hLS with ⟨rfl, rfl, z⟩ | ⟨a, ha, rfl, wa, ma, h'⟩
      · refine br_t zx_n3 (zx_fbz (Or.inl zx_n3) ?_)
        have hF := zh_fin0 (w := zh_w L) (B := fun _ => 0) z (fun _ _ => rfl)
        exact zx_fb195 hF hB0 (fun a_codeOf hc => K _ _ _ a_codeOf _ hF hB0 hc)
      · refine br_f (nI_pos (by omega)) ?_
        rcases h' with ⟨rfl, one⟩ | ⟨b, hb, rfl, hab, wb, mb⟩
        · refine br_f zx_n3' ⟨vp_in_nI ha (by omega), ?_⟩
          rw [nI_clamp (n := a) (by omega)]
          refine nm_e (zx_fbz (Or.inr zx_n3) ?_)
          have hF := zh_fin1 (w := zh_w L) (B := fun s => if s = a then 1 else 0) ha wa one (fun _ _ => rfl)
          have hB : ∀ s, s < 7 → upd a_bitsOf a (vp_nar .byte 1) s = nI (if s = a then 1 else 0) := by
            intro s hs
            by_cases e : s = a
            · subst e; rw [pk_us, if_pos rfl]; exact zx_nb (x := 1) (by omega)
            · rw [pk_un e, if_neg e]; exact hB0 s hs
          exact zx_fb195 hF hB (fun a_codeOf hc => K _ _ _ a_codeOf _ hF hB hc)
        · refine br_t (nI_pos' (by omega)) ⟨8, ?_⟩
          refine zx_fb96 (w := zh_w L) (by omega) ha hb hab wa wb (fun a_weight a_group a_bitsOf B hF hB => ?_) 8 a_weight a_group a_bitsOf (zh_w L) (fun _ => 0) _ _ (by have := zl_kn7 (zh_w L); omega) (Or.inr ⟨a, ha, rfl, wa, ma, Or.inr ⟨b, hb, rfl, hab, wb, mb⟩⟩) z0 h hB0
          exact zx_fb195 hF hB (fun a_codeOf hc => K _ _ _ a_codeOf _ hF hB hc)
    · have hk' : k < L.length := by omega
      have s7 := h7 _ (zr_mem hk')
      have wle : zh_wk L k (L.getD k 0) ≤ k := by
        have := zs_bound (f := fun j => if L.getD j 0 = L.getD k 0 then 1 else 0) (n := k) (c := 1) (fun j _ => by split <;> omega)
        unfold zh_wk; omega
      rw [nI_clamp (n := k) (by omega), hS k hk', nI_clamp (n := L.getD k 0) (by omega), h _ s7, nI_1]
      refine ⟨vp_in_nI (by omega) (by omega), vp_in_nI s7 (by omega), vp_in_nI s7 (by omega), nm_e (nm_r (nI_1 k) (ih (k + 1) _ (by omega) (by omega) (fun s hs => ?_)))⟩
      rw [zh_wk_s]
      by_cases e2 : s = L.getD k 0
      · subst e2; rw [pk_us, if_pos rfl]
      · rw [pk_un e2, h s hs, if_neg (fun x => e2 x.symm)]; rfl
theorem zx_fb2 {L : List Nat} (hL : L.length ≤ 32) (h7 : ∀ x, x ∈ L → x < 7) (hS : zr_ho L a_symbolList)
    (K : ∀ (a_weight a_group a_bitsOf a_codeOf : Nat → Int32) (B : Nat → Nat), zh_Fin (zh_w L) B → (∀ s, s < 7 → a_bitsOf s = nI (B s)) → (∀ u, u < 7 → 1 ≤ B u → a_codeOf u = nI (zc_cd B u)) → post (f_length, f_coded, f_markAt, (nI L.length), f_bitCount, a_text, a_order, a_classOf, a_nextClass, a_columnOf, a_ranks, a_symbolList, a_row, a_weight, a_group, a_bitsOf, a_codeOf, a_stream, a_back, a_stepTo)) :
    ∀ (f i : Nat) (a_weight a_group a_bitsOf : Nat → Int32), i ≤ 7 → 7 - i < f → (∀ s, s < i → a_weight s = nI 0 ∧ a_bitsOf s = nI 0) → (∀ g s, g < i → s < 7 → bt (a_group g) s = decide (s = g)) → wX_findBits_2 post f_length f_coded f_markAt (nI L.length) f_bitCount f (nI i) a_text a_order a_classOf a_nextClass a_columnOf a_ranks a_symbolList a_row a_weight a_group a_bitsOf a_codeOf a_stream a_back a_stepTo := by
  intro f
  induction f with
  | zero => intro i a_weight a_group a_bitsOf hi hf h; omega
  | succ f ih =>
    intro i a_weight a_group a_bitsOf hi hf h hg
    rw [wX_findBits_2]
    refine ek_if (nI_leI (a := 7) (by omega) (by omega)) (fun e => ⟨L.length + 1, ?_⟩) (fun e => ?_)
    · exact zx_fb39 hL h7 hS (fun g s h1 h2 => hg g s (by omega) h2) (fun s hs => (h s (by omega)).2) K (L.length + 1) 0 a_weight (by omega) (by omega) (fun s hs => (h s (by omega)).1)
    · have nb0 : vp_nar .byte 0 = nI 0 := zx_nb (x := 0) (by omega)
      rw [nI_clamp (n := i) (by omega), nb0]
      refine ⟨vp_in_nI (by omega) (by omega), nm_e ⟨vp_in_nI (by omega) (by omega), nm_e ⟨vp_in_nI (by omega) (by omega), nm_e (nm_r (nI_1 i) (ih (i + 1) _ _ _ (by omega) (by omega) (fun s hs => ?_) (fun g s hg' hs => ?_)))⟩⟩⟩
      · by_cases e2 : s = i
        · subst e2; rw [pk_us, pk_us]; exact ⟨nI_0.symm, rfl⟩
        · rw [pk_un e2, pk_un e2]; exact h s (by omega)
      · by_cases e2 : g = i
        · subst e2; rw [pk_us]; exact zx_g1 g (by omega) s hs
        · rw [pk_un e2]; exact hg g s (by omega) hs
theorem zx_fb {L : List Nat} (hL : L.length ≤ 32) (h7 : ∀ x, x ∈ L → x < 7) (hS : zr_ho L a_symbolList)
    (K : ∀ (a_weight a_group a_bitsOf a_codeOf : Nat → Int32) (B : Nat → Nat), zh_Fin (zh_w L) B → (∀ s, s < 7 → a_bitsOf s = nI (B s)) → (∀ u, u < 7 → 1 ≤ B u → a_codeOf u = nI (zc_cd B u)) → post (f_length, f_coded, f_markAt, (nI L.length), f_bitCount, a_text, a_order, a_classOf, a_nextClass, a_columnOf, a_ranks, a_symbolList, a_row, a_weight, a_group, a_bitsOf, a_codeOf, a_stream, a_back, a_stepTo)) : wpX_findBits post (f_length, f_coded, f_markAt, (nI L.length), f_bitCount, a_text, a_order, a_classOf, a_nextClass, a_columnOf, a_ranks, a_symbolList, a_row, a_weight, a_group, a_bitsOf, a_codeOf, a_stream, a_back, a_stepTo) := by
  unfold wpX_findBits
  dsimp only
  exact ⟨8, zx_fb2 hL h7 hS K 8 0 a_weight a_group a_bitsOf (by omega) (by omega) (fun s hs => absurd hs (by omega)) (fun g s hg => absurd hg (by omega))⟩
end ZXB
end
section
section ZXW
/-! the stream by its bits -/
def zx_sb (a : Nat → Int64) (j : Nat) : Bool := (a (j / 64)).toBitVec.getLsbD (j % 64)
theorem zx_btn {c r : Nat} (hc : c < 2 ^ 31) : bt (nI c) r = decide (c / 2 ^ r % 2 = 1) := by
  unfold bt
  rw [BitVec.getLsbD, pk_tn (by omega), Nat.testBit_eq_decide_div_mod_eq]
theorem zx_lbt {c r : Nat} (hc : c < 2 ^ 64) : (lN c).toBitVec.getLsbD r = decide (c / 2 ^ r % 2 = 1) := by
  rw [BitVec.getLsbD, wb_tn hc, Nat.testBit_eq_decide_div_mod_eq]
theorem zx_pb {k i : Nat} (hk : k < 64) (hi : i < 64) : (lN (2 ^ k)).toBitVec.getLsbD i = decide (i = k) := by
  have : 2 ^ k < 2 ^ 64 := Nat.pow_lt_pow_right (by omega) hk
  rw [BitVec.getLsbD, wb_tn this, Nat.testBit_two_pow]
  by_cases e : i = k
  · rw [decide_eq_true e, decide_eq_true e.symm]
  · rw [decide_eq_false e, decide_eq_false (fun x => e x.symm)]
theorem zx_sb_set (a : Nat → Int64) (q j : Nat) : zx_sb (vp_updL a (q / 64) (a (q / 64) ||| lN (2 ^ (q % 64)))) j = (zx_sb a j || decide (j = q)) := by
  unfold zx_sb
  by_cases e : j / 64 = q / 64
  · rw [e, pk_uLs, Int64.toBitVec_or, BitVec.getLsbD_or, zx_pb (by omega) (by omega)]
    congr 1
    by_cases e2 : j = q
    · rw [decide_eq_true e2, decide_eq_true (by omega)]
    · rw [decide_eq_false e2, decide_eq_false (by omega)]
  · rw [pk_uLn e, decide_eq_false (fun x => e (by rw [x])), Bool.or_false]
theorem zx_sh6 {q : Nat} (h : q < 2 ^ 31) : nI q >>> ((6 : Int32) &&& 31) = nI (q / 64) := pk_shrN h _ 6 (by decide)
theorem zx_a63 {q : Nat} (h : q < 2 ^ 31) : nI q &&& 63 = nI (q % 64) := pk_andN (by omega) 6 (by decide)
theorem zx_1sh {q : Nat} (h : q < 2 ^ 31) : (1 : Int64) <<< ((nI q &&& 63).toInt64 &&& 63) = lN (2 ^ (q % 64)) := by
  rw [zx_a63 h]
  have := wb_shl 1 (k := q % 64) (by omega)
  rw [Nat.one_mul] at this
  exact this
theorem zx_m1 (r : Nat) : nI r + (-1) = nI r - 1 := by rw [Int32.sub_eq_add_neg]
variable {n : Nat} {t : Nat → Nat} {post : SX → Prop} {f_length f_coded f_markAt f_symbolCount f_bitCount : Int32} {a_text a_order a_classOf a_nextClass a_columnOf a_ranks a_symbolList a_row a_weight a_group a_bitsOf a_codeOf a_back a_stepTo : Nat → Int32} {a_stream : Nat → Int64}
def zx_bf (B : Nat → Nat) (s c : Nat) : Bool := decide (zc_cd B s / 2 ^ (B s - 1 - c) % 2 = 1)
theorem zx_wb92 {J27 : zx_J2} {J51 : zx_J2} {x1 x2 : Int32} {q r : Nat} (K : J51 (nI r - 1) (nI (q + 1)) a_text a_order a_classOf a_nextClass a_columnOf a_ranks a_symbolList a_row a_weight a_group a_bitsOf a_codeOf a_stream a_back a_stepTo) : wX_writeBits_92 post J27 J51 x1 x2 (nI r) f_length f_coded f_markAt f_symbolCount (nI q) a_text a_order a_classOf a_nextClass a_columnOf a_ranks a_symbolList a_row a_weight a_group a_bitsOf a_codeOf a_stream a_back a_stepTo := by
  unfold wX_writeBits_92
  exact nm_r (nI_1 q) (nm_r (zx_m1 r) K)
theorem zx_wb51 {J27 : zx_J2} {B : Nat → Nat} {k s q0 : Nat} (hs : s < 7) (h6 : B s ≤ 6) (hc : zc_cd B s < 2 ^ 31) (hq : q0 + B s ≤ 192) (hC : a_codeOf s = nI (zc_cd B s)) (a0 : Nat → Int64)
    (K : ∀ a_stream : Nat → Int64, (∀ j, j < q0 → zx_sb a_stream j = zx_sb a0 j) → (∀ j, q0 + B s ≤ j → j < 256 → zx_sb a_stream j = false) → (∀ c, c < B s → zx_sb a_stream (q0 + c) = zx_bf B s c) → J27 (nI (k + 1)) (nI (q0 + B s)) a_text a_order a_classOf a_nextClass a_columnOf a_ranks a_symbolList a_row a_weight a_group a_bitsOf a_codeOf a_stream a_back a_stepTo) :
    ∀ (r f : Nat) (a_stream : Nat → Int64), r ≤ B s → r < f → (∀ j, j < q0 → zx_sb a_stream j = zx_sb a0 j) → (∀ j, q0 + (B s - r) ≤ j → j < 256 → zx_sb a_stream j = false) → (∀ c, c < B s - r → zx_sb a_stream (q0 + c) = zx_bf B s c) → wX_writeBits_51 post J27 (nI k) (nI s) f_length f_coded f_markAt f_symbolCount f (nI r - 1) (nI (q0 + (B s - r))) a_text a_order a_classOf a_nextClass a_columnOf a_ranks a_symbolList a_row a_weight a_group a_bitsOf a_codeOf a_stream a_back a_stepTo := by
  intro r
  induction r with
  | zero =>
    intro f a_stream hr hf h1 h2 h3
    obtain ⟨f, rfl⟩ : ∃ f', f = f' + 1 := ⟨f - 1, by omega⟩
    rw [Nat.sub_zero] at h2 h3 ⊢
    rw [wX_writeBits_51]
    exact br_t (by decide) (nm_r (nI_1 k) (K a_stream h1 h2 h3))
  | succ r ih =>
    intro f a_stream hr hf h1 h2 h3
    obtain ⟨f, rfl⟩ : ∃ f', f = f' + 1 := ⟨f - 1, by omega⟩
    have eb : B s - r = B s - (r + 1) + 1 := by omega
    have er : B s - 1 - (B s - (r + 1)) = r := by omega
    have nx : ∀ a_stream : Nat → Int64, (∀ j, j < q0 → zx_sb a_stream j = zx_sb a0 j) → (∀ j, q0 + (B s - r) ≤ j → j < 256 → zx_sb a_stream j = false) → (∀ c, c < B s - (r + 1) → zx_sb a_stream (q0 + c) = zx_bf B s c) → zx_sb a_stream (q0 + (B s - (r + 1))) = zx_bf B s (B s - (r + 1)) → wX_writeBits_51 post J27 (nI k) (nI s) f_length f_coded f_markAt f_symbolCount f (nI r - 1) (nI (q0 + (B s - (r + 1)) + 1)) a_text a_order a_classOf a_nextClass a_columnOf a_ranks a_symbolList a_row a_weight a_group a_bitsOf a_codeOf a_stream a_back a_stepTo := by
      intro a_stream g1 g2 g3 g4
      have := ih f a_stream (by omega) (by omega) g1 g2 (fun c hc' => by
        by_cases e : c = B s - (r + 1)
        · rw [e]; exact g4
        · exact g3 c (by omega))
      rw [eb] at this
      exact this
    rw [nI_pred, wX_writeBits_51]
    refine br_f (nI_pos (by omega)) ⟨vp_in_nI hs (by omega), ?_⟩
    rw [nI_clamp (n := s) (by omega), hC]
    have bb : zx_bf B s (B s - (r + 1)) = bt (nI (zc_cd B s)) r := by
      rw [zx_btn hc]
      unfold zx_bf
      rw [er]
    refine ek_if (zx_gbit (nI (zc_cd B s)) (s := r) (by omega)) (fun e => ?_) (fun e => ?_)
    · refine zx_wb92 (nx a_stream h1 (fun j hj h => h2 j (by omega) h) h3 ?_)
      rw [bb, e]
      exact h2 _ (Nat.le_refl _) (by omega)
    · have et : bt (nI (zc_cd B s)) r = true := ts_nf e
      have q4 : (q0 + (B s - (r + 1))) / 64 < 4 := by omega
      rw [zx_sh6 (by omega), zx_1sh (by omega), nI_clamp (n := (q0 + (B s - (r + 1))) / 64) (by omega)]
      refine ⟨vp_in_nI q4 (by omega), vp_in_nI q4 (by omega), nm_e (zx_wb92 (nx _ (fun j hj => ?_) (fun j hj h => ?_) (fun c hc' => ?_) ?_))⟩
      · rw [zx_sb_set, decide_eq_false (by omega), Bool.or_false]; exact h1 j hj
      · rw [zx_sb_set, decide_eq_false (by omega), Bool.or_false]; exact h2 j (by omega) h
      · rw [zx_sb_set, decide_eq_false (by omega), Bool.or_false]; exact h3 c hc'
      · rw [zx_sb_set, decide_eq_true rfl, Bool.or_true, bb, et]
/-- the first k symbols' codes stand in the stream, nothing behind them -/
def zx_off (B : Nat → Nat) (L : List Nat) (k : Nat) : Nat := zs_sm (fun i => B (L.getD i 0)) k
theorem zx_off_s (B : Nat → Nat) (L : List Nat) (k : Nat) : zx_off B L (k + 1) = zx_off B L k + B (L.getD k 0) := rfl
theorem zx_off_le {B : Nat → Nat} {L : List Nat} (h7 : ∀ x, x ∈ L → x < 7) (h6 : ∀ s, s < 7 → B s ≤ 6) {k : Nat} (hk : k ≤ L.length) : zx_off B L k ≤ k * 6 := zs_bound (fun i hi => h6 _ (h7 _ (zr_mem (by omega))))
def zx_Q (B : Nat → Nat) (L : List Nat) (k : Nat) (a : Nat → Int64) : Prop := (∀ j, zx_off B L k ≤ j → j < 256 → zx_sb a j = false) ∧ (∀ i, i < k → ∀ c, c < B (L.getD i 0) → zx_sb a (zx_off B L i + c) = zx_bf B (L.getD i 0) c)
theorem zx_wb27 {L : List Nat} {B : Nat → Nat} (hL : L.length ≤ 32) (h7 : ∀ x, x ∈ L → x < 7) (h6 : ∀ s, s < 7 → B s ≤ 6) (h1 : ∀ x, x ∈ L → 1 ≤ B x) (hK : zc_K B ≤ 64) (hS : zr_ho L a_symbolList) (hB : ∀ s, s < 7 → a_bitsOf s = nI (B s)) (hC : ∀ u, u < 7 → 1 ≤ B u → a_codeOf u = nI (zc_cd B u))
    (K : ∀ a_stream : Nat → Int64, zx_Q B L L.length a_stream → post (f_length, f_coded, f_markAt, (nI L.length), (nI (zx_off B L L.length)), a_text, a_order, a_classOf, a_nextClass, a_columnOf, a_ranks, a_symbolList, a_row, a_weight, a_group, a_bitsOf, a_codeOf, a_stream, a_back, a_stepTo)) :
    ∀ (f k : Nat) (a_stream : Nat → Int64), k ≤ L.length → L.length - k < f → zx_Q B L k a_stream → wX_writeBits_27 post f_length f_coded f_markAt (nI L.length) f (nI k) (nI (zx_off B L k)) a_text a_order a_classOf a_nextClass a_columnOf a_ranks a_symbolList a_row a_weight a_group a_bitsOf a_codeOf a_stream a_back a_stepTo := by
  intro f
  induction f with
  | zero => intro k a_stream hk hf h; omega
  | succ f ih =>
    intro k a_stream hk hf h
    rw [wX_writeBits_27]
    refine ek_if (nI_leI (by omega) (by omega)) (fun e => ?_) (fun e => ?_)
    · have : k = L.length := by omega
      subst this
      exact K a_stream h
    · have hk' : k < L.length := by omega
      have m := zr_mem hk'
      have s7 := h7 _ m
      have b6 := h6 _ s7
      have b1 := h1 _ m
      have ol := zx_off_le h7 h6 (k := k) (by omega)
      have cl := zc_lt h6 hK s7 b1
      have p6 : 2 ^ B (L.getD k 0) ≤ 2 ^ 6 := Nat.pow_le_pow_right (by omega) b6
      rw [nI_clamp (n := k) (by omega), hS k hk']
      refine ⟨vp_in_nI (by omega) (by omega), nm_e ⟨vp_in_nI s7 (by omega), ?_⟩⟩
      rw [nI_clamp (n := L.getD k 0) (by omega), hB _ s7]
      refine nm_e ⟨B (L.getD k 0) + 1, ?_⟩
      have w := zx_wb51 (post := post) (J27 := wX_writeBits_27 post f_length f_coded f_markAt (nI L.length) f) (B := B) (k := k) (s := L.getD k 0) (q0 := zx_off B L k) (f_length := f_length) (f_coded := f_coded) (f_markAt := f_markAt) (f_symbolCount := nI L.length) (a_text := a_text) (a_order := a_order) (a_classOf := a_classOf) (a_nextClass := a_nextClass) (a_columnOf := a_columnOf) (a_ranks := a_ranks) (a_symbolList := a_symbolList) (a_row := a_row) (a_weight := a_weight) (a_group := a_group) (a_bitsOf := a_bitsOf) (a_codeOf := a_codeOf) (a_back := a_back) (a_stepTo := a_stepTo) s7 b6 (by omega) (by omega) (hC _ s7 b1) a_stream (fun a_stream g1 g2 g3 => ?_) (B (L.getD k 0)) (B (L.getD k 0) + 1) a_stream (Nat.le_refl _) (by omega) (fun j hj => rfl) (fun j hj h256 => h.1 j (by omega) h256) (fun c hc => absurd hc (by omega))
      · rw [Nat.sub_self, Nat.add_zero] at w
        exact w
      · refine ih (k + 1) a_stream (by omega) (by omega) ⟨fun j hj h256 => g2 j (by rw [← zx_off_s]; exact hj) h256, fun i hi c hc => ?_⟩
        by_cases e2 : i = k
        · subst e2; exact g3 c hc
        · have lt : zx_off B L i + c < zx_off B L k := by
            have a := zx_off_s B L i
            have b := zs_mono (f := fun i => B (L.getD i 0)) (m := i + 1) (n := k) (by omega)
            unfold zx_off at *
            omega
          rw [g1 _ lt]
          exact h.2 i (by omega) c hc
theorem zx_wb7 {L : List Nat} {B : Nat → Nat} (hL : L.length ≤ 32) (h7 : ∀ x, x ∈ L → x < 7) (h6 : ∀ s, s < 7 → B s ≤ 6) (h1 : ∀ x, x ∈ L → 1 ≤ B x) (hK : zc_K B ≤ 64) (hS : zr_ho L a_symbolList) (hB : ∀ s, s < 7 → a_bitsOf s = nI (B s)) (hC : ∀ u, u < 7 → 1 ≤ B u → a_codeOf u = nI (zc_cd B u))
    (K : ∀ a_stream : Nat → Int64, zx_Q B L L.length a_stream → post (f_length, f_coded, f_markAt, (nI L.length), (nI (zx_off B L L.length)), a_text, a_order, a_classOf, a_nextClass, a_columnOf, a_ranks, a_symbolList, a_row, a_weight, a_group, a_bitsOf, a_codeOf, a_stream, a_back, a_stepTo)) :
    ∀ (f i : Nat) (a_stream : Nat → Int64), i ≤ 4 → 4 - i < f → (∀ j, j < i → a_stream j = 0) → wX_writeBits_7 post f_length f_coded f_markAt (nI L.length) 0 f (nI i) a_text a_order a_classOf a_nextClass a_columnOf a_ranks a_symbolList a_row a_weight a_group a_bitsOf a_codeOf a_stream a_back a_stepTo := by
  intro f
  induction f with
  | zero => intro i a_stream hi hf h; omega
  | succ f ih =>
    intro i a_stream hi hf h
    rw [wX_writeBits_7]
    refine ek_if (nI_leI (a := 4) (by omega) (by omega)) (fun e => ⟨L.length + 1, ?_⟩) (fun e => ?_)
    · refine zx_wb27 hL h7 h6 h1 hK hS hB hC K (L.length + 1) 0 a_stream (by omega) (by omega) ⟨fun j _ hj => ?_, fun i hi => absurd hi (by omega)⟩
      unfold zx_sb
      rw [h (j / 64) (by omega)]
      exact BitVec.getLsbD_zero
    · rw [nI_clamp (n := i) (by omega)]
      refine ⟨vp_in_nI (by omega) (by omega), nm_e (nm_r (nI_1 i) (ih (i + 1) _ (by omega) (by omega) (fun j hj => ?_)))⟩
      by_cases e2 : j = i
      · subst e2; rw [pk_uLs]
      · rw [pk_uLn e2]; exact h j (by omega)
theorem zx_wb {L : List Nat} {B : Nat → Nat} (hL : L.length ≤ 32) (h7 : ∀ x, x ∈ L → x < 7) (h6 : ∀ s, s < 7 → B s ≤ 6) (h1 : ∀ x, x ∈ L → 1 ≤ B x) (hK : zc_K B ≤ 64) (hS : zr_ho L a_symbolList) (hB : ∀ s, s < 7 → a_bitsOf s = nI (B s)) (hC : ∀ u, u < 7 → 1 ≤ B u → a_codeOf u = nI (zc_cd B u))
    (K : ∀ a_stream : Nat → Int64, zx_Q B L L.length a_stream → post (f_length, f_coded, f_markAt, (nI L.length), (nI (zx_off B L L.length)), a_text, a_order, a_classOf, a_nextClass, a_columnOf, a_ranks, a_symbolList, a_row, a_weight, a_group, a_bitsOf, a_codeOf, a_stream, a_back, a_stepTo)) : wpX_writeBits post (f_length, f_coded, f_markAt, (nI L.length), f_bitCount, a_text, a_order, a_classOf, a_nextClass, a_columnOf, a_ranks, a_symbolList, a_row, a_weight, a_group, a_bitsOf, a_codeOf, a_stream, a_back, a_stepTo) := by
  unfold wpX_writeBits
  dsimp only
  exact ⟨5, zx_wb7 hL h7 h6 h1 hK hS hB hC K 5 0 a_stream (by omega) (by omega) (fun j hj => absurd hj (by omega))⟩
/-! what the final bits give -/
theorem zh_F6 {w B : Nat → Nat} (hF : zh_Fin w B) : ∀ s, s < 7 → B s ≤ 6 := by
  intro s hs
  by_cases c : w s = 0
  · rw [hF.2.1 s hs c]; omega
  · exact (hF.1 s hs c).2
theorem zh_FK {w B : Nat → Nat} (hF : zh_Fin w B) : zc_K B ≤ 64 := by
  have : zc_K B = zh_kr w B := by
    refine zs_congr (fun s hs => ?_)
    by_cases c : w s = 0
    · rw [if_pos c, if_neg (by rw [hF.2.1 s hs c]; omega)]
    · rw [if_neg c, if_pos (hF.1 s hs c).1]
  rw [this]
  exact hF.2.2.1
theorem zh_F1 {L : List Nat} {B : Nat → Nat} (hF : zh_Fin (zh_w L) B) (h7 : ∀ x, x ∈ L → x < 7) : ∀ x, x ∈ L → 1 ≤ B x := by
  intro x hx
  obtain ⟨k, hk, rfl⟩ := List.mem_iff_getElem.mp hx
  have e : L[k] = L.getD k 0 := by rw [List.getD_eq_getElem?_getD, List.getElem?_eq_getElem hk]; rfl
  rw [e]
  exact (hF.1 _ (h7 _ (zr_mem hk)) (zh_w_pos hk)).1
theorem zx_off_co {L : List Nat} {B : Nat → Nat} (h7 : ∀ x, x ∈ L → x < 7) : zx_off B L L.length = zh_co (zh_w L) B := (zh_w_sum h7 B).symm
end ZXW
end
section
section ZXC
/-- the symbols of a text -/
def zx_S (n : Nat) (t : Nat → Nat) : List Nat := zr_sy (zm_rk (zk_col n t)) n
variable {n : Nat} {t : Nat → Nat}
theorem zx_S_r6 (hn : n ≤ 32) (ht : ∀ i, i < n → t i < 6) : ∀ k, k < n → zm_rk (zk_col n t) k < 6 := fun k hk => zm_rk6 (fun k hk => zk_col6 ht hn hk) hk
theorem zx_S_len (hn : n ≤ 32) : (zx_S n t).length ≤ 32 := by
  have := zr_sy_len (zm_rk (zk_col n t)) n
  unfold zx_S; omega
theorem zx_S_7 (hn : n ≤ 32) (ht : ∀ i, i < n → t i < 6) : ∀ x, x ∈ zx_S n t → x < 7 := zr_sy_el (zx_S_r6 hn ht)
/-- what is kept of a text that is coded -/
def zx_Cd (n : Nat) (t : Nat → Nat) (f_markAt f_symbolCount f_bitCount : Int32) (a_columnOf a_ranks a_symbolList a_bitsOf a_codeOf : Nat → Int32) (a_stream : Nat → Int64) : Prop :=
  (0 < n → f_markAt = nI (zk_pl n t 0)) ∧ (∀ k, k < n → a_columnOf k = nI (zk_col n t k)) ∧ (∀ k, k < n → a_ranks k = nI (zm_rk (zk_col n t) k)) ∧ f_symbolCount = nI (zx_S n t).length ∧ zr_ho (zx_S n t) a_symbolList ∧
  ∃ B : Nat → Nat, zh_Fin (zh_w (zx_S n t)) B ∧ f_bitCount = nI (zx_off B (zx_S n t) (zx_S n t).length) ∧ (∀ s, s < 7 → a_bitsOf s = nI (B s)) ∧ (∀ u, u < 7 → 1 ≤ B u → a_codeOf u = nI (zc_cd B u)) ∧ zx_Q B (zx_S n t) (zx_S n t).length a_stream
variable {post : SX → Prop} {f_coded f_markAt f_symbolCount f_bitCount : Int32} {a_text a_order a_classOf a_nextClass a_columnOf a_ranks a_symbolList a_row a_weight a_group a_bitsOf a_codeOf a_back a_stepTo : Nat → Int32} {a_stream : Nat → Int64}
theorem zx_stages (hn : n ≤ 32) (ht : ∀ i, i < n → t i < 6) (hM : 0 < n → f_markAt = nI (zk_pl n t 0)) (hcol : ∀ k, k < n → a_columnOf k = nI (zk_col n t k))
    (K : ∀ (f_symbolCount f_bitCount : Int32) (a_ranks a_symbolList a_row a_weight a_group a_bitsOf a_codeOf : Nat → Int32) (a_stream : Nat → Int64), zx_Cd n t f_markAt f_symbolCount f_bitCount a_columnOf a_ranks a_symbolList a_bitsOf a_codeOf a_stream → post ((nI n), f_coded, f_markAt, f_symbolCount, f_bitCount, a_text, a_order, a_classOf, a_nextClass, a_columnOf, a_ranks, a_symbolList, a_row, a_weight, a_group, a_bitsOf, a_codeOf, a_stream, a_back, a_stepTo)) :
    wpX_rankLetters (fun u => wpX_shortenRuns (fun u => wpX_findBits (fun u => wpX_writeBits (fun u => post u) u) u) u) ((nI n), f_coded, f_markAt, f_symbolCount, f_bitCount, a_text, a_order, a_classOf, a_nextClass, a_columnOf, a_ranks, a_symbolList, a_row, a_weight, a_group, a_bitsOf, a_codeOf, a_stream, a_back, a_stepTo) := by
  refine zx_rank hn (fun k hk => zk_col6 ht hn hk) hcol (fun a_ranks a_row hR => ?_)
  refine zx_runs hn (zx_S_r6 hn ht) hR (fun a_symbolList hS => ?_)
  refine zx_fb (L := zx_S n t) (zx_S_len hn) (zx_S_7 hn ht) hS (fun a_weight a_group a_bitsOf a_codeOf B hF hB hC => ?_)
  refine zx_wb (L := zx_S n t) (B := B) (zx_S_len hn) (zx_S_7 hn ht) (zh_F6 hF) (zh_F1 hF (zx_S_7 hn ht)) (zh_FK hF) hS hB hC (fun a_stream hQ => ?_)
  exact K _ _ _ _ _ _ _ _ _ _ ⟨hM, hcol, hR, rfl, hS, B, hF, rfl, hB, hC, hQ⟩
theorem zx_c48 {J24 : zx_J2} {k p : Nat} (hn : n ≤ 32) (ht : ∀ i, i < n → t i < 6) (hT : ∀ i, i < n → a_text i = nI (t i)) (hk : k < n) (hp : p < n) (hc : t (zk_pr n p) = zk_col n t k)
    (K : J24 (nI (k + 1)) f_markAt a_text a_order a_classOf a_nextClass (upd a_columnOf k (nI (zk_col n t k))) a_ranks a_symbolList a_row a_weight a_group a_bitsOf a_codeOf a_stream a_back a_stepTo) : wX_code_48 post J24 (nI k) (nI p) (nI n) f_coded f_markAt f_symbolCount f_bitCount a_text a_order a_classOf a_nextClass a_columnOf a_ranks a_symbolList a_row a_weight a_group a_bitsOf a_codeOf a_stream a_back a_stepTo := by
  unfold wX_code_48
  have pr := zk_pr_lt hp
  have p6 := ht _ pr
  refine ek_if (zx_eq0 (by omega)) (fun e => ?_) (fun e => ?_)
  · have ep : zk_pr n p = n - 1 := by unfold zk_pr; rw [if_pos e]
    have es : nI n - 1 = nI (n - 1) := pk_sub (b := 1) (by omega)
    rw [es, nI_clamp (n := n - 1) (by omega), nI_clamp (n := k) (by omega), hT (n - 1) (by omega), ← ep, zx_nb (x := t (zk_pr n p)) (by omega), hc]
    exact ⟨vp_in_nI (by omega) (by omega), vp_in_nI (by omega) (by omega), nm_e (nm_r (nI_1 k) K)⟩
  · have ep : zk_pr n p = p - 1 := by unfold zk_pr; rw [if_neg e]
    have es : nI p - 1 = nI (p - 1) := pk_sub (b := 1) (by omega)
    rw [es, nI_clamp (n := p - 1) (by omega), nI_clamp (n := k) (by omega), hT (p - 1) (by omega), ← ep, zx_nb (x := t (zk_pr n p)) (by omega), hc]
    exact ⟨vp_in_nI (by omega) (by omega), vp_in_nI (by omega) (by omega), nm_e (nm_r (nI_1 k) K)⟩
theorem zx_c24 (hn : n ≤ 32) (ht : ∀ i, i < n → t i < 6) (hT : ∀ i, i < n → a_text i = nI (t i)) (hO : ∀ k, k < n → a_order k = nI (zk_ord n t k))
    (K : ∀ (f_markAt f_symbolCount f_bitCount : Int32) (a_columnOf a_ranks a_symbolList a_row a_weight a_group a_bitsOf a_codeOf : Nat → Int32) (a_stream : Nat → Int64), zx_Cd n t f_markAt f_symbolCount f_bitCount a_columnOf a_ranks a_symbolList a_bitsOf a_codeOf a_stream → post ((nI n), f_coded, f_markAt, f_symbolCount, f_bitCount, a_text, a_order, a_classOf, a_nextClass, a_columnOf, a_ranks, a_symbolList, a_row, a_weight, a_group, a_bitsOf, a_codeOf, a_stream, a_back, a_stepTo)) :
    ∀ (f k : Nat) (f_markAt : Int32) (a_columnOf : Nat → Int32), k ≤ n → n - k < f → (zk_pl n t 0 < k → f_markAt = nI (zk_pl n t 0)) → (∀ j, j < k → a_columnOf j = nI (zk_col n t j)) → wX_code_24 post (nI n) f_coded f_symbolCount f_bitCount f (nI k) f_markAt a_text a_order a_classOf a_nextClass a_columnOf a_ranks a_symbolList a_row a_weight a_group a_bitsOf a_codeOf a_stream a_back a_stepTo := by
  intro f
  induction f with
  | zero => intro k f_markAt a_columnOf hk hf h1 h2; omega
  | succ f ih =>
    intro k f_markAt a_columnOf hk hf h1 h2
    rw [wX_code_24]
    refine ek_if (nI_leI (by omega) (by omega)) (fun e => ?_) (fun e => ?_)
    · have : k = n := by omega
      subst this
      exact zx_stages hn ht (fun h0 => h1 ((zk_pl_pm (t := t) hn).1 0 h0)) h2 (K f_markAt · · a_columnOf)
    · have hk' : k < n := by omega
      have ok := (zk_ord_pm (t := t) hn).1 k hk'
      have col : ∀ (m : Int32), (zk_pl n t 0 < k + 1 → m = nI (zk_pl n t 0)) → wX_code_24 post (nI n) f_coded f_symbolCount f_bitCount f (nI (k + 1)) m a_text a_order a_classOf a_nextClass (upd a_columnOf k (nI (zk_col n t k))) a_ranks a_symbolList a_row a_weight a_group a_bitsOf a_codeOf a_stream a_back a_stepTo := by
        intro m hm
        refine ih (k + 1) m _ (by omega) (by omega) hm (fun j hj => ?_)
        by_cases e2 : j = k
        · subst e2; rw [pk_us]
        · rw [pk_un e2]; exact h2 j (by omega)
      rw [nI_clamp (n := k) (by omega), hO k hk']
      refine ⟨vp_in_nI (by omega) (by omega), nm_e (ek_if (zx_eq0 (by omega)) (fun e2 => ?_) (fun e2 => ?_))⟩
      · refine zx_c48 hn ht hT hk' ok rfl (col (nI k) (fun _ => ?_))
        have := zk_pl_ord (t := t) hn hk'
        rw [e2] at this
        rw [this]
      · refine zx_c48 hn ht hT hk' ok rfl (col f_markAt (fun hl => h1 ?_))
        by_cases e3 : zk_pl n t 0 = k
        · exfalso
          apply e2
          rw [← e3]
          exact zk_ord_pl hn (by omega)
        · omega
theorem zx_code (hn : n ≤ 32) (ht : ∀ i, i < n → t i < 6) (hT : ∀ i, i < n → a_text i = nI (t i)) (hc : f_coded = 0 ∨ (f_coded = 1 ∧ zx_Cd n t f_markAt f_symbolCount f_bitCount a_columnOf a_ranks a_symbolList a_bitsOf a_codeOf a_stream))
    (K : ∀ (f_markAt f_symbolCount f_bitCount : Int32) (a_order a_classOf a_nextClass a_columnOf a_ranks a_symbolList a_row a_weight a_group a_bitsOf a_codeOf : Nat → Int32) (a_stream : Nat → Int64), zx_Cd n t f_markAt f_symbolCount f_bitCount a_columnOf a_ranks a_symbolList a_bitsOf a_codeOf a_stream → post ((nI n), 1, f_markAt, f_symbolCount, f_bitCount, a_text, a_order, a_classOf, a_nextClass, a_columnOf, a_ranks, a_symbolList, a_row, a_weight, a_group, a_bitsOf, a_codeOf, a_stream, a_back, a_stepTo)) : wpX_code post ((nI n), f_coded, f_markAt, f_symbolCount, f_bitCount, a_text, a_order, a_classOf, a_nextClass, a_columnOf, a_ranks, a_symbolList, a_row, a_weight, a_group, a_bitsOf, a_codeOf, a_stream, a_back, a_stepTo) := by
  unfold wpX_code
  dsimp only
  rcases hc with rfl | ⟨rfl, hc⟩
  · refine br_t rfl (zx_sort hn ht hT (fun a_order a_classOf a_nextClass hO => ?_))
    exact ⟨n + 1, zx_c24 hn ht hT hO (fun f_markAt f_symbolCount f_bitCount a_columnOf a_ranks a_symbolList a_row a_weight a_group a_bitsOf a_codeOf a_stream h => K f_markAt f_symbolCount f_bitCount a_order a_classOf a_nextClass a_columnOf a_ranks a_symbolList a_row a_weight a_group a_bitsOf a_codeOf a_stream h) (n + 1) 0 0 a_columnOf (by omega) (by omega) (fun h => absurd h (by omega)) (fun j hj => absurd hj (by omega))⟩
  · exact br_f (by decide) (K _ _ _ _ _ _ _ _ _ _ _ _ _ _ _ hc)
end ZXC
end
section
section ZXD
variable {n : Nat} {t : Nat → Nat} {post : Int32 → SX → Prop} {f_length f_coded f_markAt f_symbolCount f_bitCount : Int32} {a_text a_order a_classOf a_nextClass a_columnOf a_ranks a_symbolList a_row a_weight a_group a_bitsOf a_codeOf a_back a_stepTo : Nat → Int32} {a_stream : Nat → Int64}
theorem zx_sw2 {q : Int32 → Prop} {B : Nat → Nat} {b c : Nat} (h6 : ∀ s, s < 7 → B s ≤ 6) (hcd : ∀ s, s < 7 → 1 ≤ B s → zc_cd B s < 2 ^ 31) (hB : ∀ s, s < 7 → a_bitsOf s = nI (B s)) (hC : ∀ u, u < 7 → 1 ≤ B u → a_codeOf u = nI (zc_cd B u)) (hb : 1 ≤ b) (hb7 : b ≤ 7) (hc : c < 2 ^ 31)
    (K0 : (∀ s, s < 7 → B s = b → zc_cd B s ≠ c) → q (-3)) (K1 : ∀ s, s < 7 → B s = b → zc_cd B s = c → q (nI s)) :
    ∀ (f i : Nat), i ≤ 7 → 7 - i < f → (∀ s, s < i → B s = b → zc_cd B s ≠ c) → wX_symbolWith_2 q (nI b) (nI c) f_length f_coded f_markAt f_symbolCount f_bitCount a_text a_order a_classOf a_nextClass a_columnOf a_ranks a_symbolList a_row a_weight a_group a_bitsOf a_codeOf a_stream a_back a_stepTo f (nI i) := by
  intro f
  induction f with
  | zero => intro i hi hf h; omega
  | succ f ih =>
    intro i hi hf h
    rw [wX_symbolWith_2]
    refine ek_if (nI_leI (a := 7) (by omega) (by omega)) (fun e => K0 (fun s hs => h s (by omega))) (fun e => ?_)
    have i6 := h6 i (by omega)
    rw [nI_clamp (n := i) (by omega), hB i (by omega)]
    refine ⟨vp_in_nI (by omega) (by omega), ek_if (nI_eq (by omega) (by omega)) (fun e2 => ?_) (fun e2 => ?_)⟩
    · have cd := hcd i (by omega) (by omega)
      rw [hC i (by omega) (by omega)]
      refine ⟨vp_in_nI (by omega) (by omega), ek_if (nI_eq cd hc) (fun e3 => K1 i (by omega) e2 e3) (fun e3 => ?_)⟩
      refine nm_r (nI_1 i) (ih (i + 1) (by omega) (by omega) (fun s hs hb' => ?_))
      by_cases e4 : s = i
      · subst e4; exact e3
      · exact h s (by omega) hb'
    · refine nm_r (nI_1 i) (ih (i + 1) (by omega) (by omega) (fun s hs hb' => ?_))
      by_cases e4 : s = i
      · subst e4; exact absurd hb' e2
      · exact h s (by omega) hb'
theorem zx_sw {q : Int32 → Prop} {B : Nat → Nat} {b c : Nat} (h6 : ∀ s, s < 7 → B s ≤ 6) (hcd : ∀ s, s < 7 → 1 ≤ B s → zc_cd B s < 2 ^ 31) (hB : ∀ s, s < 7 → a_bitsOf s = nI (B s)) (hC : ∀ u, u < 7 → 1 ≤ B u → a_codeOf u = nI (zc_cd B u)) (hb : 1 ≤ b) (hb7 : b ≤ 7) (hc : c < 2 ^ 31)
    (K0 : (∀ s, s < 7 → B s = b → zc_cd B s ≠ c) → q (-3)) (K1 : ∀ s, s < 7 → B s = b → zc_cd B s = c → q (nI s)) : wpX_symbolWith q (f_length, f_coded, f_markAt, f_symbolCount, f_bitCount, a_text, a_order, a_classOf, a_nextClass, a_columnOf, a_ranks, a_symbolList, a_row, a_weight, a_group, a_bitsOf, a_codeOf, a_stream, a_back, a_stepTo) (nI b) (nI c) := by
  unfold wpX_symbolWith
  dsimp only
  exact ⟨8, zx_sw2 h6 hcd hB hC hb hb7 hc K0 K1 8 0 (by omega) (by omega) (fun s hs => absurd hs (by omega))⟩
theorem zx_rbit (a : Nat → Int64) {q : Nat} (hq : q < 2 ^ 31) : ((((a (q / 64)).toUInt64 >>> ((nI q &&& 63).toInt64.toUInt64 &&& Int64.toUInt64 63)).toInt64) &&& 1).toInt32 = nI (if zx_sb a q = true then 1 else 0) := by
  unfold zx_sb
  obtain ⟨w, hw, e⟩ := wb_of (a (q / 64))
  rw [zx_a63 hq, e, wb_bit hw (by omega), lN_i, zx_lbt hw]
  congr 1
  by_cases c : w / 2 ^ (q % 64) % 2 = 1
  · rw [if_pos (decide_eq_true c)]; exact c
  · rw [if_neg (by rw [decide_eq_true_eq]; exact c)]; omega
theorem zx_2add (a b : Nat) : 2 * nI a + nI b = nI (2 * a + b) := by
  have : (2 : Int32) * nI a = nI (2 * a) := pk_mul 2 a
  rw [this, nI_add]
theorem zx_rs9 {L : List Nat} {B : Nat → Nat} (hL : L.length ≤ 32) (h7 : ∀ x, x ∈ L → x < 7) (h6 : ∀ s, s < 7 → B s ≤ 6) (h1 : ∀ x, x ∈ L → 1 ≤ B x) (hK : zc_K B ≤ 64) (hB : ∀ s, s < 7 → a_bitsOf s = nI (B s)) (hC : ∀ u, u < 7 → 1 ≤ B u → a_codeOf u = nI (zc_cd B u)) (hQ : zx_Q B L L.length a_stream)
    (K : ∀ a_back : Nat → Int32, zr_ho L a_back → post (nI L.length) (f_length, f_coded, f_markAt, f_symbolCount, (nI (zx_off B L L.length)), a_text, a_order, a_classOf, a_nextClass, a_columnOf, a_ranks, a_symbolList, a_row, a_weight, a_group, a_bitsOf, a_codeOf, a_stream, a_back, a_stepTo)) :
    ∀ (f k b : Nat) (a_back : Nat → Int32), zx_off B L L.length - (zx_off B L k + b) < f → ((k = L.length ∧ b = 0) ∨ (k < L.length ∧ b < B (L.getD k 0))) → (∀ i, i < k → a_back i = nI (L.getD i 0)) → wX_readSymbols_9 post f_length f_coded f_markAt f_symbolCount (nI (zx_off B L L.length)) f (nI k) (nI b) (nI (zc_cd B (L.getD k 0) / 2 ^ (B (L.getD k 0) - b))) (nI (zx_off B L k + b)) a_text a_order a_classOf a_nextClass a_columnOf a_ranks a_symbolList a_row a_weight a_group a_bitsOf a_codeOf a_stream a_back a_stepTo := by
  have cdl : ∀ s, s < 7 → 1 ≤ B s → zc_cd B s < 64 := by
    intro s hs hs1
    have a := zc_lt h6 hK hs hs1
    have b : 2 ^ B s ≤ 2 ^ 6 := Nat.pow_le_pow_right (by omega) (h6 s hs)
    omega
  have tot := zx_off_le h7 h6 (Nat.le_refl L.length)
  intro f
  induction f with
  | zero => intro k b a_back hf; omega
  | succ f ih =>
    intro k b a_back hf hs hk
    rw [wX_readSymbols_9]
    rcases hs with ⟨rfl, rfl⟩ | ⟨hkl, hb⟩
    · rw [Nat.add_zero]
      exact br_t (nI_le (Nat.le_refl _) (by omega)) (K a_back hk)
    · have m := zr_mem hkl
      have s7 := h7 _ m
      have b6 := h6 _ s7
      have b1 := h1 _ m
      have lt : zx_off B L k + B (L.getD k 0) ≤ zx_off B L L.length := by
        rw [← zx_off_s]
        exact zs_mono (f := fun i => B (L.getD i 0)) (m := k + 1) (n := L.length) (by omega)
      have cl := cdl _ s7 b1
      refine br_f (nI_ge (by omega) (by omega)) ?_
      have q4 : (zx_off B L k + b) / 64 < 4 := by omega
      rw [zx_sh6 (by omega), nI_clamp (n := (zx_off B L k + b) / 64) (by omega), zx_rbit a_stream (by omega), hQ.2 k hkl b hb, zx_2add]
      have eh : 2 * (zc_cd B (L.getD k 0) / 2 ^ (B (L.getD k 0) - b)) + (if zx_bf B (L.getD k 0) b = true then 1 else 0) = zc_cd B (L.getD k 0) / 2 ^ (B (L.getD k 0) - (b + 1)) := by
        have a := zc_half (zc_cd B (L.getD k 0)) (B (L.getD k 0) - (b + 1))
        have e1 : B (L.getD k 0) - (b + 1) + 1 = B (L.getD k 0) - b := by omega
        have e2 : B (L.getD k 0) - 1 - b = B (L.getD k 0) - (b + 1) := by omega
        rw [e1] at a
        unfold zx_bf
        rw [e2]
        by_cases c : zc_cd B (L.getD k 0) / 2 ^ (B (L.getD k 0) - (b + 1)) % 2 = 1
        · rw [if_pos (decide_eq_true c)]; omega
        · rw [if_neg (by rw [decide_eq_true_eq]; exact c)]; omega
      rw [eh]
      refine ⟨vp_in_nI q4 (by omega), nm_e (nm_r (nI_1 b) ?_)⟩
      have dl : zc_cd B (L.getD k 0) / 2 ^ (B (L.getD k 0) - (b + 1)) ≤ zc_cd B (L.getD k 0) := Nat.div_le_self _ _
      refine zx_sw (B := B) h6 (fun s hs h => by have := cdl s hs h; omega) hB hC (by omega) (by omega) (by omega) (fun none => ?_) (fun s hs hsb hsc => ?_)
      · have ne : b + 1 ≠ B (L.getD k 0) := by
          intro e
          refine none (L.getD k 0) s7 e.symm ?_
          rw [e, Nat.sub_self, Nat.pow_zero, Nat.div_one]
        refine br_f zx_n3' (nm_r (nI_1 _) ?_)
        exact ih k (b + 1) a_back (by omega) (Or.inr ⟨hkl, by omega⟩) hk
      · have eb : b + 1 = B (L.getD k 0) := by
          by_cases c : b + 1 = B (L.getD k 0)
          · exact c
          · exact absurd hsc (zc_pf hs (by omega) (by omega) hsb)
        have es : s = L.getD k 0 := by
          rw [eb, Nat.sub_self, Nat.pow_zero, Nat.div_one] at hsc
          exact zc_inj s7 hs b1 (by omega) hsc
        refine br_t (nI_pos' (by omega)) ⟨vp_in_nI (by omega) (by omega), ?_⟩
        rw [nI_clamp (n := k) (by omega), zx_nb8 (x := s) (by omega)]
        refine nm_e (nm_r (nI_1 k) (nm_r (nI_1 _) ?_))
        have eo : zx_off B L k + b + 1 = zx_off B L (k + 1) + 0 := by rw [zx_off_s]; omega
        have e0 : zc_cd B (L.getD (k + 1) 0) / 2 ^ (B (L.getD (k + 1) 0) - 0) = 0 ∨ k + 1 = L.length := by
          by_cases c : k + 1 = L.length
          · exact Or.inr c
          · have m' := zr_mem (L := L) (i := k + 1) (by omega)
            exact Or.inl (Nat.div_eq_of_lt (zc_lt h6 hK (h7 _ m') (h1 _ m')))
        have bk : ∀ i, i < k + 1 → upd a_back k (nI s) i = nI (L.getD i 0) := by
          intro i hi
          by_cases c : i = k
          · subst c; rw [pk_us, es]
          · rw [pk_un c]; exact hk i (by omega)
        rw [eo]
        rcases e0 with e0 | e0
        · have nx := ih (k + 1) 0 (upd a_back k (nI s)) (by omega) (by
            by_cases c : k + 1 = L.length
            · exact Or.inl ⟨c, rfl⟩
            · exact Or.inr ⟨by omega, h1 _ (zr_mem (by omega))⟩) bk
          rw [e0] at nx
          exact nx
        · cases f with
          | zero => omega
          | succ f =>
            rw [wX_readSymbols_9, e0, Nat.add_zero]
            exact br_t (nI_le (Nat.le_refl _) (by omega)) (K _ (by rw [e0] at bk; exact bk))
theorem zx_rs {L : List Nat} {B : Nat → Nat} (hL : L.length ≤ 32) (h7 : ∀ x, x ∈ L → x < 7) (h6 : ∀ s, s < 7 → B s ≤ 6) (h1 : ∀ x, x ∈ L → 1 ≤ B x) (hK : zc_K B ≤ 64) (hB : ∀ s, s < 7 → a_bitsOf s = nI (B s)) (hC : ∀ u, u < 7 → 1 ≤ B u → a_codeOf u = nI (zc_cd B u)) (hQ : zx_Q B L L.length a_stream)
    (K : ∀ a_back : Nat → Int32, zr_ho L a_back → post (nI L.length) (f_length, f_coded, f_markAt, f_symbolCount, (nI (zx_off B L L.length)), a_text, a_order, a_classOf, a_nextClass, a_columnOf, a_ranks, a_symbolList, a_row, a_weight, a_group, a_bitsOf, a_codeOf, a_stream, a_back, a_stepTo)) : wpX_readSymbols post (f_length, f_coded, f_markAt, f_symbolCount, (nI (zx_off B L L.length)), a_text, a_order, a_classOf, a_nextClass, a_columnOf, a_ranks, a_symbolList, a_row, a_weight, a_group, a_bitsOf, a_codeOf, a_stream, a_back, a_stepTo) := by
  unfold wpX_readSymbols
  dsimp only
  by_cases e : L.length = 0
  · refine ⟨1, ?_⟩
    have z : zx_off B L L.length = 0 := by rw [e]; rfl
    rw [z] at K ⊢
    rw [wX_readSymbols_9]
    have k := K a_back (fun i hi => absurd hi (by omega))
    rw [e] at k
    exact br_t (by decide) k
  · have m := zr_mem (L := L) (i := 0) (by omega)
    have w := zx_rs9 (post := post) (f_length := f_length) (f_coded := f_coded) (f_markAt := f_markAt) (f_symbolCount := f_symbolCount) (a_text := a_text) (a_order := a_order) (a_classOf := a_classOf) (a_nextClass := a_nextClass) (a_columnOf := a_columnOf) (a_ranks := a_ranks) (a_symbolList := a_symbolList) (a_row := a_row) (a_weight := a_weight) (a_group := a_group) (a_bitsOf := a_bitsOf) (a_codeOf := a_codeOf) (a_stream := a_stream) (a_stepTo := a_stepTo) hL h7 h6 h1 hK hB hC hQ K (zx_off B L L.length + 1) 0 0 a_back (by omega) (Or.inr ⟨by omega, h1 _ m⟩) (fun i hi => absurd hi (by omega))
    have e0 : zc_cd B (L.getD 0 0) / 2 ^ (B (L.getD 0 0) - 0) = 0 := Nat.div_eq_of_lt (zc_lt h6 hK (h7 _ m) (h1 _ m))
    have e1 : zx_off B L 0 + 0 = 0 := rfl
    rw [e0, e1] at w
    exact ⟨_, w⟩
/-! the runs undone -/
theorem zr_drop {L : List Nat} {k : Nat} (h : k < L.length) : L.drop k = L.getD k 0 :: L.drop (k + 1) := by
  rw [List.drop_eq_getElem_cons h, List.getD_eq_getElem?_getD, List.getElem?_eq_getElem h]; rfl
theorem zx_ur58 {J7 : zx_J3} {x1 x3 x4 : Int32} {z : Nat} {D : List Nat} (hD : D.length + z ≤ 32) (K : ∀ a_stepTo : Nat → Int32, zr_ho (D ++ List.replicate z 0) a_stepTo → J7 (nI (D.length + z)) (x3 * 2) (x4 + 1) a_text a_order a_classOf a_nextClass a_columnOf a_ranks a_symbolList a_row a_weight a_group a_bitsOf a_codeOf a_stream a_back a_stepTo) :
    ∀ (f i : Nat) (a_stepTo : Nat → Int32), i ≤ z → z - i < f → zr_ho (D ++ List.replicate i 0) a_stepTo → wX_undoRuns_58 post J7 x1 (nI D.length) x3 x4 (nI z) f_length f_coded f_markAt f_symbolCount f_bitCount f (nI i) a_text a_order a_classOf a_nextClass a_columnOf a_ranks a_symbolList a_row a_weight a_group a_bitsOf a_codeOf a_stream a_back a_stepTo := by
  intro f
  induction f with
  | zero => intro i a_stepTo hi hf h; omega
  | succ f ih =>
    intro i a_stepTo hi hf h
    rw [wX_undoRuns_58]
    refine ek_if (nI_leI (by omega) (by omega)) (fun e => ?_) (fun e => ?_)
    · have : i = z := by omega
      subst this
      exact nm_r (nI_add _ _) (nm_e (nm_e (K a_stepTo h)))
    · have nb0 : vp_nar .byte 0 = nI 0 := zx_nb (x := 0) (by omega)
      rw [nI_add, nI_clamp (n := D.length + i) (by omega), nb0]
      have h' := zr_ho1 0 h
      have el : (D ++ List.replicate i 0).length = D.length + i := by rw [List.length_append, List.length_replicate]
      rw [el, List.append_assoc, ← List.replicate_succ'] at h'
      exact ⟨vp_in_nI (by omega) (by omega), nm_e (nm_r (nI_1 i) (ih (i + 1) _ (by omega) (by omega) h'))⟩
theorem zx_ur7 {L T : List Nat} (hL : L.length ≤ 32) (hT : T.length ≤ 32) (h7 : ∀ x, x ∈ L → x < 7) (hS : zr_ho L a_back) (K : ∀ a_stepTo : Nat → Int32, zr_ho T a_stepTo → post (nI T.length) (f_length, f_coded, f_markAt, f_symbolCount, f_bitCount, a_text, a_order, a_classOf, a_nextClass, a_columnOf, a_ranks, a_symbolList, a_row, a_weight, a_group, a_bitsOf, a_codeOf, a_stream, a_back, a_stepTo)) :
    ∀ (f k w : Nat) (D : List Nat) (a_stepTo : Nat → Int32), k ≤ L.length → L.length - k < f → 1 ≤ w → D ++ zr_ud w (L.drop k) = T → zr_ho D a_stepTo → wX_undoRuns_7 post (nI L.length) f_length f_coded f_markAt f_symbolCount f_bitCount f (nI D.length) (nI w) (nI k) a_text a_order a_classOf a_nextClass a_columnOf a_ranks a_symbolList a_row a_weight a_group a_bitsOf a_codeOf a_stream a_back a_stepTo := by
  intro f
  induction f with
  | zero => intro k w D a_stepTo hk hf; omega
  | succ f ih =>
    intro k w D a_stepTo hk hf hw hD h
    rw [wX_undoRuns_7]
    refine ek_if (nI_leI (by omega) (by omega)) (fun e => ?_) (fun e => ?_)
    · have ek : k = L.length := by omega
      subst ek
      rw [List.drop_length, zr_ud_n, List.append_nil] at hD
      subst hD
      exact K a_stepTo h
    · have hk' : k < L.length := by omega
      have s7 := h7 _ (zr_mem hk')
      rw [nI_clamp (n := k) (by omega), hS k hk']
      refine ⟨vp_in_nI (by omega) (by omega), nm_e (ek_if (nI_leI (b := 1) (by omega) (by omega)) (fun e2 => ?_) (fun e2 => ?_))⟩
      · rw [zr_drop hk', zr_ud_z e2, ← List.append_assoc] at hD
        have len : D.length + w * (L.getD k 0 + 1) ≤ 32 := by
          have := congrArg List.length hD
          rw [List.length_append, List.length_append, List.length_replicate] at this
          omega
        have e6 : nI w * (nI (L.getD k 0) + 1) = nI (w * (L.getD k 0 + 1)) := by rw [nI_1, pk_mul]
        refine nm_r e6 ⟨w * (L.getD k 0 + 1) + 1, ?_⟩
        have u := zx_ur58 (post := post) (J7 := wX_undoRuns_7 post (nI L.length) f_length f_coded f_markAt f_symbolCount f_bitCount f) (x1 := nI L.length) (x3 := nI w) (x4 := nI k) (z := w * (L.getD k 0 + 1)) (D := D) (f_length := f_length) (f_coded := f_coded) (f_markAt := f_markAt) (f_symbolCount := f_symbolCount) (f_bitCount := f_bitCount) (a_text := a_text) (a_order := a_order) (a_classOf := a_classOf) (a_nextClass := a_nextClass) (a_columnOf := a_columnOf) (a_ranks := a_ranks) (a_symbolList := a_symbolList) (a_row := a_row) (a_weight := a_weight) (a_group := a_group) (a_bitsOf := a_bitsOf) (a_codeOf := a_codeOf) (a_stream := a_stream) (a_back := a_back) len (fun a_stepTo h' => ?_) (w * (L.getD k 0 + 1) + 1) 0 a_stepTo (by omega) (by omega) (by rw [List.replicate_zero, List.append_nil]; exact h)
        · rw [nI_0] at u
          exact u
        · have el : (D ++ List.replicate (w * (L.getD k 0 + 1)) 0).length = D.length + w * (L.getD k 0 + 1) := by rw [List.length_append, List.length_replicate]
          have e3 : nI w * 2 = nI (w * 2) := pk_mul w 2
          rw [e3, nI_1, ← el]
          exact ih (k + 1) (w * 2) _ a_stepTo (by omega) (by omega) (by omega) hD h'
      · rw [zr_drop hk', zr_ud_r e2] at hD
        have len : D.length + 1 ≤ 32 := by
          have := congrArg List.length hD
          rw [List.length_append, List.length_cons] at this
          omega
        have es : nI (L.getD k 0) - 1 = nI (L.getD k 0 - 1) := pk_sub (b := 1) (by omega)
        rw [nI_clamp (n := D.length) (by omega), es, zx_nb8 (x := L.getD k 0 - 1) (by omega)]
        have el : (D ++ [L.getD k 0 - 1]).length = D.length + 1 := by rw [List.length_append, List.length_singleton]
        have nx := ih (k + 1) 1 (D ++ [L.getD k 0 - 1]) _ (by omega) (by omega) (by omega) (by rw [List.append_assoc, List.singleton_append]; exact hD) (zr_ho1 (L.getD k 0 - 1) h)
        rw [el] at nx
        exact ⟨vp_in_nI (by omega) (by omega), nm_e (nm_r (nI_1 _) (nm_r (nI_1 k) nx))⟩
theorem zx_ur {L T : List Nat} (hL : L.length ≤ 32) (hT : T.length ≤ 32) (h7 : ∀ x, x ∈ L → x < 7) (hS : zr_ho L a_back) (hu : zr_ud 1 L = T) (K : ∀ a_stepTo : Nat → Int32, zr_ho T a_stepTo → post (nI T.length) (f_length, f_coded, f_markAt, f_symbolCount, f_bitCount, a_text, a_order, a_classOf, a_nextClass, a_columnOf, a_ranks, a_symbolList, a_row, a_weight, a_group, a_bitsOf, a_codeOf, a_stream, a_back, a_stepTo)) : wpX_undoRuns post (f_length, f_coded, f_markAt, f_symbolCount, f_bitCount, a_text, a_order, a_classOf, a_nextClass, a_columnOf, a_ranks, a_symbolList, a_row, a_weight, a_group, a_bitsOf, a_codeOf, a_stream, a_back, a_stepTo) (nI L.length) := by
  unfold wpX_undoRuns
  dsimp only
  exact ⟨L.length + 1, zx_ur7 hL hT h7 hS K (L.length + 1) 0 1 [] a_stepTo (by omega) (by omega) (by omega) hu (zr_ho0 _)⟩
end ZXD
end
section
section ZXU
/-! where the sorted first letters stand -/
def zb_to (n : Nat) (C : Nat → Nat) (l k : Nat) : Nat := zs_sm (fun q => if C q < l ∨ (C q = l ∧ q < k) then 1 else 0) n
theorem zb_to_0 (n : Nat) (C : Nat → Nat) : zb_to n C 0 0 = 0 := zs_zero (fun q _ => if_neg (by omega))
theorem zb_to_l (n : Nat) (C : Nat → Nat) (l : Nat) : zb_to n C (l + 1) 0 = zb_to n C l n := by
  refine zs_congr (fun q hq => ?_)
  by_cases c : C q ≤ l
  · rw [if_pos (by omega), if_pos (by omega)]
  · rw [if_neg (by omega), if_neg (by omega)]
theorem zb_to_n {n : Nat} {C : Nat → Nat} {l k : Nat} (h : C k ≠ l) : zb_to n C l (k + 1) = zb_to n C l k := by
  refine zs_congr (fun q hq => ?_)
  by_cases c : C q < l ∨ (C q = l ∧ q < k)
  · rw [if_pos c, if_pos (by omega)]
  · rw [if_neg c, if_neg (by
      intro d
      apply c
      rcases d with d | d
      · exact Or.inl d
      · refine Or.inr ⟨d.1, ?_⟩
        have : q ≠ k := fun x => h (by rw [← x]; exact d.1)
        omega)]
theorem zb_to_s {n : Nat} {C : Nat → Nat} {l k : Nat} (hk : k < n) (h : C k = l) : zb_to n C l (k + 1) = zb_to n C l k + 1 := by
  have u := zs_upd (f := fun q => if C q < l ∨ (C q = l ∧ q < k) then 1 else 0) (g := fun q => if C q < l ∨ (C q = l ∧ q < k + 1) then 1 else 0) hk (fun i hi hn => by
    show (if _ then _ else _) = (if _ then _ else _)
    by_cases c : C i < l ∨ (C i = l ∧ i < k)
    · rw [if_pos c, if_pos (by omega)]
    · rw [if_neg c, if_neg (by omega)])
  rw [if_neg (by omega), if_pos (by omega)] at u
  exact u
theorem zb_to_lam {n : Nat} (C : Nat → Nat) {k : Nat} (hn : n ≤ 32) (hk : k < n) : zb_to n C (C k) k = zb_lam n C k := by
  refine zs_congr (fun q hq => ?_)
  unfold zb_g
  by_cases c : C q < C k ∨ (C q = C k ∧ q < k)
  · rw [if_pos c, if_pos (by omega)]
  · rw [if_neg c, if_neg (by omega)]
variable {n : Nat} {t : Nat → Nat} {post : SX → Prop} {f_length f_coded f_markAt f_symbolCount f_bitCount : Int32} {a_text a_order a_classOf a_nextClass a_columnOf a_ranks a_symbolList a_row a_weight a_group a_bitsOf a_codeOf a_back a_stepTo : Nat → Int32} {a_stream : Nat → Int64}
theorem zx_uk6 {C : Nat → Nat} (hn : n ≤ 32) (hC : ∀ k, k < n → C k < 6) (hS : ∀ k, k < n → a_stepTo k = nI (zm_rk C k)) (K : ∀ a_row a_back : Nat → Int32, (∀ k, k < n → a_back k = nI (C k)) → post (f_length, f_coded, f_markAt, f_symbolCount, f_bitCount, a_text, a_order, a_classOf, a_nextClass, a_columnOf, a_ranks, a_symbolList, a_row, a_weight, a_group, a_bitsOf, a_codeOf, a_stream, a_back, a_stepTo)) :
    ∀ (f k : Nat) (a_row a_back : Nat → Int32), k ≤ n → n - k < f → (∀ j, j < k → a_back j = nI (C j)) → (∀ j, j < 6 → a_row j = nI (zm_row C k j)) → wX_undoRanks_6 post (nI n) f (nI k) f_length f_coded f_markAt f_symbolCount f_bitCount a_text a_order a_classOf a_nextClass a_columnOf a_ranks a_symbolList a_row a_weight a_group a_bitsOf a_codeOf a_stream a_back a_stepTo := by
  intro f
  induction f with
  | zero => intro k a_row a_back hk hf h1 h2; omega
  | succ f ih =>
    intro k a_row a_back hk hf h1 h2
    rw [wX_undoRanks_6]
    refine ek_if (nI_leI (by omega) (by omega)) (fun e => K a_row a_back (fun j hj => h1 j (by omega))) (fun e => ?_)
    have pm := zm_pm hC k (by omega)
    have r6 := zm_rk6 hC (k := k) (by omega)
    have c6 := hC k (by omega)
    rw [nI_clamp (n := k) (by omega), hS k (by omega)]
    refine ⟨vp_in_nI (by omega) (by omega), nm_e ⟨vp_in_nI r6 (by omega), vp_in_nI (by omega) (by omega), ?_⟩⟩
    rw [nI_clamp (n := zm_rk C k) (by omega), h2 _ r6, zm_rk_r hC (by omega), zx_nb (x := C k) (by omega)]
    refine nm_e (zx_front r6 pm.1 h2 (fun a_row h => ?_))
    refine nm_r (nI_1 k) (ih (k + 1) a_row _ (by omega) (by omega) (fun j hj => ?_) h)
    by_cases e2 : j = k
    · subst e2; rw [pk_us]
    · rw [pk_un e2]; exact h1 j (by omega)
theorem zx_uk {C : Nat → Nat} (hn : n ≤ 32) (hC : ∀ k, k < n → C k < 6) (hS : ∀ k, k < n → a_stepTo k = nI (zm_rk C k)) (K : ∀ a_row a_back : Nat → Int32, (∀ k, k < n → a_back k = nI (C k)) → post (f_length, f_coded, f_markAt, f_symbolCount, f_bitCount, a_text, a_order, a_classOf, a_nextClass, a_columnOf, a_ranks, a_symbolList, a_row, a_weight, a_group, a_bitsOf, a_codeOf, a_stream, a_back, a_stepTo)) : wpX_undoRanks post (f_length, f_coded, f_markAt, f_symbolCount, f_bitCount, a_text, a_order, a_classOf, a_nextClass, a_columnOf, a_ranks, a_symbolList, a_row, a_weight, a_group, a_bitsOf, a_codeOf, a_stream, a_back, a_stepTo) (nI n) := by
  unfold wpX_undoRanks
  dsimp only
  refine zx_reset (fun a_row h => ?_)
  exact ⟨n + 1, zx_uk6 hn hC hS K (n + 1) 0 a_row a_back (by omega) (by omega) (fun j hj => absurd hj (by omega)) h⟩
theorem zx_us90 (hn : n ≤ 32) (ht : ∀ i, i < n → t i < 6) (hN : ∀ k, k < n → a_nextClass k = nI (zk_col n t k)) (hS : ∀ j, j < n → a_stepTo j = nI (zb_sg n (zk_col n t) j))
    (K : ∀ a_back : Nat → Int32, (∀ k, k < n → a_back k = nI (t k)) → post (f_length, f_coded, (nI (zk_pl n t 0)), f_symbolCount, f_bitCount, a_text, a_order, a_classOf, a_nextClass, a_columnOf, a_ranks, a_symbolList, a_row, a_weight, a_group, a_bitsOf, a_codeOf, a_stream, a_back, a_stepTo)) :
    ∀ (f k j : Nat) (a_back : Nat → Int32), k ≤ n → n - k < f → j < n → (∀ i, zk_R n t (zk_ord n t j) i = zk_R n t k i) → (∀ i, i < k → a_back i = nI (t i)) → wX_undoSorting_90 post (nI n) f_length f_coded (nI (zk_pl n t 0)) f_symbolCount f_bitCount f (nI j) (nI k) a_text a_order a_classOf a_nextClass a_columnOf a_ranks a_symbolList a_row a_weight a_group a_bitsOf a_codeOf a_stream a_back a_stepTo := by
  intro f
  induction f with
  | zero => intro k j a_back hk hf; omega
  | succ f ih =>
    intro k j a_back hk hf hj hR h
    rw [wX_undoSorting_90]
    refine ek_if (nI_leI (by omega) (by omega)) (fun e => K a_back (fun i hi => h i (by omega))) (fun e => ?_)
    obtain ⟨s1, s2, s3⟩ := zb_step hn ht hj (k := k) (by omega) hR
    have t6 := ht k (by omega)
    rw [nI_clamp (n := j) (by omega), hS j hj]
    refine ⟨vp_in_nI (by omega) (by omega), nm_e ⟨vp_in_nI (by omega) (by omega), vp_in_nI (by omega) (by omega), ?_⟩⟩
    rw [nI_clamp (n := zb_sg n (zk_col n t) j) (by omega), nI_clamp (n := k) (by omega), hN _ s1, s2, zx_nb (x := t k) (by omega)]
    refine nm_e (nm_r (nI_1 k) (ih (k + 1) _ _ (by omega) (by omega) s1 s3 (fun i hi => ?_)))
    by_cases e2 : i = k
    · subst e2; rw [pk_us]
    · rw [pk_un e2]; exact h i (by omega)
theorem zx_us59 (h0 : 0 < n) (hn : n ≤ 32) (ht : ∀ i, i < n → t i < 6) (hB : ∀ k, k < n → a_back k = nI (zk_col n t k)) (hS : ∀ j, j < n → a_stepTo j = nI (zb_sg n (zk_col n t) j))
    (K : ∀ a_nextClass a_back : Nat → Int32, (∀ k, k < n → a_back k = nI (t k)) → post (f_length, f_coded, (nI (zk_pl n t 0)), f_symbolCount, f_bitCount, a_text, a_order, a_classOf, a_nextClass, a_columnOf, a_ranks, a_symbolList, a_row, a_weight, a_group, a_bitsOf, a_codeOf, a_stream, a_back, a_stepTo)) :
    ∀ (f k : Nat) (a_nextClass : Nat → Int32), k ≤ n → n - k < f → (∀ i, i < k → a_nextClass i = nI (zk_col n t i)) → wX_undoSorting_59 post (nI n) f_length f_coded (nI (zk_pl n t 0)) f_symbolCount f_bitCount f (nI k) a_text a_order a_classOf a_nextClass a_columnOf a_ranks a_symbolList a_row a_weight a_group a_bitsOf a_codeOf a_stream a_back a_stepTo := by
  intro f
  induction f with
  | zero => intro k a_nextClass hk hf; omega
  | succ f ih =>
    intro k a_nextClass hk hf h
    rw [wX_undoSorting_59]
    refine ek_if (nI_leI (by omega) (by omega)) (fun e => ⟨n + 1, ?_⟩) (fun e => ?_)
    · exact zx_us90 hn ht (fun i hi => h i (by omega)) hS (K a_nextClass) (n + 1) 0 (zk_pl n t 0) a_back (by omega) (by omega) ((zk_pl_pm hn).1 0 h0) (fun i => by rw [zk_ord_pl hn h0]) (fun i hi => absurd hi (by omega))
    · have c6 := zk_col6 ht hn (k := k) (by omega)
      rw [nI_clamp (n := k) (by omega), hB k (by omega), zx_nb (x := zk_col n t k) (by omega)]
      refine ⟨vp_in_nI (by omega) (by omega), vp_in_nI (by omega) (by omega), nm_e (nm_r (nI_1 k) (ih (k + 1) _ (by omega) (by omega) (fun i hi => ?_)))⟩
      by_cases e2 : i = k
      · subst e2; rw [pk_us]
      · rw [pk_un e2]; exact h i (by omega)
theorem zx_us13 {J4 : zx_J2} {C : Nat → Nat} {l : Nat} (hn : n ≤ 32) (hC : ∀ k, k < n → C k < 6) (hl : l < 6) (hB : ∀ k, k < n → a_back k = nI (C k))
    (K : ∀ a_stepTo : Nat → Int32, (∀ q, q < n → C q < l + 1 → a_stepTo (zb_lam n C q) = nI q) → J4 (nI (zb_to n C (l + 1) 0)) (nI (l + 1)) a_text a_order a_classOf a_nextClass a_columnOf a_ranks a_symbolList a_row a_weight a_group a_bitsOf a_codeOf a_stream a_back a_stepTo) :
    ∀ (f k : Nat) (a_stepTo : Nat → Int32), k ≤ n → n - k < f → (∀ q, q < n → (C q < l ∨ (C q = l ∧ q < k)) → a_stepTo (zb_lam n C q) = nI q) → wX_undoSorting_13 post J4 (nI n) (nI l) f_length f_coded (nI (zk_pl n t 0)) f_symbolCount f_bitCount f (nI (zb_to n C l k)) (nI k) a_text a_order a_classOf a_nextClass a_columnOf a_ranks a_symbolList a_row a_weight a_group a_bitsOf a_codeOf a_stream a_back a_stepTo := by
  intro f
  induction f with
  | zero => intro k a_stepTo hk hf; omega
  | succ f ih =>
    intro k a_stepTo hk hf h
    rw [wX_undoSorting_13]
    refine ek_if (nI_leI (by omega) (by omega)) (fun e => ?_) (fun e => ?_)
    · have : k = n := by omega
      subst this
      have k' := K a_stepTo (fun q hq hc => h q hq (by omega))
      rw [zb_to_l] at k'
      exact nm_r (nI_1 l) k'
    · have hk' : k < n := by omega
      have c6 := hC k hk'
      rw [nI_clamp (n := k) (by omega), hB k hk']
      refine ⟨vp_in_nI (by omega) (by omega), ek_if (nI_eq (by omega) (by omega)) (fun e2 => ?_) (fun e2 => ?_)⟩
      · have el : zb_to n C l k = zb_lam n C k := by rw [← e2]; exact zb_to_lam C hn hk'
        have pm := zb_lam_pm hn C
        have lk := pm.1 k hk'
        have nx := ih (k + 1) (upd a_stepTo (zb_lam n C k) (nI k)) (by omega) (by omega) (fun q hq hc => by
          by_cases e3 : q = k
          · subst e3; rw [pk_us]
          · have : zb_lam n C q ≠ zb_lam n C k := fun x => e3 (pm.2 q k hq hk' x)
            rw [pk_un this]; exact h q hq (by omega))
        rw [zb_to_s hk' e2] at nx
        rw [nI_clamp (n := zb_to n C l k) (by omega), zx_nb8 (x := k) (by omega)]
        rw [el] at nx ⊢
        exact ⟨vp_in_nI (by omega) (by omega), nm_e (nm_r (nI_1 _) (nm_r (nI_1 k) nx))⟩
      · have nx := ih (k + 1) a_stepTo (by omega) (by omega) (fun q hq hc => by
          refine h q hq ?_
          by_cases e3 : q = k
          · subst e3; omega
          · omega)
        rw [zb_to_n e2] at nx
        exact nm_r (nI_1 k) nx
theorem zx_us4 (h0 : 0 < n) (hn : n ≤ 32) (ht : ∀ i, i < n → t i < 6) (hB : ∀ k, k < n → a_back k = nI (zk_col n t k))
    (K : ∀ a_nextClass a_back a_stepTo : Nat → Int32, (∀ k, k < n → a_back k = nI (t k)) → post (f_length, f_coded, (nI (zk_pl n t 0)), f_symbolCount, f_bitCount, a_text, a_order, a_classOf, a_nextClass, a_columnOf, a_ranks, a_symbolList, a_row, a_weight, a_group, a_bitsOf, a_codeOf, a_stream, a_back, a_stepTo)) :
    ∀ (f l : Nat) (a_stepTo : Nat → Int32), l ≤ 6 → 6 - l < f → (∀ q, q < n → zk_col n t q < l → a_stepTo (zb_lam n (zk_col n t) q) = nI q) → wX_undoSorting_4 post (nI n) f_length f_coded (nI (zk_pl n t 0)) f_symbolCount f_bitCount f (nI (zb_to n (zk_col n t) l 0)) (nI l) a_text a_order a_classOf a_nextClass a_columnOf a_ranks a_symbolList a_row a_weight a_group a_bitsOf a_codeOf a_stream a_back a_stepTo := by
  intro f
  induction f with
  | zero => intro l a_stepTo hl hf; omega
  | succ f ih =>
    intro l a_stepTo hl hf h
    rw [wX_undoSorting_4]
    refine ek_if (nI_leI (a := 6) (by omega) (by omega)) (fun e => ⟨n + 1, ?_⟩) (fun e => ⟨n + 1, ?_⟩)
    · refine zx_us59 h0 hn ht hB (fun j hj => ?_) (fun a_nextClass a_back => K a_nextClass a_back a_stepTo) (n + 1) 0 a_nextClass (by omega) (by omega) (fun i hi => absurd hi (by omega))
      have iv := zp_iv_r (zb_lam_pm hn (zk_col n t)) hj
      have a := h (zb_sg n (zk_col n t) j) iv.1 (by have := zk_col6 ht hn iv.1; unfold zb_sg; omega)
      have b : zb_lam n (zk_col n t) (zb_sg n (zk_col n t) j) = j := iv.2
      rw [b] at a
      exact a
    · exact zx_us13 hn (fun k hk => zk_col6 ht hn hk) (by omega) hB (fun a_stepTo h' => ih (l + 1) a_stepTo (by omega) (by omega) h') (n + 1) 0 a_stepTo (by omega) (by omega) (fun q hq hc => h q hq (by omega))
theorem zx_us (h0 : 0 < n) (hn : n ≤ 32) (ht : ∀ i, i < n → t i < 6) (hB : ∀ k, k < n → a_back k = nI (zk_col n t k))
    (K : ∀ a_nextClass a_back a_stepTo : Nat → Int32, (∀ k, k < n → a_back k = nI (t k)) → post (f_length, f_coded, (nI (zk_pl n t 0)), f_symbolCount, f_bitCount, a_text, a_order, a_classOf, a_nextClass, a_columnOf, a_ranks, a_symbolList, a_row, a_weight, a_group, a_bitsOf, a_codeOf, a_stream, a_back, a_stepTo)) : wpX_undoSorting post (f_length, f_coded, (nI (zk_pl n t 0)), f_symbolCount, f_bitCount, a_text, a_order, a_classOf, a_nextClass, a_columnOf, a_ranks, a_symbolList, a_row, a_weight, a_group, a_bitsOf, a_codeOf, a_stream, a_back, a_stepTo) (nI n) := by
  unfold wpX_undoSorting
  dsimp only
  have w := zx_us4 (post := post) (f_length := f_length) (f_coded := f_coded) (f_symbolCount := f_symbolCount) (f_bitCount := f_bitCount) (a_text := a_text) (a_order := a_order) (a_classOf := a_classOf) (a_nextClass := a_nextClass) (a_columnOf := a_columnOf) (a_ranks := a_ranks) (a_symbolList := a_symbolList) (a_row := a_row) (a_weight := a_weight) (a_group := a_group) (a_bitsOf := a_bitsOf) (a_codeOf := a_codeOf) (a_stream := a_stream) (a_back := a_back) h0 hn ht hB K 7 0 a_stepTo (by omega) (by omega) (fun q hq hc => absurd hc (by omega))
  rw [zb_to_0] at w
  exact ⟨7, w⟩
/-- all of the decoding -/
theorem zx_dec {q : Int32 → SX → Prop} {i : Nat} (hi : i < n) (hn : n ≤ 32) (ht : ∀ i, i < n → t i < 6) (hT : ∀ i, i < n → a_text i = nI (t i)) (hc : f_coded = 0 ∨ (f_coded = 1 ∧ zx_Cd n t f_markAt f_symbolCount f_bitCount a_columnOf a_ranks a_symbolList a_bitsOf a_codeOf a_stream))
    (K : ∀ (f_markAt f_symbolCount f_bitCount : Int32) (a_order a_classOf a_nextClass a_columnOf a_ranks a_symbolList a_row a_weight a_group a_bitsOf a_codeOf a_back a_stepTo : Nat → Int32) (a_stream : Nat → Int64), zx_Cd n t f_markAt f_symbolCount f_bitCount a_columnOf a_ranks a_symbolList a_bitsOf a_codeOf a_stream → q (nI (t i)) ((nI n), 1, f_markAt, f_symbolCount, f_bitCount, a_text, a_order, a_classOf, a_nextClass, a_columnOf, a_ranks, a_symbolList, a_row, a_weight, a_group, a_bitsOf, a_codeOf, a_stream, a_back, a_stepTo)) : wpX_decoded q ((nI n), f_coded, f_markAt, f_symbolCount, f_bitCount, a_text, a_order, a_classOf, a_nextClass, a_columnOf, a_ranks, a_symbolList, a_row, a_weight, a_group, a_bitsOf, a_codeOf, a_stream, a_back, a_stepTo) (nI i) := by
  unfold wpX_decoded
  dsimp only
  refine br_f (nI_pos (by omega)) (br_t (nI_lt hi (by omega)) ?_)
  refine zx_code hn ht hT hc (fun f_markAt f_symbolCount f_bitCount a_order a_classOf a_nextClass a_columnOf a_ranks a_symbolList a_row a_weight a_group a_bitsOf a_codeOf a_stream hCd => ?_)
  obtain ⟨hM, hcol, hR, rfl, hS, B, hF, rfl, hB, hC, hQ⟩ := id hCd
  have eM := hM (by omega)
  subst eM
  refine zx_rs (L := zx_S n t) (B := B) (zx_S_len hn) (zx_S_7 hn ht) (zh_F6 hF) (zh_F1 hF (zx_S_7 hn ht)) (zh_FK hF) hB hC hQ (fun a_back hb => ?_)
  refine zx_ur (L := zx_S n t) (T := zr_T (zm_rk (zk_col n t)) n) (zx_S_len hn) (by rw [zr_T_len]; exact hn) (zx_S_7 hn ht) hb (zr_ud_sy _ hn) (fun a_stepTo hst => ?_)
  have hst' : ∀ k, k < n → a_stepTo k = nI (zm_rk (zk_col n t) k) := fun k hk => by rw [hst k (by rw [zr_T_len]; exact hk), zr_T_get _ n k hk]
  rw [zr_T_len]
  refine zx_uk hn (fun k hk => zk_col6 ht hn hk) hst' (fun a_row a_back hbk => ?_)
  refine zx_us (by omega) hn ht hbk (fun a_nextClass a_back a_stepTo hbk => ?_)
  show vp_in (nI i) 32 ∧ q (a_back (nI i).toNatClampNeg) ((nI n), 1, (nI (zk_pl n t 0)), (nI (zx_S n t).length), (nI (zx_off B (zx_S n t) (zx_S n t).length)), a_text, a_order, a_classOf, a_nextClass, a_columnOf, a_ranks, a_symbolList, a_row, a_weight, a_group, a_bitsOf, a_codeOf, a_stream, a_back, a_stepTo)
  rw [nI_clamp (n := i) (by omega), hbk i hi]
  exact ⟨vp_in_nI (by omega) (by omega), K _ _ _ _ _ _ _ _ _ _ _ _ _ _ _ _ _ hCd⟩
end ZXU
end
section
section ZY
abbrev zy_A : Type := (Nat → Int32) → (Nat → Int32) → (Nat → Int32) → (Nat → Int32) → (Nat → Int32) → (Nat → Int32) → (Nat → Int32) → Prop
abbrev zy_J1 : Type := Int32 → zy_A
abbrev zy_J2 : Type := Int32 → Int32 → zy_A
abbrev zy_J5 : Type := Int32 → Int32 → Int32 → Int32 → Int32 → zy_A
abbrev zy_J6 : Type := Int32 → Int32 → Int32 → Int32 → Int32 → Int32 → zy_A
variable {n : Nat} {t : Nat → Nat} {post : SY → Prop} {f_count f_mark : Int32} {a_text a_column a_ranks a_symbols a_row a_often a_length : Nat → Int32}
theorem zy_ix {F : Int32 → Prop} {p k : Nat} (hn : n ≤ 32) (hp : p < n) (hk : k < n) (h : F (nI ((p + k) % n))) : (nI n ≤ nI p + nI k → F (((nI p + nI k) - nI n) &&& 31)) ∧ (¬ nI n ≤ nI p + nI k → F (nI p + nI k)) := by
  rw [nI_add]
  refine ek_if (nI_leI (by omega) (by omega)) (fun e => ?_) (fun e => ?_)
  · rw [pk_sub e, pk_andN (by omega) 5 (by decide)]
    have e1 : (p + k - n) % 2 ^ 5 = (p + k) % n := by
      rw [Nat.mod_eq_sub_mod e, Nat.mod_eq_of_lt (a := p + k - n) (b := n) (by omega), Nat.mod_eq_of_lt (by omega)]
    rw [e1]; exact h
  · rw [Nat.mod_eq_of_lt (by omega)] at h
    exact h
theorem zy_bef2 {q : Int32 → Prop} {p1 p2 : Nat} (hn : n ≤ 32) (ht : ∀ i, i < n → t i < 6) (hT : ∀ i, i < n → a_text i = nI (t i)) (h1 : p1 < n) (h2 : p2 < n)
    (K1 : zk_G n t n p1 < zk_G n t n p2 → q 1) (K0 : ¬ zk_G n t n p1 < zk_G n t n p2 → q 0) :
    ∀ (f k : Nat), k ≤ n → n - k < f → zk_K n t p1 k = zk_K n t p2 k → wY_before_2 q (nI p1) (nI p2) (nI n) f_count f_mark a_text a_column a_ranks a_symbols a_row a_often a_length f (nI k) := by
  have h0 : 0 < n := by omega
  unfold zk_G at K1 K0
  intro f
  induction f with
  | zero => intro k hk hf; omega
  | succ f ih =>
    intro k hk hf hK
    rw [wY_before_2]
    refine ek_if (nI_leI (by omega) (by omega)) (fun e => ?_) (fun e => ?_)
    · have : k = n := by omega
      subst this
      exact ek_if (nI_leI (by omega) (by omega)) (fun z => K0 (by omega)) (fun z => K1 (by omega))
    · have m1 := Nat.mod_lt (p1 + k) h0
      have m2 := Nat.mod_lt (p2 + k) h0
      have a6 := ht _ m1
      have b6 := ht _ m2
      have s1 : zk_K n t p1 (k + 1) = zk_K n t p1 k * 6 + t ((p1 + k) % n) := rfl
      have s2 : zk_K n t p2 (k + 1) = zk_K n t p2 k * 6 + t ((p2 + k) % n) := rfl
      refine zy_ix (F := fun z => wY_before_41 q (wY_before_2 q (nI p1) (nI p2) (nI n) f_count f_mark a_text a_column a_ranks a_symbols a_row a_often a_length f) (nI p1) (nI p2) (nI k) z (nI n) f_count f_mark a_text a_column a_ranks a_symbols a_row a_often a_length) hn h1 (by omega) ?_
      unfold wY_before_41
      rw [nI_clamp (n := (p1 + k) % n) (by omega), hT _ m1]
      refine ⟨vp_in_nI (by omega) (by omega), nm_e ?_⟩
      refine zy_ix (F := fun z => wY_before_75 q (wY_before_2 q (nI p1) (nI p2) (nI n) f_count f_mark a_text a_column a_ranks a_symbols a_row a_often a_length f) (nI p1) (nI p2) (nI k) (nI (t ((p1 + k) % n))) z (nI n) f_count f_mark a_text a_column a_ranks a_symbols a_row a_often a_length) hn h2 (by omega) ?_
      unfold wY_before_75
      rw [nI_clamp (n := (p2 + k) % n) (by omega), hT _ m2]
      refine ⟨vp_in_nI (by omega) (by omega), nm_e (ek_if (nI_eq (by omega) (by omega)) (fun e2 => ?_) (fun e2 => ?_))⟩
      · exact nm_r (nI_1 k) (ih (k + 1) (by omega) (by omega) (by rw [s1, s2, hK, e2]))
      · refine ek_if (nI_leI (by omega) (by omega)) (fun e3 => K0 ?_) (fun e3 => K1 ?_)
        · have a := zk_K_mono h0 ht (p := p2) (q := p1) (m := k + 1) (by rw [s1, s2]; omega) (n - (k + 1))
          have e4 : k + 1 + (n - (k + 1)) = n := by omega
          rw [e4] at a
          omega
        · have a := zk_K_mono h0 ht (p := p1) (q := p2) (m := k + 1) (by rw [s1, s2]; omega) (n - (k + 1))
          have e4 : k + 1 + (n - (k + 1)) = n := by omega
          rw [e4] at a
          omega
theorem zy_bef {q : Int32 → Prop} {p1 p2 : Nat} (hn : n ≤ 32) (ht : ∀ i, i < n → t i < 6) (hT : ∀ i, i < n → a_text i = nI (t i)) (h1 : p1 < n) (h2 : p2 < n)
    (K1 : zk_G n t n p1 < zk_G n t n p2 → q 1) (K0 : ¬ zk_G n t n p1 < zk_G n t n p2 → q 0) : wpY_before q ((nI n), f_count, f_mark, a_text, a_column, a_ranks, a_symbols, a_row, a_often, a_length) (nI p1) (nI p2) := by
  unfold wpY_before
  dsimp only
  exact ⟨n + 1, zy_bef2 hn ht hT h1 h2 K1 K0 (n + 1) 0 (by omega) (by omega) rfl⟩
theorem zy_so70 {J2 : zy_J2} {p c : Nat} {z0 : Int32} (hn : n ≤ 32) (hT : ∀ i, i < n → a_text i = nI (t i)) (hp : p < n) (hc : c < n) (hz : z0 = nI (zk_pr n p))
    (K : ∀ f_mark' : Int32, (p = 0 → f_mark' = nI c) → (p ≠ 0 → f_mark' = f_mark) → J2 (nI (p + 1)) f_mark' a_text (upd a_column c (nI (t (zk_pr n p)))) a_ranks a_symbols a_row a_often a_length) : wY_sort_70 post J2 (nI p) (nI c) z0 (nI c) (nI n) f_count f_mark a_text a_column a_ranks a_symbols a_row a_often a_length := by
  have pr := zk_pr_lt hp
  unfold wY_sort_70
  rw [hz, nI_clamp (n := zk_pr n p) (by omega), nI_clamp (n := c) (by omega), hT _ pr]
  refine ⟨vp_in_nI (by omega) (by omega), vp_in_nI (by omega) (by omega), nm_e (ek_if (zx_eq0 (by omega)) (fun e => ?_) (fun e => ?_))⟩
  · exact nm_r (nI_1 p) (K (nI c) (fun _ => rfl) (fun h => absurd e h))
  · exact nm_r (nI_1 p) (K f_mark (fun h => absurd h e) (fun _ => rfl))
theorem zy_so14 {J2 : zy_J2} {p : Nat} (hn : n ≤ 32) (ht : ∀ i, i < n → t i < 6) (hT : ∀ i, i < n → a_text i = nI (t i)) (hp : p < n)
    (K : ∀ f_mark' : Int32, (p = 0 → f_mark' = nI (zk_pl n t p)) → (p ≠ 0 → f_mark' = f_mark) → J2 (nI (p + 1)) f_mark' a_text (upd a_column (zk_pl n t p) (nI (t (zk_pr n p)))) a_ranks a_symbols a_row a_often a_length) :
    ∀ (f q : Nat), q ≤ n → n - q < f → wY_sort_14 post J2 (nI p) (nI n) f_count f_mark a_text a_column a_ranks a_symbols a_row a_often a_length f (nI (zs_sm (fun q => if zk_G n t n q < zk_G n t n p then 1 else 0) q)) (nI q) := by
  intro f
  induction f with
  | zero => intro q hq hf; omega
  | succ f ih =>
    intro q hq hf
    have sb : ∀ q, zs_sm (fun q => if zk_G n t n q < zk_G n t n p then 1 else 0) q ≤ q := by
      intro q
      have := zs_bound (f := fun q => if zk_G n t n q < zk_G n t n p then 1 else 0) (n := q) (c := 1) (fun i _ => by split <;> omega)
      omega
    rw [wY_sort_14]
    refine ek_if (nI_leI (by omega) (by omega)) (fun e => ?_) (fun e => ?_)
    · have : q = n := by omega
      subst this
      have pl : zk_pl q t p < q := (zk_pl_pm (t := t) hn).1 p hp
      refine ek_if (zx_eq0 (by omega)) (fun e2 => ?_) (fun e2 => ?_)
      · refine zy_so70 (c := zk_pl q t p) hn hT hp pl ?_ K
        unfold zk_pr
        rw [if_pos e2]
        exact pk_sub (b := 1) (by omega)
      · refine zy_so70 (c := zk_pl q t p) hn hT hp pl ?_ K
        unfold zk_pr
        rw [if_neg e2]
        exact pk_sub (b := 1) (by omega)
    · have st := zs_s (fun q => if zk_G n t n q < zk_G n t n p then 1 else 0) q
      refine ek_if (nI_eq (by omega) (by omega)) (fun e2 => ?_) (fun e2 => ?_)
      · have nx := ih (q + 1) (by omega) (by omega)
        rw [st, if_neg (by rw [e2]; omega), Nat.add_zero] at nx
        exact nm_r (nI_1 q) nx
      · refine zy_bef hn ht hT (by omega) hp (fun c => ?_) (fun c => ?_)
        · have nx := ih (q + 1) (by omega) (by omega)
          rw [st, if_pos c] at nx
          exact br_f (by decide) (nm_r (nI_1 _) (nm_r (nI_1 q) nx))
        · have nx := ih (q + 1) (by omega) (by omega)
          rw [st, if_neg c, Nat.add_zero] at nx
          exact br_t rfl (nm_r (nI_1 q) nx)
theorem zy_so2 (hn : n ≤ 32) (ht : ∀ i, i < n → t i < 6) (hT : ∀ i, i < n → a_text i = nI (t i))
    (K : ∀ (f_mark : Int32) (a_column : Nat → Int32), (0 < n → f_mark = nI (zk_pl n t 0)) → (∀ k, k < n → a_column k = nI (zk_col n t k)) → post ((nI n), f_count, f_mark, a_text, a_column, a_ranks, a_symbols, a_row, a_often, a_length)) :
    ∀ (f p : Nat) (f_mark : Int32) (a_column : Nat → Int32), p ≤ n → n - p < f → (0 < p → f_mark = nI (zk_pl n t 0)) → (∀ q, q < p → a_column (zk_pl n t q) = nI (t (zk_pr n q))) → wY_sort_2 post (nI n) f_count f (nI p) f_mark a_text a_column a_ranks a_symbols a_row a_often a_length := by
  intro f
  induction f with
  | zero => intro p f_mark a_column hp hf; omega
  | succ f ih =>
    intro p f_mark a_column hp hf hm h
    rw [wY_sort_2]
    refine ek_if (nI_leI (by omega) (by omega)) (fun e => ?_) (fun e => ⟨n + 1, ?_⟩)
    · refine K f_mark a_column (fun h0 => hm (by omega)) (fun k hk => ?_)
      have a := h (zk_ord n t k) (by have := (zk_ord_pm (t := t) hn).1 k hk; omega)
      rw [zk_pl_ord hn hk] at a
      exact a
    · have w := zy_so14 (post := post) (J2 := wY_sort_2 post (nI n) f_count f) (p := p) (f_count := f_count) (f_mark := f_mark) (a_text := a_text) (a_column := a_column) (a_ranks := a_ranks) (a_symbols := a_symbols) (a_row := a_row) (a_often := a_often) (a_length := a_length) hn ht hT (by omega) (fun m e1 e2 => ?_) (n + 1) 0 (by omega) (by omega)
      · rw [zs_0, nI_0] at w
        exact w
      · refine ih (p + 1) m _ (by omega) (by omega) (fun _ => ?_) (fun q hq => ?_)
        · by_cases e3 : p = 0
          · rw [e1 e3, e3]
          · rw [e2 e3]; exact hm (by omega)
        · by_cases e3 : q = p
          · subst e3; rw [pk_us]
          · have : zk_pl n t q ≠ zk_pl n t p := fun x => e3 ((zk_pl_pm (t := t) hn).2 q p (by omega) (by omega) x)
            rw [pk_un this]; exact h q (by omega)
theorem zy_sort (hn : n ≤ 32) (ht : ∀ i, i < n → t i < 6) (hT : ∀ i, i < n → a_text i = nI (t i))
    (K : ∀ (f_mark : Int32) (a_column : Nat → Int32), (0 < n → f_mark = nI (zk_pl n t 0)) → (∀ k, k < n → a_column k = nI (zk_col n t k)) → post ((nI n), f_count, f_mark, a_text, a_column, a_ranks, a_symbols, a_row, a_often, a_length)) : wpY_sort post ((nI n), f_count, f_mark, a_text, a_column, a_ranks, a_symbols, a_row, a_often, a_length) := by
  unfold wpY_sort
  dsimp only
  exact ⟨n + 1, zy_so2 hn ht hT K (n + 1) 0 f_mark a_column (by omega) (by omega) (fun h => absurd h (by omega)) (fun q hq => absurd hq (by omega))⟩
/-! the ranks -/
theorem zy_rk73 {J23 : zy_J1} {r : Nat → Nat} {i p : Nat} (hi : i < 32) (hp : p < 6) (hcol : a_column i = nI (r p))
    (K : ∀ a_row : Nat → Int32, (∀ j, j < 6 → a_row j = nI (r (zk_cy p 0 j))) → J23 (nI (i + 1)) a_text a_column a_ranks a_symbols a_row a_often a_length) :
    ∀ (a f : Nat) (a_row : Nat → Int32), a < 6 → a < f → (∀ j, j < 6 → a_row j = nI (if a < j then r (zk_cy p 0 j) else r j)) → wY_rankAll_73 post J23 (nI i) (nI p) (nI n) f_count f_mark f (nI a) a_text a_column a_ranks a_symbols a_row a_often a_length := by
  intro a
  induction a with
  | zero =>
    intro f a_row ha hf h
    obtain ⟨f, rfl⟩ : ∃ f', f = f' + 1 := ⟨f - 1, by omega⟩
    rw [wY_rankAll_73]
    refine br_t ((zx_le0 (by omega)).mpr rfl) ⟨vp_in_nI (by omega) (by omega), ?_⟩
    rw [nI_clamp (n := i) (by omega), hcol]
    refine nm_e (nm_r (nI_1 i) (K _ (fun j hj => ?_)))
    by_cases e : j = 0
    · subst e; rw [pk_us, zk_cy_eq]
    · rw [pk_un e, h j hj, if_pos (by omega)]
  | succ a ih =>
    intro f a_row ha hf h
    obtain ⟨f, rfl⟩ : ∃ f', f = f' + 1 := ⟨f - 1, by omega⟩
    rw [wY_rankAll_73]
    refine br_f (fun x => by have := (zx_le0 (a := a + 1) (by omega)).mp x; omega) ?_
    refine ek_if (nI_ltI (by omega) (by omega)) (fun e => ?_) (fun e => ?_)
    · refine nm_r (pk_m1 a) (ih f a_row (by omega) (by omega) (fun j hj => ?_))
      rw [h j hj]
      by_cases e2 : j = a + 1
      · subst e2
        rw [if_neg (by omega), if_pos (by omega), zk_cy_gt (by omega) e]
      · by_cases e3 : a < j
        · rw [if_pos (show a + 1 < j by omega), if_pos e3]
        · rw [if_neg (show ¬ a + 1 < j by omega), if_neg e3]
    · have ea : a_row a = nI (r a) := by rw [h a (by omega), if_neg (by omega)]
      rw [nI_pred, nI_clamp (n := a) (by omega), nI_clamp (n := a + 1) (by omega), ea]
      refine ⟨vp_in_nI (by omega) (by omega), vp_in_nI (by omega) (by omega), nm_e (nm_r (pk_m1 a) (ih f _ (by omega) (by omega) (fun j hj => ?_)))⟩
      by_cases e2 : j = a + 1
      · subst e2
        rw [pk_us, if_pos (by omega), zk_cy_md (by omega) (by omega)]; rfl
      · rw [pk_un e2, h j hj]
        by_cases e3 : a < j
        · rw [if_pos (show a + 1 < j by omega), if_pos e3]
        · rw [if_neg (show ¬ a + 1 < j by omega), if_neg e3]
theorem zy_rk35 {J23 : zy_J1} {r : Nat → Nat} {i c : Nat} (hi : i < 32) (hc : c < 6) (hr : zp_pm 6 r) (hR : ∀ j, j < 6 → a_row j = nI (r j)) (hcol : a_column i = nI c)
    (K : ∀ a_row : Nat → Int32, (∀ j, j < 6 → a_row j = nI (r (zk_cy (zp_iv r 6 c) 0 j))) → J23 (nI (i + 1)) a_text a_column (upd a_ranks i (nI (zp_iv r 6 c))) a_symbols a_row a_often a_length) :
    ∀ (f k : Nat), k ≤ 6 → 6 - k < f → wY_rankAll_35 post J23 (nI i) (nI n) f_count f_mark a_text a_column a_ranks a_symbols a_row a_often a_length f (nI (if zp_iv r 6 c < k then zp_iv r 6 c else 0)) (nI k) := by
  have iv := zp_iv_r hr hc
  intro f
  induction f with
  | zero => intro k hk hf; omega
  | succ f ih =>
    intro k hk hf
    rw [wY_rankAll_35]
    refine ek_if (nI_leI (a := 6) (by omega) (by omega)) (fun e => ?_) (fun e => ?_)
    · rw [if_pos (by omega), nI_clamp (n := i) (by omega)]
      refine ⟨vp_in_nI (by omega) (by omega), nm_e ⟨6, ?_⟩⟩
      refine zy_rk73 hi iv.1 (by rw [iv.2]; exact hcol) K 5 6 a_row (by omega) (by omega) (fun j hj => ?_)
      rw [hR j hj, if_neg (by omega)]
    · have rk := hr.1 k (by omega)
      rw [nI_clamp (n := k) (by omega), nI_clamp (n := i) (by omega), hR k (by omega), hcol]
      have nx := ih (k + 1) (by omega) (by omega)
      refine ⟨vp_in_nI (by omega) (by omega), vp_in_nI (by omega) (by omega), ek_if (nI_eq (by omega) (by omega)) (fun e2 => ?_) (fun e2 => ?_)⟩
      · have ek : zp_iv r 6 c = k := by rw [← e2]; exact zp_iv_of hr (by omega)
        rw [if_pos (by omega), ek] at nx
        exact nm_r (nI_1 k) nx
      · have ne : zp_iv r 6 c ≠ k := fun x => e2 (by rw [← x]; exact iv.2)
        have ei : (if zp_iv r 6 c < k + 1 then zp_iv r 6 c else 0) = if zp_iv r 6 c < k then zp_iv r 6 c else 0 := by
          by_cases c1 : zp_iv r 6 c < k
          · rw [if_pos c1, if_pos (by omega)]
          · rw [if_neg c1, if_neg (by omega)]
        rw [ei] at nx
        exact nm_r (nI_1 k) nx
theorem zy_rk23 {C : Nat → Nat} (hn : n ≤ 32) (hC : ∀ k, k < n → C k < 6) (hcol : ∀ k, k < n → a_column k = nI (C k)) (K : ∀ a_ranks a_row : Nat → Int32, (∀ j, j < n → a_ranks j = nI (zm_rk C j)) → post ((nI n), f_count, f_mark, a_text, a_column, a_ranks, a_symbols, a_row, a_often, a_length)) :
    ∀ (f k : Nat) (a_ranks a_row : Nat → Int32), k ≤ n → n - k < f → (∀ j, j < k → a_ranks j = nI (zm_rk C j)) → (∀ j, j < 6 → a_row j = nI (zm_row C k j)) → wY_rankAll_23 post (nI n) f_count f_mark f (nI k) a_text a_column a_ranks a_symbols a_row a_often a_length := by
  intro f
  induction f with
  | zero => intro k a_ranks a_row hk hf; omega
  | succ f ih =>
    intro k a_ranks a_row hk hf h1 h2
    rw [wY_rankAll_23]
    refine ek_if (nI_leI (by omega) (by omega)) (fun e => K a_ranks a_row (fun j hj => h1 j (by omega))) (fun e => ⟨7, ?_⟩)
    have pm := zm_pm hC k (by omega)
    have w := zy_rk35 (post := post) (J23 := wY_rankAll_23 post (nI n) f_count f_mark f) (r := zm_row C k) (i := k) (c := C k) (f_count := f_count) (f_mark := f_mark) (a_text := a_text) (a_column := a_column) (a_ranks := a_ranks) (a_symbols := a_symbols) (a_row := a_row) (a_often := a_often) (a_length := a_length) (n := n) (by omega) (hC k (by omega)) pm h2 (hcol k (by omega)) (fun a_row h => ?_) 7 0 (by omega) (by omega)
    · rw [if_neg (by omega), nI_0] at w
      exact w
    · refine ih (k + 1) _ a_row (by omega) (by omega) (fun j hj => ?_) h
      by_cases e2 : j = k
      · subst e2; rw [pk_us]; rfl
      · rw [pk_un e2]; exact h1 j (by omega)
theorem zy_rk2 {C : Nat → Nat} (hn : n ≤ 32) (hC : ∀ k, k < n → C k < 6) (hcol : ∀ k, k < n → a_column k = nI (C k)) (K : ∀ a_ranks a_row : Nat → Int32, (∀ j, j < n → a_ranks j = nI (zm_rk C j)) → post ((nI n), f_count, f_mark, a_text, a_column, a_ranks, a_symbols, a_row, a_often, a_length)) :
    ∀ (f i : Nat) (a_row : Nat → Int32), i ≤ 6 → 6 - i < f → (∀ j, j < i → a_row j = nI j) → wY_rankAll_2 post (nI n) f_count f_mark f (nI i) a_text a_column a_ranks a_symbols a_row a_often a_length := by
  intro f
  induction f with
  | zero => intro i a_row hi hf; omega
  | succ f ih =>
    intro i a_row hi hf h
    rw [wY_rankAll_2]
    refine ek_if (nI_leI (a := 6) (by omega) (by omega)) (fun e => ⟨n + 1, ?_⟩) (fun e => ?_)
    · exact zy_rk23 hn hC hcol K (n + 1) 0 a_ranks a_row (by omega) (by omega) (fun j hj => absurd hj (by omega)) (fun j hj => h j (by omega))
    · rw [nI_clamp (n := i) (by omega)]
      refine ⟨vp_in_nI (by omega) (by omega), nm_e (nm_r (nI_1 i) (ih (i + 1) _ (by omega) (by omega) (fun j hj => ?_)))⟩
      by_cases e2 : j = i
      · subst e2; rw [pk_us]
      · rw [pk_un e2]; exact h j (by omega)
theorem zy_rank {C : Nat → Nat} (hn : n ≤ 32) (hC : ∀ k, k < n → C k < 6) (hcol : ∀ k, k < n → a_column k = nI (C k)) (K : ∀ a_ranks a_row : Nat → Int32, (∀ j, j < n → a_ranks j = nI (zm_rk C j)) → post ((nI n), f_count, f_mark, a_text, a_column, a_ranks, a_symbols, a_row, a_often, a_length)) : wpY_rankAll post ((nI n), f_count, f_mark, a_text, a_column, a_ranks, a_symbols, a_row, a_often, a_length) := by
  unfold wpY_rankAll
  dsimp only
  exact ⟨7, zy_rk2 hn hC hcol K 7 0 a_row (by omega) (by omega) (fun j hj => absurd hj (by omega))⟩
/-! the runs -/
theorem zy_put {L : List Nat} {s : Nat} (hL : L.length < 32) (hh : zr_ho L a_symbols) (K : ∀ a_symbols : Nat → Int32, zr_ho (L ++ [s]) a_symbols → post ((nI n), (nI (L.length + 1)), f_mark, a_text, a_column, a_ranks, a_symbols, a_row, a_often, a_length)) : wpY_put post ((nI n), (nI L.length), f_mark, a_text, a_column, a_ranks, a_symbols, a_row, a_often, a_length) (nI s) := by
  unfold wpY_put
  dsimp only
  rw [nI_clamp (n := L.length) (by omega)]
  exact ⟨vp_in_nI hL (by omega), nm_e (nm_r (nI_1 _) (K _ (zr_ho1 s hh)))⟩
theorem zy_rem2 {z : Nat} (h : z < 2 ^ 31) : nI z - nI z / 2 * 2 = nI (z % 2) := pk_rem (d := 2) h (by omega) (by omega)
theorem zy_pr4 : ∀ (g z f : Nat) (L : List Nat) (a_symbols : Nat → Int32), g ≤ 6 → z < 2 ^ g → z ≤ 64 → g < f → L.length + z ≤ 32 → zr_ho L a_symbols →
    (∀ a_symbols : Nat → Int32, zr_ho (L ++ zr_rn g z) a_symbols → post ((nI n), (nI (L ++ zr_rn g z).length), f_mark, a_text, a_column, a_ranks, a_symbols, a_row, a_often, a_length)) → wY_putRun_4 post f (nI z) (nI (6 - g)) (nI n) (nI L.length) f_mark a_text a_column a_ranks a_symbols a_row a_often a_length := by
  intro g
  induction g with
  | zero =>
    intro z f L a_symbols hg hz h64 hf hL hh K
    obtain ⟨f, rfl⟩ : ∃ f', f = f' + 1 := ⟨f - 1, by omega⟩
    have := K a_symbols (by rw [show zr_rn 0 z = [] from rfl, List.append_nil]; exact hh)
    rw [show zr_rn 0 z = [] from rfl, List.append_nil] at this
    rw [wY_putRun_4]
    exact br_t (nI_le (a := 6) (by omega) (by omega)) this
  | succ g ih =>
    intro z f L a_symbols hg hz h64 hf hL hh K
    obtain ⟨f, rfl⟩ : ∃ f', f = f' + 1 := ⟨f - 1, by omega⟩
    rw [Nat.pow_succ] at hz
    rw [wY_putRun_4]
    refine br_f (nI_ge (b := 6) (by omega) (by omega)) ?_
    by_cases e0 : z = 0
    · subst e0
      have := K a_symbols (by rw [zr_rn0, List.append_nil]; exact hh)
      rw [zr_rn0, List.append_nil] at this
      exact br_t ((zx_le0 (by omega)).mpr rfl) this
    · refine br_f (fun x => e0 ((zx_le0 (by omega)).mp x)) ⟨by decide, ?_⟩
      rw [zy_rem2 (by omega)]
      have e6 : nI (6 - (g + 1)) + 1 = nI (6 - g) := by rw [nI_1]; congr 1; omega
      have step : ∀ (s z' : Nat) (a_symbols : Nat → Int32), z' < 2 ^ g → L.length + 1 + z' ≤ 32 → zr_rn (g + 1) z = s :: zr_rn g z' → zr_ho (L ++ [s]) a_symbols → wY_putRun_4 post f (nI z') (nI (6 - g)) (nI n) (nI (L.length + 1)) f_mark a_text a_column a_ranks a_symbols a_row a_often a_length := by
        intro s z' a_symbols h1 h2 h3 h4
        have el : (L ++ [s]).length = L.length + 1 := by rw [List.length_append, List.length_singleton]
        have ea : L ++ [s] ++ zr_rn g z' = L ++ zr_rn (g + 1) z := by rw [h3, List.append_assoc]; rfl
        have := ih z' f (L ++ [s]) a_symbols (by omega) h1 (by omega) (by omega) (by omega) h4 (fun a_symbols h => by rw [ea] at h ⊢; exact K a_symbols h)
        rw [el] at this
        exact this
      refine ek_if (nI_eq (b := 1) (by omega) (by omega)) (fun e1 => ?_) (fun e1 => ?_)
      · unfold wY_putRun_26
        refine br_f (by decide) ?_
        unfold wY_putRun_39
        refine zy_put (s := 0) (by omega) hh (fun a_symbols h => ?_)
        refine br_f (by decide) ⟨by decide, nm_r (zx_half (k := 1) (by omega) (by omega)) (nm_r e6 ?_)⟩
        exact step 0 ((z - 1) / 2) a_symbols (by omega) (by omega) (zr_rn_o (by omega)) h
      · unfold wY_putRun_26
        refine br_t rfl ?_
        unfold wY_putRun_39
        refine zy_put (s := 1) (by omega) hh (fun a_symbols h => ?_)
        refine br_t rfl ⟨by decide, nm_r (zx_half (k := 2) (by omega) (by omega)) (nm_r e6 ?_)⟩
        exact step 1 ((z - 2) / 2) a_symbols (by omega) (by omega) (zr_rn_e e0 e1) h
theorem zy_pr {z : Nat} {L : List Nat} (hz : z < 64) (hL : L.length + z ≤ 32) (hh : zr_ho L a_symbols) (K : ∀ a_symbols : Nat → Int32, zr_ho (L ++ zr_rn 6 z) a_symbols → post ((nI n), (nI (L ++ zr_rn 6 z).length), f_mark, a_text, a_column, a_ranks, a_symbols, a_row, a_often, a_length)) : wpY_putRun post ((nI n), (nI L.length), f_mark, a_text, a_column, a_ranks, a_symbols, a_row, a_often, a_length) (nI z) := by
  unfold wpY_putRun
  dsimp only
  exact ⟨7, zy_pr4 6 z 7 L a_symbols (by omega) (by omega) (by omega) (by omega) hL hh K⟩
theorem zy_e17 {r : Nat → Nat} (hn : n ≤ 32) (hr : ∀ k, k < n → r k < 6) (hR : ∀ k, k < n → a_ranks k = nI (r k)) (K : ∀ a_symbols : Nat → Int32, zr_ho (zr_sy r n) a_symbols → post ((nI n), (nI (zr_sy r n).length), f_mark, a_text, a_column, a_ranks, a_symbols, a_row, a_often, a_length)) :
    ∀ (f k : Nat) (a_symbols : Nat → Int32), k ≤ n → n - k < f → zr_ho (zr_l r k) a_symbols → wY_encode_17 post f (nI (zr_z r k)) (nI k) (nI n) (nI (zr_l r k).length) f_mark a_text a_column a_ranks a_symbols a_row a_often a_length := by
  intro f
  induction f with
  | zero => intro k a_symbols hk hf; omega
  | succ f ih =>
    intro k a_symbols hk hf h
    have len := zr_len r k
    rw [wY_encode_17]
    refine ek_if (nI_leI (by omega) (by omega)) (fun e => ?_) (fun e => ?_)
    · have : k = n := by omega
      subst this
      exact zy_pr (L := zr_l r k) (by omega) (by omega) h K
    · have r6 := hr k (by omega)
      rw [nI_clamp (n := k) (by omega), hR k (by omega)]
      refine ⟨vp_in_nI (by omega) (by omega), ek_if (zx_eq0 (by omega)) (fun e2 => ?_) (fun e2 => ?_)⟩
      · have := ih (k + 1) a_symbols (by omega) (by omega) (by rw [zr_lp e2]; exact h)
        rw [zr_lp e2, zr_zp e2] at this
        exact nm_r (nI_1 _) (nm_r (nI_1 k) this)
      · refine zy_pr (L := zr_l r k) (by omega) (by omega) h (fun a_symbols h' => ?_)
        have rl := zr_rn_len 6 (zr_z r k)
        have ll : (zr_l r k ++ zr_rn 6 (zr_z r k)).length = (zr_l r k).length + (zr_rn 6 (zr_z r k)).length := List.length_append
        refine ⟨vp_in_nI (by omega) (by omega), ?_⟩
        dsimp only
        rw [hR k (by omega), nI_1 (r k)]
        refine zy_put (L := zr_l r k ++ zr_rn 6 (zr_z r k)) (s := r k + 1) (by omega) h' (fun a_symbols h'' => ?_)
        have ea : zr_l r k ++ zr_rn 6 (zr_z r k) ++ [r k + 1] = zr_l r (k + 1) := by rw [zr_ln e2, List.append_assoc]
        have el : (zr_l r k ++ zr_rn 6 (zr_z r k)).length + 1 = (zr_l r (k + 1)).length := by rw [← ea]; exact (List.length_append (bs := [r k + 1])).symm
        rw [ea] at h''
        have := ih (k + 1) a_symbols (by omega) (by omega) h''
        rw [zr_zn e2, ← el] at this
        exact nm_r (nI_1 k) this
/-- what the reference has found -/
def zy_E (n : Nat) (t : Nat → Nat) (f_count f_mark : Int32) (a_column a_ranks a_symbols : Nat → Int32) : Prop :=
  (0 < n → f_mark = nI (zk_pl n t 0)) ∧ (∀ k, k < n → a_column k = nI (zk_col n t k)) ∧ (∀ k, k < n → a_ranks k = nI (zm_rk (zk_col n t) k)) ∧ f_count = nI (zx_S n t).length ∧ zr_ho (zx_S n t) a_symbols
theorem zy_enc (hn : n ≤ 32) (ht : ∀ i, i < n → t i < 6) (hT : ∀ i, i < n → a_text i = nI (t i))
    (K : ∀ (f_count f_mark : Int32) (a_column a_ranks a_symbols a_row : Nat → Int32), zy_E n t f_count f_mark a_column a_ranks a_symbols → post ((nI n), f_count, f_mark, a_text, a_column, a_ranks, a_symbols, a_row, a_often, a_length)) : wpY_encode post ((nI n), f_count, f_mark, a_text, a_column, a_ranks, a_symbols, a_row, a_often, a_length) := by
  unfold wpY_encode
  dsimp only
  refine zy_sort hn ht hT (fun f_mark a_column hm hcol => ?_)
  refine zy_rank hn (fun k hk => zk_col6 ht hn hk) hcol (fun a_ranks a_row hR => ?_)
  refine ⟨n + 1, ?_⟩
  exact zy_e17 hn (zx_S_r6 hn ht) hR (fun a_symbols hS => K _ f_mark a_column a_ranks a_symbols a_row ⟨hm, hcol, hR, rfl, hS⟩) (n + 1) 0 a_symbols (by omega) (by omega) (zr_ho0 _)
end ZY
end
section
section ZYC
variable {n : Nat} {t : Nat → Nat} {post : Int32 → SY → Prop} {f_count f_mark : Int32} {a_text a_column a_ranks a_symbols a_row a_often a_length : Nat → Int32}
/-- the counts, sorted -/
def zy_V (w v : Nat → Nat) (a : Nat → Int32) : Prop := (∃ π : Nat → Nat, zp_pm 7 π ∧ ∀ i, i < 7 → v i = w (π i)) ∧ ∀ i, i < 7 → a i = nI (v i)
theorem zy_c126 {v : Nat → Nat} (h32 : ∀ i, i < 7 → v i ≤ 32) (hV : ∀ i, i < 7 → a_often i = nI (v i)) (K : post (nI (zl_kn v)) ((nI n), f_count, f_mark, a_text, a_column, a_ranks, a_symbols, a_row, a_often, a_length)) :
    ∀ (f i : Nat), i ≤ 7 → 7 - i < f → wY_countSymbols_126 post (nI n) f_count f_mark a_text a_column a_ranks a_symbols a_row a_often a_length f (nI (zs_sm (fun s => if v s = 0 then 0 else 1) i)) (nI i) := by
  intro f
  induction f with
  | zero => intro i hi hf; omega
  | succ f ih =>
    intro i hi hf
    rw [wY_countSymbols_126]
    refine ek_if (nI_leI (a := 7) (by omega) (by omega)) (fun e => ?_) (fun e => ?_)
    · have : i = 7 := by omega
      subst this
      exact K
    · have v32 := h32 i (by omega)
      have nx := ih (i + 1) (by omega) (by omega)
      rw [zs_s] at nx
      rw [nI_clamp (n := i) (by omega), hV i (by omega)]
      refine ⟨vp_in_nI (by omega) (by omega), ek_if (zx_le0 (by omega)) (fun e2 => ?_) (fun e2 => ?_)⟩
      · rw [if_pos e2, Nat.add_zero] at nx
        exact nm_r (nI_1 i) nx
      · rw [if_neg e2] at nx
        exact nm_r (nI_1 _) (nm_r (nI_1 i) nx)
theorem zy_c58 {w : Nat → Nat} (hw : ∀ s, s < 7 → w s ≤ 32) (K : ∀ (a_often : Nat → Int32) (v : Nat → Nat), zy_V w v a_often → (∀ i j, i ≤ j → j < 7 → v j ≤ v i) → post (nI (zl_kn v)) ((nI n), f_count, f_mark, a_text, a_column, a_ranks, a_symbols, a_row, a_often, a_length)) :
    ∀ (f k : Nat) (a_often : Nat → Int32) (v : Nat → Nat), k ≤ 36 → 36 - k < f → zy_V w v a_often → zl_Iv (k / 6) (k % 6) v → wY_countSymbols_58 post (nI n) f_count f_mark f (nI k) a_text a_column a_ranks a_symbols a_row a_often a_length := by
  intro f
  induction f with
  | zero => intro k a_often v hk hf; omega
  | succ f ih =>
    intro k a_often v hk hf hV hI
    obtain ⟨⟨π, hπ, hv⟩, hA⟩ := hV
    have h32 : ∀ i, i < 7 → v i ≤ 32 := fun i hi => by rw [hv i hi]; exact hw _ (hπ.1 i hi)
    rw [wY_countSymbols_58]
    refine ek_if (nI_leI (a := 36) (by omega) (by omega)) (fun e => ⟨8, ?_⟩) (fun e => ⟨by decide, ?_⟩)
    · have : k = 36 := by omega
      subst this
      exact zy_c126 h32 hA (K a_often v ⟨⟨π, hπ, hv⟩, hA⟩ (zl_Iv_e hI)) 8 0 (by omega) (by omega)
    · have er : nI k - nI k / 6 * 6 = nI (k % 6) := pk_rem (d := 6) (by omega) (by omega) (by omega)
      refine nm_r er ⟨vp_in_nI (by omega) (by omega), ?_⟩
      have s1 := h32 (k % 6) (by omega)
      have s2 := h32 (k % 6 + 1) (by omega)
      rw [nI_1 (k % 6), nI_clamp (n := k % 6) (by omega), nI_clamp (n := k % 6 + 1) (by omega), hA (k % 6) (by omega), hA (k % 6 + 1) (by omega)]
      refine ⟨vp_in_nI (by omega) (by omega), ek_if (nI_leI (by omega) (by omega)) (fun e2 => ?_) (fun e2 => ?_)⟩
      · exact nm_r (nI_1 k) (ih (k + 1) a_often v (by omega) (by omega) ⟨⟨π, hπ, hv⟩, hA⟩ (zl_Iv_k (zl_Iv_n hI (by omega) e2)))
      · refine ⟨vp_in_nI (by omega) (by omega), nm_e ⟨vp_in_nI (by omega) (by omega), vp_in_nI (by omega) (by omega), nm_e ⟨vp_in_nI (by omega) (by omega), nm_e (nm_r (nI_1 k) ?_)⟩⟩⟩
        have pm := zp_swp (n := 7) (a := k % 6) (b := k % 6 + 1) (by omega) (by omega)
        refine ih (k + 1) _ (fun j => v (zp_sw (k % 6) (k % 6 + 1) j)) (by omega) (by omega) ⟨⟨fun j => π (zp_sw (k % 6) (k % 6 + 1) j), zp_comp hπ pm, fun i hi => hv _ (pm.1 i hi)⟩, fun i hi => ?_⟩ (zl_Iv_k (zl_Iv_s hI (by omega) (by omega)))
        dsimp only
        by_cases e3 : i = k % 6
        · subst e3; rw [pk_us, zp_sw_l]
        · rw [pk_un e3]
          by_cases e4 : i = k % 6 + 1
          · subst e4; rw [pk_us, zp_sw_r]
          · rw [pk_un e4, zp_sw_n e3 e4]; exact hA i hi
theorem zy_c27 {L : List Nat} (hL : L.length ≤ 32) (h7 : ∀ x, x ∈ L → x < 7) (hS : zr_ho L a_symbols) (K : ∀ (a_often : Nat → Int32) (v : Nat → Nat), zy_V (zh_w L) v a_often → (∀ i j, i ≤ j → j < 7 → v j ≤ v i) → post (nI (zl_kn v)) ((nI n), (nI L.length), f_mark, a_text, a_column, a_ranks, a_symbols, a_row, a_often, a_length)) :
    ∀ (f k : Nat) (a_often : Nat → Int32), k ≤ L.length → L.length - k < f → (∀ s, s < 7 → a_often s = nI (zh_wk L k s)) → wY_countSymbols_27 post (nI n) (nI L.length) f_mark f (nI k) a_text a_column a_ranks a_symbols a_row a_often a_length := by
  have tot := zh_w_tot h7
  intro f
  induction f with
  | zero => intro k a_often hk hf; omega
  | succ f ih =>
    intro k a_often hk hf h
    rw [wY_countSymbols_27]
    refine ek_if (nI_leI (by omega) (by omega)) (fun e => ⟨37, ?_⟩) (fun e => ?_)
    · have : k = L.length := by omega
      subst this
      exact zy_c58 (w := zh_w L) (fun s hs => by have := zs_mem (f := zh_w L) hs; omega) K 37 0 a_often (zh_w L) (by omega) (by omega) ⟨⟨fun i => i, zp_id 7, fun i _ => rfl⟩, h⟩ (zl_Iv0 _)
    · have hk' : k < L.length := by omega
      have s7 := h7 _ (zr_mem hk')
      rw [nI_clamp (n := k) (by omega), hS k hk', nI_clamp (n := L.getD k 0) (by omega), h _ s7, nI_1]
      refine ⟨vp_in_nI (by omega) (by omega), vp_in_nI s7 (by omega), vp_in_nI s7 (by omega), nm_e (nm_r (nI_1 k) (ih (k + 1) _ (by omega) (by omega) (fun s hs => ?_)))⟩
      rw [zh_wk_s]
      by_cases e2 : s = L.getD k 0
      · subst e2; rw [pk_us, if_pos rfl]
      · rw [pk_un e2, h s hs, if_neg (fun x => e2 x.symm)]; rfl
theorem zy_c6 {L : List Nat} (hL : L.length ≤ 32) (h7 : ∀ x, x ∈ L → x < 7) (hS : zr_ho L a_symbols) (K : ∀ (a_often : Nat → Int32) (v : Nat → Nat), zy_V (zh_w L) v a_often → (∀ i j, i ≤ j → j < 7 → v j ≤ v i) → post (nI (zl_kn v)) ((nI n), (nI L.length), f_mark, a_text, a_column, a_ranks, a_symbols, a_row, a_often, a_length)) :
    ∀ (f i : Nat) (a_often : Nat → Int32), i ≤ 7 → 7 - i < f → (∀ s, s < i → a_often s = nI 0) → wY_countSymbols_6 post (nI n) (nI L.length) f_mark f (nI i) a_text a_column a_ranks a_symbols a_row a_often a_length := by
  intro f
  induction f with
  | zero => intro i a_often hi hf; omega
  | succ f ih =>
    intro i a_often hi hf h
    rw [wY_countSymbols_6]
    refine ek_if (nI_leI (a := 7) (by omega) (by omega)) (fun e => ⟨L.length + 1, ?_⟩) (fun e => ?_)
    · exact zy_c27 hL h7 hS K (L.length + 1) 0 a_often (by omega) (by omega) (fun s hs => h s (by omega))
    · rw [nI_clamp (n := i) (by omega)]
      refine ⟨vp_in_nI (by omega) (by omega), nm_e (nm_r (nI_1 i) (ih (i + 1) _ (by omega) (by omega) (fun s hs => ?_)))⟩
      by_cases e2 : s = i
      · subst e2; rw [pk_us]; exact nI_0.symm
      · rw [pk_un e2]; exact h s (by omega)
theorem zy_cnt (hn : n ≤ 32) (ht : ∀ i, i < n → t i < 6) (hT : ∀ i, i < n → a_text i = nI (t i))
    (K : ∀ (f_count f_mark : Int32) (a_column a_ranks a_symbols a_row a_often : Nat → Int32) (v : Nat → Nat), zy_V (zh_w (zx_S n t)) v a_often → (∀ i j, i ≤ j → j < 7 → v j ≤ v i) → post (nI (zl_kn v)) ((nI n), f_count, f_mark, a_text, a_column, a_ranks, a_symbols, a_row, a_often, a_length)) : wpY_countSymbols post ((nI n), f_count, f_mark, a_text, a_column, a_ranks, a_symbols, a_row, a_often, a_length) := by
  unfold wpY_countSymbols
  dsimp only
  refine zy_enc hn ht hT (fun f_count f_mark a_column a_ranks a_symbols a_row hE => ?_)
  obtain ⟨_, _, _, rfl, hS⟩ := hE
  exact ⟨8, zy_c6 (zx_S_len hn) (zx_S_7 hn ht) hS (K _ f_mark a_column a_ranks a_symbols a_row) 8 0 a_often (by omega) (by omega) (fun s hs => absurd hs (by omega))⟩
/-! the next lengths -/
theorem zl_nx_n {l : List Nat} (h : zl_nx l = none) : zl_at (fun i => l.getD i 0) l.length = none := by
  unfold zl_nx at h
  split at h
  · assumption
  · cases h
theorem zl_nx_s {l b : List Nat} (h : zl_nx l = some b) : ∃ a, zl_at (fun i => l.getD i 0) l.length = some a ∧ b = l.take a ++ List.replicate (l.length - a) (l.getD a 0 + 1) := by
  unfold zl_nx at h
  split at h
  · cases h
  · rename_i a ha
    exact ⟨a, ha, (Option.some.inj h).symm⟩
theorem zl_at_lt {f : Nat → Nat} {a : Nat} : ∀ k, zl_at f k = some a → a < k := by
  intro k
  induction k with
  | zero => intro h; cases h
  | succ k ih =>
    intro h
    unfold zl_at at h
    split at h
    · have := Option.some.inj h; omega
    · have := ih h; omega
theorem zl_nx_get {l : List Nat} {a x i : Nat} (ha : a < l.length) (hi : i < l.length) : (l.take a ++ List.replicate (l.length - a) x).getD i 0 = if i < a then l.getD i 0 else x := by
  have el : (l.take a).length = a := by rw [List.length_take]; omega
  rw [List.getD_eq_getElem?_getD]
  by_cases c : i < a
  · rw [if_pos c, List.getElem?_append_left (by omega), List.getElem?_take_of_lt c, ← List.getD_eq_getElem?_getD]
  · rw [if_neg c, List.getElem?_append_right (by omega), List.getElem?_replicate, if_pos (by omega)]; rfl
def zy_e : Option Nat → Int32
  | none => -1
  | some a => nI a
theorem zy_n46 {k x a : Nat} (hk : k ≤ 7) (K : ∀ a_length' : Nat → Int32, (∀ i, i < k → a_length' i = if i < a then a_length i else nI x) → post 1 ((nI n), f_count, f_mark, a_text, a_column, a_ranks, a_symbols, a_row, a_often, a_length')) :
    ∀ (f i : Nat) (a_length' : Nat → Int32), a ≤ i → i ≤ k → k - i < f → (∀ j, j < k → a_length' j = if a ≤ j ∧ j < i then nI x else a_length j) → wY_nextLengths_46 post (nI k) (nI x) (nI n) f_count f_mark f (nI i) a_text a_column a_ranks a_symbols a_row a_often a_length' := by
  intro f
  induction f with
  | zero => intro i a_length' ha hi hf; omega
  | succ f ih =>
    intro i a_length' ha hi hf h
    rw [wY_nextLengths_46]
    refine ek_if (nI_leI (by omega) (by omega)) (fun e => K a_length' (fun j hj => ?_)) (fun e => ?_)
    · rw [h j hj]
      by_cases c : j < a
      · rw [if_pos c, if_neg (by omega)]
      · rw [if_neg c, if_pos (by omega)]
    · rw [nI_clamp (n := i) (by omega)]
      refine ⟨vp_in_nI (by omega) (by omega), nm_e (nm_r (nI_1 i) (ih (i + 1) _ (by omega) (by omega) (by omega) (fun j hj => ?_)))⟩
      by_cases e2 : j = i
      · subst e2; rw [pk_us, if_pos (by omega)]
      · rw [pk_un e2, h j hj]
        by_cases c : a ≤ j ∧ j < i
        · rw [if_pos c, if_pos (by omega)]
        · rw [if_neg c, if_neg (by omega)]
theorem zy_n4 {l : List Nat} (hk : l.length ≤ 7) (h6 : ∀ x, x ∈ l → 1 ≤ x ∧ x ≤ 6) (hA : ∀ i, i < l.length → a_length i = nI (l.getD i 0))
    (K0 : zl_nx l = none → post 0 ((nI n), f_count, f_mark, a_text, a_column, a_ranks, a_symbols, a_row, a_often, a_length)) (K1 : ∀ (b : List Nat) (a_length : Nat → Int32), zl_nx l = some b → (∀ i, i < l.length → a_length i = nI (b.getD i 0)) → post 1 ((nI n), f_count, f_mark, a_text, a_column, a_ranks, a_symbols, a_row, a_often, a_length)) :
    ∀ (f i : Nat), i ≤ l.length → l.length - i < f → wY_nextLengths_4 post (nI l.length) (nI n) f_count f_mark a_text a_column a_ranks a_symbols a_row a_often a_length f (zy_e (zl_at (fun i => l.getD i 0) i)) (nI i) := by
  intro f
  induction f with
  | zero => intro i hi hf; omega
  | succ f ih =>
    intro i hi hf
    rw [wY_nextLengths_4]
    refine ek_if (nI_leI (by omega) (by omega)) (fun e => ?_) (fun e => ?_)
    · have : i = l.length := by omega
      subst this
      cases hat : zl_at (fun i => l.getD i 0) l.length with
      | none =>
        refine br_f (by decide) (K0 ?_)
        unfold zl_nx
        rw [hat]
      | some a =>
        have al := zl_at_lt _ hat
        have a6 := h6 _ (zr_mem al)
        show (0 ≤ nI a → _) ∧ (¬ 0 ≤ nI a → _)
        refine br_t (nI_pos' (by omega)) ⟨vp_in_nI (by omega) (by omega), ?_⟩
        show ∀ x, x = a_length (nI a).toNatClampNeg + 1 → _
        rw [nI_clamp (n := a) (by omega), hA a al]
        refine nm_r (nI_1 _) ⟨l.length - a + 1, ?_⟩
        refine zy_n46 (a := a) hk (fun a_length' h => ?_) (l.length - a + 1) a a_length (by omega) (by omega) (by omega) (fun j hj => by rw [if_neg (by omega)])
        refine K1 (l.take a ++ List.replicate (l.length - a) (l.getD a 0 + 1)) a_length' ?_ (fun i hi => ?_)
        · unfold zl_nx
          rw [hat]
        · rw [h i hi, zl_nx_get al hi]
          by_cases c : i < a
          · rw [if_pos c, if_pos c]; exact hA i hi
          · rw [if_neg c, if_neg c]
    · have hi' : i < l.length := by omega
      have i6 := h6 _ (zr_mem hi')
      have nx := ih (i + 1) (by omega) (by omega)
      have st : zl_at (fun i => l.getD i 0) (i + 1) = if l.getD i 0 < 6 then some i else zl_at (fun i => l.getD i 0) i := rfl
      rw [st] at nx
      rw [nI_clamp (n := i) (by omega), hA i hi']
      refine ⟨vp_in_nI (by omega) (by omega), ek_if (nI_leI (a := 6) (by omega) (by omega)) (fun e2 => ?_) (fun e2 => ?_)⟩
      · rw [if_neg (by omega)] at nx
        exact nm_r (nI_1 i) nx
      · rw [if_pos (by omega)] at nx
        exact nm_r (nI_1 i) nx
theorem zy_next {l : List Nat} (hk : l.length ≤ 7) (h6 : ∀ x, x ∈ l → 1 ≤ x ∧ x ≤ 6) (hA : ∀ i, i < l.length → a_length i = nI (l.getD i 0))
    (K0 : zl_nx l = none → post 0 ((nI n), f_count, f_mark, a_text, a_column, a_ranks, a_symbols, a_row, a_often, a_length)) (K1 : ∀ (b : List Nat) (a_length : Nat → Int32), zl_nx l = some b → (∀ i, i < l.length → a_length i = nI (b.getD i 0)) → post 1 ((nI n), f_count, f_mark, a_text, a_column, a_ranks, a_symbols, a_row, a_often, a_length)) : wpY_nextLengths post ((nI n), f_count, f_mark, a_text, a_column, a_ranks, a_symbols, a_row, a_often, a_length) (nI l.length) := by
  unfold wpY_nextLengths
  dsimp only
  exact ⟨l.length + 1, zy_n4 hk h6 hA K0 K1 (l.length + 1) 0 (by omega) (by omega)⟩
theorem zy_64 : ∀ x, x < 7 → (64 : Int32) >>> (nI x &&& 31) = nI (2 ^ (6 - x)) := by decide +kernel
theorem zy_cb4 {q : Int32 → Prop} {l : List Nat} {k : Nat} (hl : l.length = k) (hk : k ≤ 7) (h6 : ∀ x, x ∈ l → 1 ≤ x ∧ x ≤ 6) (hA : ∀ i, i < k → a_length i = nI (l.getD i 0)) (K1 : zl_tk k l ≤ 64 → q 1) (K0 : ¬ zl_tk k l ≤ 64 → q 0) :
    ∀ (f i : Nat), i ≤ k → k - i < f → wY_canBe_4 q (nI k) (nI n) f_count f_mark a_text a_column a_ranks a_symbols a_row a_often a_length f (nI (zs_sm (fun i => 2 ^ (6 - l.getD i 0)) i)) (nI i) := by
  intro f
  induction f with
  | zero => intro i hi hf; omega
  | succ f ih =>
    intro i hi hf
    rw [wY_canBe_4]
    refine ek_if (nI_leI (by omega) (by omega)) (fun e => ?_) (fun e => ?_)
    · have : i = k := by omega
      subst this
      have b := zs_bound (f := fun i => 2 ^ (6 - l.getD i 0)) (n := i) (c := 64) (fun j _ => Nat.pow_le_pow_right (n := 2) (j := 6) (by omega) (by omega))
      unfold zl_tk at K1 K0
      exact ek_if (nI_ltI (a := 64) (by omega) (by omega)) (fun e2 => K0 (by omega)) (fun e2 => K1 (by omega))
    · have i6 := h6 _ (zr_mem (L := l) (i := i) (by omega))
      rw [nI_clamp (n := i) (by omega), hA i (by omega), zy_64 _ (by omega)]
      refine ⟨vp_in_nI (by omega) (by omega), nm_r (nI_add _ _) (nm_r (nI_1 i) (ih (i + 1) (by omega) (by omega)))⟩
theorem zy_cb {q : Int32 → Prop} {l : List Nat} {k : Nat} (hl : l.length = k) (hk : k ≤ 7) (h6 : ∀ x, x ∈ l → 1 ≤ x ∧ x ≤ 6) (hA : ∀ i, i < k → a_length i = nI (l.getD i 0)) (K1 : zl_tk k l ≤ 64 → q 1) (K0 : ¬ zl_tk k l ≤ 64 → q 0) : wpY_canBe q ((nI n), f_count, f_mark, a_text, a_column, a_ranks, a_symbols, a_row, a_often, a_length) (nI k) := by
  unfold wpY_canBe
  dsimp only
  exact ⟨k + 1, zy_cb4 hl hk h6 hA K1 K0 (k + 1) 0 (by omega) (by omega)⟩
/-- one way tried -/
theorem zy_c62 {J44 : zy_J6} {v : Nat → Nat} {l : List Nat} {k m way : Nat} (hl : l.length = k) (hk : k ≤ 7) (h6 : ∀ x, x ∈ l → 1 ≤ x ∧ x ≤ 6) (hA : ∀ i, i < k → a_length i = nI (l.getD i 0)) (hO : ∀ i, i < k → a_often i = nI (v i)) (h32 : ∀ i, i < k → v i ≤ 32) (hm : m < 2 ^ 31)
    (K0 : zl_nx l = none → J44 (nI (zl_up v k m l)) 0 (nI (way + 1)) (nI n) f_count f_mark a_text a_column a_ranks a_symbols a_row a_often a_length) (K1 : ∀ (b : List Nat) (a_length : Nat → Int32), zl_nx l = some b → (∀ i, i < k → a_length i = nI (b.getD i 0)) → J44 (nI (zl_up v k m l)) 1 (nI (way + 1)) (nI n) f_count f_mark a_text a_column a_ranks a_symbols a_row a_often a_length) :
    ∀ (f i : Nat), i ≤ k → k - i < f → wY_cost_62 post J44 (nI k) (nI m) (nI way) (nI n) f_count f_mark a_text a_column a_ranks a_symbols a_row a_often a_length f (nI (zs_sm (fun i => v i * l.getD i 0) i)) (nI i) := by
  have c115 : ∀ x : Nat, zl_up v k m l = x → wY_cost_115 post J44 (nI k) (nI x) (nI way) (nI n) f_count f_mark a_text a_column a_ranks a_symbols a_row a_often a_length := by
    intro x hx
    rw [hx] at K0 K1
    unfold wY_cost_115
    subst hl
    refine zy_next hk h6 hA (fun h => ?_) (fun b a_length h hb => ?_)
    · exact nm_r (nI_1 way) (K0 h)
    · exact nm_r (nI_1 way) (K1 b a_length h hb)
  have cb : zl_co v k l ≤ k * 192 := zs_bound (fun i hi => by
    have a := h32 i hi
    have b := (h6 _ (zr_mem (L := l) (i := i) (by omega))).2
    exact Nat.mul_le_mul a b)
  intro f
  induction f with
  | zero => intro i hi hf; omega
  | succ f ih =>
    intro i hi hf
    rw [wY_cost_62]
    refine ek_if (nI_leI (by omega) (by omega)) (fun e => ?_) (fun e => ?_)
    · have : i = k := by omega
      subst this
      refine zy_cb hl hk h6 hA (fun tk => br_f (by decide) ?_) (fun tk => br_t rfl ?_)
      · refine ek_if (zx_eq0 hm) (fun e2 => ?_) (fun e2 => ?_)
        · unfold wY_cost_112
          refine c115 _ ?_
          unfold zl_up
          rw [if_pos ⟨tk, Or.inl e2⟩]; rfl
        · refine ek_if (nI_leI hm (by unfold zl_co at cb; omega)) (fun e3 => ?_) (fun e3 => ?_)
          · refine c115 _ ?_
            unfold zl_up
            rw [if_neg (by unfold zl_co; omega)]
          · unfold wY_cost_112
            refine c115 _ ?_
            unfold zl_up
            rw [if_pos ⟨tk, Or.inr (by unfold zl_co; omega)⟩]; rfl
      · refine c115 _ ?_
        unfold zl_up
        rw [if_neg (fun x => tk x.1)]
    · rw [nI_clamp (n := i) (by omega), hA i (by omega), hO i (by omega), pk_mul]
      refine ⟨vp_in_nI (by omega) (by omega), vp_in_nI (by omega) (by omega), nm_r (nI_add _ _) (nm_r (nI_1 i) (ih (i + 1) (by omega) (by omega)))⟩
/-- all the ways -/
theorem zy_c44 {v : Nat → Nat} {k : Nat} (h1 : 1 ≤ k) (hk : k ≤ 7) (hO : ∀ i, i < k → a_often i = nI (v i)) (h32 : ∀ i, i < k → v i ≤ 32) (hv0 : 1 ≤ v 0)
    (K : ∀ (a_length : Nat → Int32) (m : Nat), zl_ok v k (zl_gen k 1) m → post (nI m) ((nI n), f_count, f_mark, a_text, a_column, a_ranks, a_symbols, a_row, a_often, a_length)) :
    ∀ (R P : List (List Nat)) (l : List Nat) (m f : Nat) (a_length : Nat → Int32), P ++ l :: R = zl_gen k 1 → zl_ch (l :: R) = true → zl_ok v k P m → m < 2 ^ 31 → R.length + 1 < f → (∀ i, i < k → a_length i = nI (l.getD i 0)) → wY_cost_44 post (nI k) f (nI m) 1 (nI P.length) (nI n) f_count f_mark a_text a_column a_ranks a_symbols a_row a_often a_length := by
  have F := zl_facts h1 hk
  intro R
  induction R with
  | nil =>
    intro P l m f a_length hP hch hok hm hf hA
    obtain ⟨f, rfl⟩ : ∃ f', f = f' + 1 + 1 := ⟨f - 2, by simp only [List.length_nil] at hf; omega⟩
    have lm : l ∈ zl_gen k 1 := by rw [← hP]; exact List.mem_append.mpr (Or.inr (List.mem_cons.mpr (Or.inl rfl)))
    have fl := F.2.2.2 l lm
    have len : P.length + 1 ≤ 792 := by
      have := congrArg List.length hP
      rw [List.length_append, List.length_cons] at this
      have := F.2.1
      omega
    have nn : zl_nx l = none := eq_of_beq hch
    have co0 : zl_co v k l ≠ 0 := by
      have a := zs_mem (f := fun i => v i * l.getD i 0) (n := k) (a := 0) (by omega)
      have b := (fl.2 _ (zr_mem (L := l) (i := 0) (by omega))).1
      have : 0 < v 0 * l.getD 0 0 := Nat.mul_pos (by omega) (by omega)
      unfold zl_co
      omega
    have ok' := zl_ok1 hok co0
    rw [hP] at ok'
    rw [wY_cost_44]
    refine br_f (nI_ge (b := 800) (by omega) (by omega)) (br_f (by decide) ⟨k + 1, ?_⟩)
    refine zy_c62 fl.1 hk fl.2 hA hO h32 hm (fun _ => ?_) (fun b a_length h _ => by rw [nn] at h; cases h) (k + 1) 0 (by omega) (by omega)
    rw [wY_cost_44]
    exact br_c (fun _ => K a_length _ ok') (fun _ => br_t rfl (K a_length _ ok'))
  | cons b R ih =>
    intro P l m f a_length hP hch hok hm hf hA
    obtain ⟨f, rfl⟩ : ∃ f', f = f' + 1 := ⟨f - 1, by omega⟩
    have lm : l ∈ zl_gen k 1 := by rw [← hP]; exact List.mem_append.mpr (Or.inr (List.mem_cons.mpr (Or.inl rfl)))
    have fl := F.2.2.2 l lm
    have len : P.length + 1 ≤ 792 := by
      have := congrArg List.length hP
      rw [List.length_append, List.length_cons] at this
      have := F.2.1
      omega
    have hc2 : (zl_nx l == some b) = true ∧ zl_ch (b :: R) = true := by
      have : zl_ch (l :: b :: R) = ((zl_nx l == some b) && zl_ch (b :: R)) := rfl
      rw [this, Bool.and_eq_true] at hch
      exact hch
    have nn : zl_nx l = some b := eq_of_beq hc2.1
    have co0 : zl_co v k l ≠ 0 := by
      have a := zs_mem (f := fun i => v i * l.getD i 0) (n := k) (a := 0) (by omega)
      have b := (fl.2 _ (zr_mem (L := l) (i := 0) (by omega))).1
      have : 0 < v 0 * l.getD 0 0 := Nat.mul_pos (by omega) (by omega)
      unfold zl_co
      omega
    have cb : zl_co v k l ≤ k * 192 := zs_bound (fun i hi => by
      have a := h32 i hi
      have b := (fl.2 _ (zr_mem (L := l) (i := i) (by omega))).2
      exact Nat.mul_le_mul a b)
    have um : zl_up v k m l < 2 ^ 31 := by
      unfold zl_up
      split <;> omega
    have ok' := zl_ok1 hok co0
    rw [wY_cost_44]
    refine br_f (nI_ge (b := 800) (by omega) (by omega)) (br_f (by decide) ⟨k + 1, ?_⟩)
    refine zy_c62 fl.1 hk fl.2 hA hO h32 hm (fun h => by rw [nn] at h; cases h) (fun b' a_length h hb => ?_) (k + 1) 0 (by omega) (by omega)
    rw [nn] at h
    have eb := Option.some.inj h
    subst eb
    have el : (P ++ [l]).length = P.length + 1 := by rw [List.length_append, List.length_singleton]
    have nx := ih (P ++ [l]) b (zl_up v k m l) f a_length (by rw [List.append_assoc]; exact hP) hc2.2 ok' um (by rw [List.length_cons] at hf; omega) hb
    rw [el] at nx
    exact nx
theorem zy_c20 {x3 : Int32} {k : Nat} (K : ∀ a_length : Nat → Int32, (∀ i, i < 7 → a_length i = nI 1) → ∃ n44, wY_cost_44 post (nI k) n44 0 x3 0 (nI n) f_count f_mark a_text a_column a_ranks a_symbols a_row a_often a_length) :
    ∀ (f i : Nat) (a_length : Nat → Int32), i ≤ 7 → 7 - i < f → (∀ j, j < i → a_length j = nI 1) → wY_cost_20 post (nI k) 0 x3 (nI n) f_count f_mark f (nI i) a_text a_column a_ranks a_symbols a_row a_often a_length := by
  intro f
  induction f with
  | zero => intro i a_length hi hf; omega
  | succ f ih =>
    intro i a_length hi hf h
    rw [wY_cost_20]
    refine ek_if (nI_leI (a := 7) (by omega) (by omega)) (fun e => K a_length (fun j hj => h j (by omega))) (fun e => ?_)
    rw [nI_clamp (n := i) (by omega)]
    refine ⟨vp_in_nI (by omega) (by omega), nm_e (nm_r (nI_1 i) (ih (i + 1) _ (by omega) (by omega) (fun j hj => ?_)))⟩
    by_cases e2 : j = i
    · subst e2; rw [pk_us]; rfl
    · rw [pk_un e2]; exact h j (by omega)
theorem zl_rep {k i : Nat} (h : i < k) : (List.replicate k 1).getD i 0 = 1 := by
  rw [List.getD_eq_getElem?_getD, List.getElem?_replicate, if_pos h]; rfl
theorem zy_cost {B : Nat → Nat} (hn : n ≤ 32) (ht : ∀ i, i < n → t i < 6) (hT : ∀ i, i < n → a_text i = nI (t i)) (hF : zh_Fin (zh_w (zx_S n t)) B)
    (K : ∀ (f_count f_mark : Int32) (a_column a_ranks a_symbols a_row a_often a_length : Nat → Int32), post (nI (zh_co (zh_w (zx_S n t)) B)) ((nI n), f_count, f_mark, a_text, a_column, a_ranks, a_symbols, a_row, a_often, a_length)) : wpY_cost post ((nI n), f_count, f_mark, a_text, a_column, a_ranks, a_symbols, a_row, a_often, a_length) := by
  unfold wpY_cost
  dsimp only
  have tot := zh_w_tot (zx_S_7 hn ht)
  have sl := zx_S_len (t := t) hn
  have hw : ∀ s, s < 7 → zh_w (zx_S n t) s ≤ 32 := fun s hs => by have := zs_mem (f := zh_w (zx_S n t)) hs; omega
  refine zy_cnt hn ht hT (fun f_count f_mark a_column a_ranks a_symbols a_row a_often v hV hs => ?_)
  obtain ⟨⟨π, hπ, hv⟩, hA⟩ := hV
  have k7 := zl_kn7 v
  have al : ∀ i, i < 7 → (v i ≠ 0 ↔ i < zl_kn v) := fun i hi => zl_kinds hs hi
  refine ek_if (zx_le0 (by omega)) (fun e => ⟨8, ?_⟩) (fun e => ⟨8, ?_⟩)
  · refine zy_c20 (fun a_length h => ⟨1, ?_⟩) 8 0 a_length (by omega) (by omega) (fun j hj => absurd hj (by omega))
    have z : zh_co (zh_w (zx_S n t)) B = 0 := by
      unfold zh_co
      rw [← zp_re hπ (fun s => zh_w (zx_S n t) s * B s)]
      refine zs_zero (fun i hi => ?_)
      have : v i = 0 := by
        by_cases c : v i = 0
        · exact c
        · have := (al i hi).mp c; omega
      rw [← hv i hi, this, Nat.zero_mul]
    have k := K f_count f_mark a_column a_ranks a_symbols a_row a_often a_length
    rw [z] at k
    rw [wY_cost_44]
    exact br_c (fun _ => k) (fun _ => br_t rfl k)
  · refine zy_c20 (fun a_length h => ?_) 8 0 a_length (by omega) (by omega) (fun j hj => absurd hj (by omega))
    have F := zl_facts (k := zl_kn v) (by omega) k7
    obtain ⟨r, hr⟩ := F.2.2.1
    refine ⟨r.length + 2, ?_⟩
    have ch := F.1
    rw [hr] at ch
    refine zy_c44 (v := v) (by omega) k7 (fun i hi => hA i (by omega)) (fun i hi => by rw [hv i (by omega)]; exact hw _ (hπ.1 i (by omega))) (by have := (al 0 (by omega)).mpr (by omega); omega) (fun a_length m hm => ?_) r [] (List.replicate (zl_kn v) 1) 0 (r.length + 2) a_length hr.symm ch (zl_ok0 _ _) (by omega) (by omega) (fun i hi => by rw [h i (by omega), zl_rep hi])
    have e2 := zl_final hF hπ hv hs hm (by omega)
    rw [e2]
    exact K f_count f_mark a_column a_ranks a_symbols a_row a_often a_length
end ZYC
end
section
section ZXF
theorem zx_gb1 (x : Int32) {s : Nat} (hs : s < 7) : (x >>> (nI s &&& 31)) &&& 1 = nI (if bt x s = true then 1 else 0) := by
  have h := zx_gbit x hs
  by_cases c : bt x s = true
  · rw [if_pos c]
    have ne : ¬ (x >>> (nI s &&& 31)) &&& 1 = 0 := fun e => by
      have := h.mp e
      rw [c] at this
      cases this
    rw [pk_and _ 1 (by decide)] at ne ⊢
    have l := Nat.mod_lt (x >>> (nI s &&& 31)).toBitVec.toNat (y := 2 ^ 1) (by decide)
    generalize (x >>> (nI s &&& 31)).toBitVec.toNat % 2 ^ 1 = y at *
    have : y ≠ 0 := fun e => ne (by rw [e]; rfl)
    have : y = 1 := by omega
    rw [this]
  · rw [if_neg c]
    have : bt x s = false := ts_nt c
    rw [h.mpr this]; rfl
variable {n : Nat} {post : Int32 → SX → Prop} {f_length f_coded f_markAt f_symbolCount f_bitCount : Int32} {a_text a_order a_classOf a_nextClass a_columnOf a_ranks a_symbolList a_row a_weight a_group a_bitsOf a_codeOf a_back a_stepTo : Nat → Int32} {a_stream : Nat → Int64}
theorem zx_d37 {w : Nat → Nat} {x1 : Int32} (hx : ∀ s, s < 7 → bt x1 s = decide (w s ≠ 0)) (K : post (nI (zl_kn w)) (f_length, f_coded, f_markAt, f_symbolCount, f_bitCount, a_text, a_order, a_classOf, a_nextClass, a_columnOf, a_ranks, a_symbolList, a_row, a_weight, a_group, a_bitsOf, a_codeOf, a_stream, a_back, a_stepTo)) :
    ∀ (f i : Nat), i ≤ 7 → 7 - i < f → wX_different_37 post x1 f_length f_coded f_markAt f_symbolCount f_bitCount a_text a_order a_classOf a_nextClass a_columnOf a_ranks a_symbolList a_row a_weight a_group a_bitsOf a_codeOf a_stream a_back a_stepTo f (nI (zs_sm (fun s => if w s = 0 then 0 else 1) i)) (nI i) := by
  intro f
  induction f with
  | zero => intro i hi hf; omega
  | succ f ih =>
    intro i hi hf
    rw [wX_different_37]
    refine ek_if (nI_leI (a := 7) (by omega) (by omega)) (fun e => ?_) (fun e => ?_)
    · have : i = 7 := by omega
      subst this
      exact K
    · have nx := ih (i + 1) (by omega) (by omega)
      rw [zs_s] at nx
      rw [zx_gb1 x1 (by omega), hx i (by omega)]
      have ei : (if decide (w i ≠ 0) = true then 1 else 0) = if w i = 0 then 0 else 1 := by
        by_cases c : w i = 0
        · rw [if_pos c, if_neg (by rw [decide_eq_true_eq]; exact fun x => x c)]
        · rw [if_neg c, if_pos (decide_eq_true c)]
      rw [ei]
      exact nm_r (nI_add _ _) (nm_r (nI_1 i) nx)
theorem zx_d8 {L : List Nat} (hL : L.length ≤ 32) (h7 : ∀ x, x ∈ L → x < 7) (hS : zr_ho L a_symbolList) (K : post (nI (zl_kn (zh_w L))) (f_length, f_coded, f_markAt, (nI L.length), f_bitCount, a_text, a_order, a_classOf, a_nextClass, a_columnOf, a_ranks, a_symbolList, a_row, a_weight, a_group, a_bitsOf, a_codeOf, a_stream, a_back, a_stepTo)) :
    ∀ (f k : Nat) (x1 : Int32), k ≤ L.length → L.length - k < f → (∀ s, s < 7 → bt x1 s = decide (zh_wk L k s ≠ 0)) → wX_different_8 post f_length f_coded f_markAt (nI L.length) f_bitCount a_text a_order a_classOf a_nextClass a_columnOf a_ranks a_symbolList a_row a_weight a_group a_bitsOf a_codeOf a_stream a_back a_stepTo f x1 (nI k) := by
  intro f
  induction f with
  | zero => intro k x1 hk hf; omega
  | succ f ih =>
    intro k x1 hk hf hx
    rw [wX_different_8]
    refine ek_if (nI_leI (by omega) (by omega)) (fun e => ⟨8, ?_⟩) (fun e => ?_)
    · have : k = L.length := by omega
      subst this
      exact zx_d37 (w := zh_w L) hx K 8 0 (by omega) (by omega)
    · have hk' : k < L.length := by omega
      have s7 := h7 _ (zr_mem hk')
      rw [nI_clamp (n := k) (by omega), hS k hk']
      refine ⟨vp_in_nI (by omega) (by omega), nm_e (nm_r (nI_1 k) (ih (k + 1) _ (by omega) (by omega) (fun s hs => ?_)))⟩
      rw [b_or, hx s hs, zx_g1 _ s7 s hs, zh_wk_s]
      by_cases c : s = L.getD k 0
      · rw [if_pos c.symm, decide_eq_true c, Bool.or_true]
        exact (decide_eq_true (by omega)).symm
      · rw [if_neg (fun x => c x.symm), decide_eq_false c, Bool.or_false]; rfl
end ZXF
end
section
section ZZ
/-- the relation: one text, and what is coded of it -/
def i_Rel (k : Nat) (u : SX) (v : SY) : Prop := match u, v with
  | (f_length, f_coded, f_markAt, f_symbolCount, f_bitCount, a_text, a_order, a_classOf, a_nextClass, a_columnOf, a_ranks, a_symbolList, a_row, a_weight, a_group, a_bitsOf, a_codeOf, a_stream, a_back, a_stepTo), (g_n, g_count, g_mark, b_text, b_column, b_ranks, b_symbols, b_row, b_often, b_length) => ∃ (n : Nat) (t : Nat → Nat), n ≤ 32 ∧ (∀ i, i < n → t i < 6) ∧ f_length = nI n ∧ g_n = nI n ∧ (∀ i, i < n → a_text i = nI (t i)) ∧ (∀ i, i < n → b_text i = nI (t i)) ∧ (f_coded = 0 ∨ (f_coded = 1 ∧ zx_Cd n t f_markAt f_symbolCount f_bitCount a_columnOf a_ranks a_symbolList a_bitsOf a_codeOf a_stream))
theorem zz_el {P : SX → SY → Prop} (h : ∀ (n : Nat) (t : Nat → Nat) (f_coded f_markAt f_symbolCount f_bitCount : Int32) (a_text a_order a_classOf a_nextClass a_columnOf a_ranks a_symbolList a_row a_weight a_group a_bitsOf a_codeOf : Nat → Int32) (a_stream : Nat → Int64) (a_back a_stepTo : Nat → Int32) (g_count g_mark : Int32) (b_text b_column b_ranks b_symbols b_row b_often b_length : Nat → Int32), n ≤ 32 → (∀ i, i < n → t i < 6) → (∀ i, i < n → a_text i = nI (t i)) → (∀ i, i < n → b_text i = nI (t i)) → (f_coded = 0 ∨ (f_coded = 1 ∧ zx_Cd n t f_markAt f_symbolCount f_bitCount a_columnOf a_ranks a_symbolList a_bitsOf a_codeOf a_stream)) → P ((nI n), f_coded, f_markAt, f_symbolCount, f_bitCount, a_text, a_order, a_classOf, a_nextClass, a_columnOf, a_ranks, a_symbolList, a_row, a_weight, a_group, a_bitsOf, a_codeOf, a_stream, a_back, a_stepTo) ((nI n), g_count, g_mark, b_text, b_column, b_ranks, b_symbols, b_row, b_often, b_length)) {k : Nat} {u : SX} {v : SY} (I : i_Rel k u v) : P u v := by
  obtain ⟨f_length, f_coded, f_markAt, f_symbolCount, f_bitCount, a_text, a_order, a_classOf, a_nextClass, a_columnOf, a_ranks, a_symbolList, a_row, a_weight, a_group, a_bitsOf, a_codeOf, a_stream, a_back, a_stepTo⟩ := u
  obtain ⟨g_n, g_count, g_mark, b_text, b_column, b_ranks, b_symbols, b_row, b_often, b_length⟩ := v
  obtain ⟨n, t, hn, ht, e1, e2, h1, h2, h3⟩ := I
  subst e1
  subst e2
  exact h n t f_coded f_markAt f_symbolCount f_bitCount a_text a_order a_classOf a_nextClass a_columnOf a_ranks a_symbolList a_row a_weight a_group a_bitsOf a_codeOf a_stream a_back a_stepTo g_count g_mark b_text b_column b_ranks b_symbols b_row b_often b_length hn ht h1 h2 h3
variable {n : Nat} {t : Nat → Nat} {f_coded f_markAt f_symbolCount f_bitCount : Int32} {a_text a_order a_classOf a_nextClass a_columnOf a_ranks a_symbolList a_row a_weight a_group a_bitsOf a_codeOf a_back a_stepTo : Nat → Int32} {a_stream : Nat → Int64} {g_count g_mark : Int32} {b_text b_column b_ranks b_symbols b_row b_often b_length : Nat → Int32}
theorem zz_in {k : Nat} (hn : n ≤ 32) (ht : ∀ i, i < n → t i < 6) (h1 : ∀ i, i < n → a_text i = nI (t i)) (h2 : ∀ i, i < n → b_text i = nI (t i)) (h3 : f_coded = 0 ∨ (f_coded = 1 ∧ zx_Cd n t f_markAt f_symbolCount f_bitCount a_columnOf a_ranks a_symbolList a_bitsOf a_codeOf a_stream)) : i_Rel k ((nI n), f_coded, f_markAt, f_symbolCount, f_bitCount, a_text, a_order, a_classOf, a_nextClass, a_columnOf, a_ranks, a_symbolList, a_row, a_weight, a_group, a_bitsOf, a_codeOf, a_stream, a_back, a_stepTo) ((nI n), g_count, g_mark, b_text, b_column, b_ranks, b_symbols, b_row, b_often, b_length) :=
  ⟨n, t, hn, ht, rfl, rfl, h1, h2, h3⟩
theorem i_up {k : Nat} {u : SX} {v : SY} (h : i_Rel k u v) : i_Rel (k + 2) u v := h
theorem i_vc0 : wpX_init (fun u => wpY_init (fun v => i_Rel 0 u v)) :=
  ⟨0, fun _ => 0, by omega, fun i hi => absurd hi (by omega), nI_0.symm, nI_0.symm, fun i hi => absurd hi (by omega), fun i hi => absurd hi (by omega), Or.inl rfl⟩
theorem i_vc_type {k : Nat} {u : SX} {v : SY} (I : i_Rel k u v) (hk : k + 2 ≤ 1024) (v1 : Int32) : wpX_type (fun r u' => wpY_type (fun r' v' => r' = r ∧ i_Rel (k + 2) u' v') v v1) u v1 := by
  refine zz_el (P := fun u v => wpX_type (fun r u' => wpY_type (fun r' v' => r' = r ∧ i_Rel (k + 2) u' v') v v1) u v1) ?_ I
  intro n t f_coded f_markAt f_symbolCount f_bitCount a_text a_order a_classOf a_nextClass a_columnOf a_ranks a_symbolList a_row a_weight a_group a_bitsOf a_codeOf a_stream a_back a_stepTo g_count g_mark b_text b_column b_ranks b_symbols b_row b_often b_length hn ht h1 h2 h3
  unfold wpX_type wpY_type
  dsimp only
  have R := zz_in (k := k + 2) (f_markAt := f_markAt) (f_symbolCount := f_symbolCount) (f_bitCount := f_bitCount) (a_order := a_order) (a_classOf := a_classOf) (a_nextClass := a_nextClass) (a_columnOf := a_columnOf) (a_ranks := a_ranks) (a_symbolList := a_symbolList) (a_row := a_row) (a_weight := a_weight) (a_group := a_group) (a_bitsOf := a_bitsOf) (a_codeOf := a_codeOf) (a_stream := a_stream) (a_back := a_back) (a_stepTo := a_stepTo) (g_count := g_count) (g_mark := g_mark) (b_column := b_column) (b_ranks := b_ranks) (b_symbols := b_symbols) (b_row := b_row) (b_often := b_often) (b_length := b_length) hn ht h1 h2 h3
  refine ek_if (nI_ltI (b := 32) (by omega) (by omega)) (fun e => ?_) (fun e => ?_)
  · have n32 : ¬ nI n = 32 := fun x => by have := (nI_eq (b := 32) (by omega) (by omega)).mp x; omega
    refine br_c (fun c => br_f n32 (br_t c ⟨rfl, R⟩)) (fun c => ?_)
    obtain ⟨j, hj, rfl⟩ := nI_of c
    refine ek_if (nI_ltI (b := 6) (by omega) (by omega)) (fun e2 => ?_) (fun e2 => ?_)
    · rw [nI_clamp (n := n) (by omega), zx_nb8 (x := j) (by omega)]
      refine ⟨vp_in_nI (by omega) (by omega), nm_e (nm_r (nI_1 n) (br_f n32 (br_f c (br_t (nI_le (b := 5) (by omega) (by omega)) ⟨vp_in_nI (by omega) (by omega), nm_e (nm_r (nI_1 n) ⟨rfl, ?_⟩)⟩))))⟩
      refine zz_in (n := n + 1) (t := fun i => if i = n then j else t i) (by omega) (fun i hi => ?_) (fun i hi => ?_) (fun i hi => ?_) (Or.inl rfl)
      · by_cases c2 : i = n
        · rw [if_pos c2]; exact e2
        · rw [if_neg c2]; exact ht i (by omega)
      · by_cases c2 : i = n
        · rw [if_pos c2, c2, pk_us]
        · rw [if_neg c2, pk_un c2]; exact h1 i (by omega)
      · by_cases c2 : i = n
        · rw [if_pos c2, c2, pk_us]
        · rw [if_neg c2, pk_un c2]; exact h2 i (by omega)
    · exact br_f n32 (br_f c (br_f (nI_ge (b := j) (a := 5) (by omega) (by omega)) ⟨rfl, R⟩))
  · exact br_t (show nI n = 32 from (nI_eq (b := 32) (by omega) (by omega)).mpr (by omega)) ⟨rfl, R⟩
/-! repeating -/
def zz_rp (n c : Nat) (t : Nat → Nat) (i : Nat) : Nat := if i < n then t i else t (i - c)
theorem zz_x38 {post : Int32 → SX → Prop} {c : Nat} (hc1 : 1 ≤ c) (hcn : c ≤ n) (h32 : n + c ≤ 32) (ht : ∀ i, i < n → t i < 6) (K : ∀ a_text : Nat → Int32, (∀ i, i < n + c → a_text i = nI (zz_rp n c t i)) → post (nI (n + c)) ((nI (n + c)), 0, f_markAt, f_symbolCount, f_bitCount, a_text, a_order, a_classOf, a_nextClass, a_columnOf, a_ranks, a_symbolList, a_row, a_weight, a_group, a_bitsOf, a_codeOf, a_stream, a_back, a_stepTo)) :
    ∀ (f j : Nat) (a_text : Nat → Int32), j ≤ c → c - j < f → (∀ i, i < n + j → a_text i = nI (zz_rp n c t i)) → wX_repeat_38 post (nI c) (nI (n - c)) (nI n) f_coded f_markAt f_symbolCount f_bitCount f (nI j) a_text a_order a_classOf a_nextClass a_columnOf a_ranks a_symbolList a_row a_weight a_group a_bitsOf a_codeOf a_stream a_back a_stepTo := by
  intro f
  induction f with
  | zero => intro j a_text hj hf; omega
  | succ f ih =>
    intro j a_text hj hf h
    rw [wX_repeat_38]
    refine ek_if (nI_leI (by omega) (by omega)) (fun e => ?_) (fun e => ?_)
    · exact nm_r (nI_add n c) (K a_text (fun i hi => h i (by omega)))
    · have r1 : a_text (n - c + j) = nI (t (n - c + j)) := by
        rw [h (n - c + j) (by omega)]
        unfold zz_rp
        rw [if_pos (by omega)]
      have t6 := ht (n - c + j) (by omega)
      rw [nI_add (n - c) j, nI_add n j, nI_clamp (n := n - c + j) (by omega), nI_clamp (n := n + j) (by omega), r1, zx_nb (x := t (n - c + j)) (by omega)]
      refine ⟨vp_in_nI (by omega) (by omega), vp_in_nI (by omega) (by omega), nm_e (nm_r (nI_1 j) (ih (j + 1) _ (by omega) (by omega) (fun i hi => ?_)))⟩
      by_cases e2 : i = n + j
      · subst e2
        rw [pk_us]
        unfold zz_rp
        rw [if_neg (by omega)]
        congr 2
        omega
      · rw [pk_un e2]; exact h i (by omega)
theorem zz_y31 {post : Int32 → SY → Prop} {c : Nat} (hc1 : 1 ≤ c) (hcn : c ≤ n) (h32 : n + c ≤ 32) (K : ∀ b_text : Nat → Int32, (∀ i, i < n + c → b_text i = nI (zz_rp n c t i)) → post (nI (n + c)) ((nI (n + c)), g_count, g_mark, b_text, b_column, b_ranks, b_symbols, b_row, b_often, b_length)) :
    ∀ (f j : Nat) (b_text : Nat → Int32), j ≤ c → c - j < f → (∀ i, i < n + j → b_text i = nI (zz_rp n c t i)) → wY_repeat_31 post (nI c) (nI n) g_count g_mark f (nI j) b_text b_column b_ranks b_symbols b_row b_often b_length := by
  intro f
  induction f with
  | zero => intro j b_text hj hf; omega
  | succ f ih =>
    intro j b_text hj hf h
    rw [wY_repeat_31]
    refine ek_if (nI_leI (by omega) (by omega)) (fun e => ?_) (fun e => ?_)
    · exact nm_r (nI_add n c) (K b_text (fun i hi => h i (by omega)))
    · have r1 : b_text (n + j - c) = nI (t (n + j - c)) := by
        rw [h (n + j - c) (by omega)]
        unfold zz_rp
        rw [if_pos (by omega)]
      rw [nI_add n j, pk_sub (a := n + j) (b := c) (by omega), nI_clamp (n := n + j - c) (by omega), nI_clamp (n := n + j) (by omega), r1]
      refine ⟨vp_in_nI (by omega) (by omega), vp_in_nI (by omega) (by omega), nm_e (nm_r (nI_1 j) (ih (j + 1) _ (by omega) (by omega) (fun i hi => ?_)))⟩
      by_cases e2 : i = n + j
      · subst e2
        rw [pk_us]
        unfold zz_rp
        rw [if_neg (by omega)]
      · rw [pk_un e2]; exact h i (by omega)
theorem i_vc_repeat {k : Nat} {u : SX} {v : SY} (I : i_Rel k u v) (hk : k + 2 ≤ 1024) (v1 : Int32) : wpX_repeat (fun r u' => wpY_repeat (fun r' v' => r' = r ∧ i_Rel (k + 2) u' v') v v1) u v1 := by
  refine zz_el (P := fun u v => wpX_repeat (fun r u' => wpY_repeat (fun r' v' => r' = r ∧ i_Rel (k + 2) u' v') v v1) u v1) ?_ I
  intro n t f_coded f_markAt f_symbolCount f_bitCount a_text a_order a_classOf a_nextClass a_columnOf a_ranks a_symbolList a_row a_weight a_group a_bitsOf a_codeOf a_stream a_back a_stepTo g_count g_mark b_text b_column b_ranks b_symbols b_row b_often b_length hn ht h1 h2 h3
  unfold wpX_repeat
  dsimp only
  have R := zz_in (k := k + 2) (f_markAt := f_markAt) (f_symbolCount := f_symbolCount) (f_bitCount := f_bitCount) (a_order := a_order) (a_classOf := a_classOf) (a_nextClass := a_nextClass) (a_columnOf := a_columnOf) (a_ranks := a_ranks) (a_symbolList := a_symbolList) (a_row := a_row) (a_weight := a_weight) (a_group := a_group) (a_bitsOf := a_bitsOf) (a_codeOf := a_codeOf) (a_stream := a_stream) (a_back := a_back) (a_stepTo := a_stepTo) (g_count := g_count) (g_mark := g_mark) (b_column := b_column) (b_ranks := b_ranks) (b_symbols := b_symbols) (b_row := b_row) (b_often := b_often) (b_length := b_length) hn ht h1 h2 h3
  refine br_c (fun c => br_t c ⟨rfl, R⟩) (fun c => ?_)
  have c0 : ¬ v1 < 0 := fun x => c (Int32.lt_of_lt_of_le x (by decide))
  obtain ⟨j, hj, rfl⟩ := nI_of c0
  have j1 : 1 ≤ j := by
    by_cases e : j = 0
    · subst e; exact absurd (show nI 0 < 1 by decide) c
    · omega
  refine ek_if (nI_leI (by omega) (by omega)) (fun e => ?_) (fun e => ?_)
  · rw [nI_add]
    have le : nI j ≤ nI n := (nI_leI (by omega) (by omega)).mpr e
    refine ek_if (nI_leI (b := 32) (by omega) (by omega)) (fun e2 => ?_) (fun e2 => ?_)
    · refine nm_r (pk_sub e) ⟨j + 1, ?_⟩
      have rp : ∀ (a : Nat → Int32), (∀ i, i < n → a i = nI (t i)) → ∀ i, i < n + 0 → a i = nI (zz_rp n j t i) := by
        intro a ha i hi
        unfold zz_rp
        rw [if_pos (by omega)]
        exact ha i (by omega)
      refine zz_x38 (t := t) j1 e e2 ht (fun a_text ha => ?_) (j + 1) 0 a_text (by omega) (by omega) (rp a_text h1)
      unfold wpY_repeat
      dsimp only
      refine br_f c (br_t le ?_)
      rw [nI_add]
      refine br_t ((nI_leI (b := 32) (by omega) (by omega)).mpr e2) ⟨j + 1, ?_⟩
      refine zz_y31 (t := t) j1 e e2 (fun b_text hb => ⟨rfl, ?_⟩) (j + 1) 0 b_text (by omega) (by omega) (rp b_text h2)
      refine zz_in (n := n + j) (t := zz_rp n j t) e2 (fun i hi => ?_) ha hb (Or.inl rfl)
      unfold zz_rp
      by_cases c2 : i < n
      · rw [if_pos c2]; exact ht i c2
      · rw [if_neg c2]; exact ht _ (by omega)
    · unfold wpY_repeat
      dsimp only
      refine br_f c (br_t le ?_)
      rw [nI_add]
      exact br_f (fun x => e2 ((nI_leI (b := 32) (by omega) (by omega)).mp x)) ⟨rfl, R⟩
  · exact br_f c (br_f (fun x => e ((nI_leI (by omega) (by omega)).mp x)) ⟨rfl, R⟩)
theorem i_vc_clear {k : Nat} {u : SX} {v : SY} (I : i_Rel k u v) (hk : k + 2 ≤ 1024) : wpX_clear (fun r u' => wpY_clear (fun r' v' => r' = r ∧ i_Rel (k + 2) u' v') v) u := by
  refine zz_el (P := fun u v => wpX_clear (fun r u' => wpY_clear (fun r' v' => r' = r ∧ i_Rel (k + 2) u' v') v) u) ?_ I
  intro n t f_coded f_markAt f_symbolCount f_bitCount a_text a_order a_classOf a_nextClass a_columnOf a_ranks a_symbolList a_row a_weight a_group a_bitsOf a_codeOf a_stream a_back a_stepTo g_count g_mark b_text b_column b_ranks b_symbols b_row b_often b_length hn ht h1 h2 h3
  exact ⟨rfl, 0, fun _ => 0, by omega, fun i hi => absurd hi (by omega), nI_0.symm, nI_0.symm, fun i hi => absurd hi (by omega), fun i hi => absurd hi (by omega), Or.inl rfl⟩
theorem i_vc_column {k : Nat} {u : SX} {v : SY} (I : i_Rel k u v) (hk : k + 2 ≤ 1024) (v1 : Int32) : wpX_column (fun r u' => wpY_column (fun r' v' => r' = r ∧ i_Rel (k + 2) u' v') v v1) u v1 := by
  refine zz_el (P := fun u v => wpX_column (fun r u' => wpY_column (fun r' v' => r' = r ∧ i_Rel (k + 2) u' v') v v1) u v1) ?_ I
  intro n t f_coded f_markAt f_symbolCount f_bitCount a_text a_order a_classOf a_nextClass a_columnOf a_ranks a_symbolList a_row a_weight a_group a_bitsOf a_codeOf a_stream a_back a_stepTo g_count g_mark b_text b_column b_ranks b_symbols b_row b_often b_length hn ht h1 h2 h3
  unfold wpX_column
  dsimp only
  refine zx_code hn ht h1 h3 (fun f_markAt f_symbolCount f_bitCount a_order a_classOf a_nextClass a_columnOf a_ranks a_symbolList a_row a_weight a_group a_bitsOf a_codeOf a_stream hC => ?_)
  refine br_c (fun c => ?_) (fun c => ?_)
  · unfold wpY_column
    dsimp only
    refine zy_enc hn ht h2 (fun f_count f_mark b_column b_ranks b_symbols b_row hE => ?_)
    exact br_t c ⟨rfl, zz_in hn ht h1 h2 (Or.inr ⟨rfl, hC⟩)⟩
  · obtain ⟨j, hj, rfl⟩ := nI_of c
    refine ek_if (nI_ltI (by omega) (by omega)) (fun e => ?_) (fun e => ?_)
    · rw [nI_clamp (n := j) (by omega)]
      refine ⟨vp_in_nI (by omega) (by omega), ?_⟩
      unfold wpY_column
      dsimp only
      refine zy_enc hn ht h2 (fun f_count f_mark b_column b_ranks b_symbols b_row hE => ?_)
      refine br_f c (br_f (nI_ge e (by omega)) ⟨vp_in_nI (by omega) (by omega), ?_, zz_in hn ht h1 h2 (Or.inr ⟨rfl, hC⟩)⟩)
      dsimp only
      rw [nI_clamp (n := j) (by omega), hE.2.1 j e, hC.2.1 j e]
    · unfold wpY_column
      dsimp only
      refine zy_enc hn ht h2 (fun f_count f_mark b_column b_ranks b_symbols b_row hE => ?_)
      exact br_f c (br_t (nI_le (by omega) (by omega)) ⟨rfl, zz_in hn ht h1 h2 (Or.inr ⟨rfl, hC⟩)⟩)
theorem i_vc_mark {k : Nat} {u : SX} {v : SY} (I : i_Rel k u v) (hk : k + 2 ≤ 1024) : wpX_mark (fun r u' => wpY_mark (fun r' v' => r' = r ∧ i_Rel (k + 2) u' v') v) u := by
  refine zz_el (P := fun u v => wpX_mark (fun r u' => wpY_mark (fun r' v' => r' = r ∧ i_Rel (k + 2) u' v') v) u) ?_ I
  intro n t f_coded f_markAt f_symbolCount f_bitCount a_text a_order a_classOf a_nextClass a_columnOf a_ranks a_symbolList a_row a_weight a_group a_bitsOf a_codeOf a_stream a_back a_stepTo g_count g_mark b_text b_column b_ranks b_symbols b_row b_often b_length hn ht h1 h2 h3
  unfold wpX_mark
  dsimp only
  refine zx_code hn ht h1 h3 (fun f_markAt f_symbolCount f_bitCount a_order a_classOf a_nextClass a_columnOf a_ranks a_symbolList a_row a_weight a_group a_bitsOf a_codeOf a_stream hC => ?_)
  refine br_c (fun c => ?_) (fun c => ?_)
  · unfold wpY_mark
    dsimp only
    refine zy_enc hn ht h2 (fun f_count f_mark b_column b_ranks b_symbols b_row hE => ?_)
    exact br_t c ⟨rfl, zz_in hn ht h1 h2 (Or.inr ⟨rfl, hC⟩)⟩
  · have n0 : 0 < n := by
      by_cases e : n = 0
      · subst e; exact absurd nI_0 c
      · omega
    unfold wpY_mark
    dsimp only
    refine zy_enc hn ht h2 (fun f_count f_mark b_column b_ranks b_symbols b_row hE => ?_)
    exact br_f c ⟨by rw [hE.1 n0, hC.1 n0], zz_in hn ht h1 h2 (Or.inr ⟨rfl, hC⟩)⟩
theorem i_vc_rank {k : Nat} {u : SX} {v : SY} (I : i_Rel k u v) (hk : k + 2 ≤ 1024) (v1 : Int32) : wpX_rank (fun r u' => wpY_rank (fun r' v' => r' = r ∧ i_Rel (k + 2) u' v') v v1) u v1 := by
  refine zz_el (P := fun u v => wpX_rank (fun r u' => wpY_rank (fun r' v' => r' = r ∧ i_Rel (k + 2) u' v') v v1) u v1) ?_ I
  intro n t f_coded f_markAt f_symbolCount f_bitCount a_text a_order a_classOf a_nextClass a_columnOf a_ranks a_symbolList a_row a_weight a_group a_bitsOf a_codeOf a_stream a_back a_stepTo g_count g_mark b_text b_column b_ranks b_symbols b_row b_often b_length hn ht h1 h2 h3
  unfold wpX_rank
  dsimp only
  refine zx_code hn ht h1 h3 (fun f_markAt f_symbolCount f_bitCount a_order a_classOf a_nextClass a_columnOf a_ranks a_symbolList a_row a_weight a_group a_bitsOf a_codeOf a_stream hC => ?_)
  refine br_c (fun c => ?_) (fun c => ?_)
  · unfold wpY_rank
    dsimp only
    refine zy_enc hn ht h2 (fun f_count f_mark b_column b_ranks b_symbols b_row hE => ?_)
    exact br_t c ⟨rfl, zz_in hn ht h1 h2 (Or.inr ⟨rfl, hC⟩)⟩
  · obtain ⟨j, hj, rfl⟩ := nI_of c
    refine ek_if (nI_ltI (by omega) (by omega)) (fun e => ?_) (fun e => ?_)
    · rw [nI_clamp (n := j) (by omega)]
      refine ⟨vp_in_nI (by omega) (by omega), ?_⟩
      unfold wpY_rank
      dsimp only
      refine zy_enc hn ht h2 (fun f_count f_mark b_column b_ranks b_symbols b_row hE => ?_)
      refine br_f c (br_f (nI_ge e (by omega)) ⟨vp_in_nI (by omega) (by omega), ?_, zz_in hn ht h1 h2 (Or.inr ⟨rfl, hC⟩)⟩)
      dsimp only
      rw [nI_clamp (n := j) (by omega), hE.2.2.1 j e, hC.2.2.1 j e]
    · unfold wpY_rank
      dsimp only
      refine zy_enc hn ht h2 (fun f_count f_mark b_column b_ranks b_symbols b_row hE => ?_)
      exact br_f c (br_t (nI_le (by omega) (by omega)) ⟨rfl, zz_in hn ht h1 h2 (Or.inr ⟨rfl, hC⟩)⟩)
theorem i_vc_symbols {k : Nat} {u : SX} {v : SY} (I : i_Rel k u v) (hk : k + 2 ≤ 1024) : wpX_symbols (fun r u' => wpY_symbols (fun r' v' => r' = r ∧ i_Rel (k + 2) u' v') v) u := by
  refine zz_el (P := fun u v => wpX_symbols (fun r u' => wpY_symbols (fun r' v' => r' = r ∧ i_Rel (k + 2) u' v') v) u) ?_ I
  intro n t f_coded f_markAt f_symbolCount f_bitCount a_text a_order a_classOf a_nextClass a_columnOf a_ranks a_symbolList a_row a_weight a_group a_bitsOf a_codeOf a_stream a_back a_stepTo g_count g_mark b_text b_column b_ranks b_symbols b_row b_often b_length hn ht h1 h2 h3
  unfold wpX_symbols
  dsimp only
  refine zx_code hn ht h1 h3 (fun f_markAt f_symbolCount f_bitCount a_order a_classOf a_nextClass a_columnOf a_ranks a_symbolList a_row a_weight a_group a_bitsOf a_codeOf a_stream hC => ?_)
  unfold wpY_symbols
  dsimp only
  refine zy_enc hn ht h2 (fun f_count f_mark b_column b_ranks b_symbols b_row hE => ?_)
  exact ⟨by rw [hE.2.2.2.1, hC.2.2.2.1], zz_in hn ht h1 h2 (Or.inr ⟨rfl, hC⟩)⟩
theorem i_vc_symbol {k : Nat} {u : SX} {v : SY} (I : i_Rel k u v) (hk : k + 2 ≤ 1024) (v1 : Int32) : wpX_symbol (fun r u' => wpY_symbol (fun r' v' => r' = r ∧ i_Rel (k + 2) u' v') v v1) u v1 := by
  refine zz_el (P := fun u v => wpX_symbol (fun r u' => wpY_symbol (fun r' v' => r' = r ∧ i_Rel (k + 2) u' v') v v1) u v1) ?_ I
  intro n t f_coded f_markAt f_symbolCount f_bitCount a_text a_order a_classOf a_nextClass a_columnOf a_ranks a_symbolList a_row a_weight a_group a_bitsOf a_codeOf a_stream a_back a_stepTo g_count g_mark b_text b_column b_ranks b_symbols b_row b_often b_length hn ht h1 h2 h3
  unfold wpX_symbol
  dsimp only
  refine zx_code hn ht h1 h3 (fun f_markAt f_symbolCount f_bitCount a_order a_classOf a_nextClass a_columnOf a_ranks a_symbolList a_row a_weight a_group a_bitsOf a_codeOf a_stream hC => ?_)
  have sl := zx_S_len (t := t) hn
  have eC := hC.2.2.2.1
  refine br_c (fun c => ?_) (fun c => ?_)
  · unfold wpY_symbol
    dsimp only
    refine zy_enc hn ht h2 (fun f_count f_mark b_column b_ranks b_symbols b_row hE => ?_)
    exact br_t c ⟨rfl, zz_in hn ht h1 h2 (Or.inr ⟨rfl, hC⟩)⟩
  · obtain ⟨j, hj, rfl⟩ := nI_of c
    refine ek_if (c := nI j < f_symbolCount) (d := j < (zx_S n t).length) (by rw [eC]; exact nI_ltI (by omega) (by omega)) (fun e => ?_) (fun e => ?_)
    · rw [nI_clamp (n := j) (by omega)]
      refine ⟨vp_in_nI (by omega) (by omega), ?_⟩
      unfold wpY_symbol
      dsimp only
      refine zy_enc hn ht h2 (fun f_count f_mark b_column b_ranks b_symbols b_row hE => ?_)
      refine br_f c (br_f (by rw [hE.2.2.2.1]; exact nI_ge e (by omega)) ⟨vp_in_nI (by omega) (by omega), ?_, zz_in hn ht h1 h2 (Or.inr ⟨rfl, hC⟩)⟩)
      dsimp only
      rw [nI_clamp (n := j) (by omega), hE.2.2.2.2 j e, hC.2.2.2.2.1 j e]
    · unfold wpY_symbol
      dsimp only
      refine zy_enc hn ht h2 (fun f_count f_mark b_column b_ranks b_symbols b_row hE => ?_)
      exact br_f c (br_t (by rw [hE.2.2.2.1]; exact nI_le (by omega) (by omega)) ⟨rfl, zz_in hn ht h1 h2 (Or.inr ⟨rfl, hC⟩)⟩)
theorem i_vc_cost {k : Nat} {u : SX} {v : SY} (I : i_Rel k u v) (hk : k + 2 ≤ 1024) : wpX_cost (fun r u' => wpY_cost (fun r' v' => r' = r ∧ i_Rel (k + 2) u' v') v) u := by
  refine zz_el (P := fun u v => wpX_cost (fun r u' => wpY_cost (fun r' v' => r' = r ∧ i_Rel (k + 2) u' v') v) u) ?_ I
  intro n t f_coded f_markAt f_symbolCount f_bitCount a_text a_order a_classOf a_nextClass a_columnOf a_ranks a_symbolList a_row a_weight a_group a_bitsOf a_codeOf a_stream a_back a_stepTo g_count g_mark b_text b_column b_ranks b_symbols b_row b_often b_length hn ht h1 h2 h3
  unfold wpX_cost
  dsimp only
  refine zx_code hn ht h1 h3 (fun f_markAt f_symbolCount f_bitCount a_order a_classOf a_nextClass a_columnOf a_ranks a_symbolList a_row a_weight a_group a_bitsOf a_codeOf a_stream hC => ?_)
  obtain ⟨B, hF, eB, _⟩ := hC.2.2.2.2.2
  refine zy_cost hn ht h2 hF (fun f_count f_mark b_column b_ranks b_symbols b_row b_often b_length => ?_)
  refine ⟨?_, zz_in hn ht h1 h2 (Or.inr ⟨rfl, hC⟩)⟩
  rw [eB, zx_off_co (zx_S_7 hn ht)]
theorem i_vc_decoded {k : Nat} {u : SX} {v : SY} (I : i_Rel k u v) (hk : k + 2 ≤ 1024) (v1 : Int32) : wpX_decoded (fun r u' => wpY_decoded (fun r' => r' = r ∧ i_Rel (k + 2) u' v) v v1) u v1 := by
  refine zz_el (P := fun u v => wpX_decoded (fun r u' => wpY_decoded (fun r' => r' = r ∧ i_Rel (k + 2) u' v) v v1) u v1) ?_ I
  intro n t f_coded f_markAt f_symbolCount f_bitCount a_text a_order a_classOf a_nextClass a_columnOf a_ranks a_symbolList a_row a_weight a_group a_bitsOf a_codeOf a_stream a_back a_stepTo g_count g_mark b_text b_column b_ranks b_symbols b_row b_often b_length hn ht h1 h2 h3
  by_cases c : v1 < 0
  · unfold wpX_decoded wpY_decoded
    dsimp only
    exact br_t c (br_t c ⟨rfl, zz_in hn ht h1 h2 h3⟩)
  · obtain ⟨j, hj, rfl⟩ := nI_of c
    by_cases e : j < n
    · refine zx_dec (t := t) e hn ht h1 h3 (fun f_markAt f_symbolCount f_bitCount a_order a_classOf a_nextClass a_columnOf a_ranks a_symbolList a_row a_weight a_group a_bitsOf a_codeOf a_back a_stepTo a_stream hC => ?_)
      unfold wpY_decoded
      dsimp only
      refine br_f c (br_f (nI_ge e (by omega)) ⟨vp_in_nI (by omega) (by omega), ?_, zz_in hn ht h1 h2 (Or.inr ⟨rfl, hC⟩)⟩)
      rw [nI_clamp (n := j) (by omega), h2 j e]
    · unfold wpX_decoded wpY_decoded
      dsimp only
      exact br_f c (br_f (fun x => e ((nI_ltI (by omega) (by omega)).mp x)) (br_f c (br_t (nI_le (by omega) (by omega)) ⟨rfl, zz_in hn ht h1 h2 h3⟩)))
theorem i_vc_different {k : Nat} {u : SX} {v : SY} (I : i_Rel k u v) (hk : k + 2 ≤ 1024) : wpX_different (fun r u' => wpY_different (fun r' v' => r' = r ∧ i_Rel (k + 2) u' v') v) u := by
  refine zz_el (P := fun u v => wpX_different (fun r u' => wpY_different (fun r' v' => r' = r ∧ i_Rel (k + 2) u' v') v) u) ?_ I
  intro n t f_coded f_markAt f_symbolCount f_bitCount a_text a_order a_classOf a_nextClass a_columnOf a_ranks a_symbolList a_row a_weight a_group a_bitsOf a_codeOf a_stream a_back a_stepTo g_count g_mark b_text b_column b_ranks b_symbols b_row b_often b_length hn ht h1 h2 h3
  unfold wpX_different
  dsimp only
  refine zx_code hn ht h1 h3 (fun f_markAt f_symbolCount f_bitCount a_order a_classOf a_nextClass a_columnOf a_ranks a_symbolList a_row a_weight a_group a_bitsOf a_codeOf a_stream hC => ?_)
  have eC := hC.2.2.2.1
  subst eC
  refine ⟨(zx_S n t).length + 1, ?_⟩
  refine zx_d8 (zx_S_len hn) (zx_S_7 hn ht) hC.2.2.2.2.1 ?_ ((zx_S n t).length + 1) 0 0 (by omega) (by omega) (fun s hs => ?_)
  · unfold wpY_different
    dsimp only
    refine zy_cnt hn ht h2 (fun f_count f_mark b_column b_ranks b_symbols b_row b_often v hV hs => ?_)
    obtain ⟨⟨π, hπ, hv⟩, hA⟩ := hV
    exact ⟨by rw [zl_kn_pm hπ hv], zz_in hn ht h1 h2 (Or.inr ⟨rfl, hC⟩)⟩
  · rw [b_0]
    exact (decide_eq_false (fun x => x rfl)).symm
end ZZ
end

section
/-! pure rows to paste: stores, nI and lN arithmetic, masks, shifts, narrowing, branches by naturals (pk_le, pk_lt, pk_eq), loops (lp1 .. lp16: the measure of the state; rp1 ..: recursion), negatives. Take what you need -/
theorem pk_us {f : Nat → Int32} {k : Nat} {x : Int32} : upd f k x k = x := if_pos rfl
theorem pk_un {f : Nat → Int32} {k j : Nat} {x : Int32} (h : j ≠ k) : upd f k x j = f j := if_neg h
theorem pk_uLs {f : Nat → Int64} {k : Nat} {x : Int64} : vp_updL f k x k = x := if_pos rfl
theorem pk_uLn {f : Nat → Int64} {k j : Nat} {x : Int64} (h : j ≠ k) : vp_updL f k x j = f j := if_neg h
theorem pk_sub {a b : Nat} (h : b ≤ a) : nI a - nI b = nI (a - b) := by
  obtain ⟨c, rfl⟩ : ∃ c, a = c + b := ⟨a - b, by omega⟩
  rw [← nI_add, Int32.add_sub_cancel, Nat.add_sub_cancel]
theorem pk_m1 (n : Nat) : nI (n + 1) + (-1) = nI n := by
  rw [← nI_1, Int32.add_assoc, show (1 : Int32) + (-1) = 0 from rfl, Int32.add_zero]
theorem pk_mul (a b : Nat) : nI a * nI b = nI (a * b) := (Int32.ofNat_mul a b).symm
theorem pk_div {a d : Nat} (ha : a < 2 ^ 31) (h0 : 0 < d) (hd : d < 2 ^ 31) : nI a / nI d = nI (a / d) := by
  apply Int32.toInt_inj.mp
  rw [lg_idiv_nonneg (by rw [nI_toInt ha]; omega) (by rw [nI_toInt hd]; omega), nI_toInt ha, nI_toInt hd, nI_toInt (Nat.lt_of_le_of_lt (Nat.div_le_self a d) ha)]
  first | rfl | exact (Int.natCast_ediv _ _).symm
theorem pk_rem {a d : Nat} (ha : a < 2 ^ 31) (h0 : 0 < d) (hd : d < 2 ^ 31) : nI a - nI a / nI d * nI d = nI (a % d) := by
  rw [pk_div ha h0 hd, pk_mul, pk_sub (Nat.div_mul_le_self a d)]
  exact congrArg nI (by have := Nat.div_add_mod' a d; omega)
theorem pk_sub_toInt {a b : Nat} (ha : a < 2 ^ 30) (hb : b < 2 ^ 30) : (nI a - nI b).toInt = (a : Int) - b := by
  rw [Int32.toInt_sub, nI_toInt (by omega), nI_toInt (by omega)]
  exact Int.bmod_eq_of_le (by omega) (by omega)
theorem pk_sneg {a b : Nat} (hb : b < 2 ^ 30) (h : a < b) : nI a - nI b < 0 := by
  rw [Int32.lt_iff_toInt_lt, pk_sub_toInt (by omega) hb, show (0 : Int32).toInt = 0 from by decide]
  omega
theorem pk_ix (x : Int32) {n : Nat} (hn : n < 2 ^ 31) : x < 0 ∨ nI n ≤ x ∨ ∃ j : Nat, j < n ∧ x = nI j := by
  by_cases h : x < 0
  · exact Or.inl h
  · obtain ⟨j, hj, rfl⟩ := nI_of h
    by_cases h2 : j < n
    · exact Or.inr (Or.inr ⟨j, h2, rfl⟩)
    · exact Or.inr (Or.inl (nI_le (by omega) hj))
theorem pk_le {x y : Int32} {A B : Prop} (a b : Nat) (f : a ≤ b → A) (g : b < a → B) (hx : x = nI a := by rfl) (hy : y = nI b := by rfl) (ha : a < 2 ^ 31 := by omega) (hb : b < 2 ^ 31 := by omega) : (x ≤ y → A) ∧ (¬ x ≤ y → B) := by
  subst hx hy
  rw [nI_leI ha hb]
  exact ⟨f, fun z => g (by omega)⟩
theorem pk_lt {x y : Int32} {A B : Prop} (a b : Nat) (f : a < b → A) (g : b ≤ a → B) (hx : x = nI a := by rfl) (hy : y = nI b := by rfl) (ha : a < 2 ^ 31 := by omega) (hb : b < 2 ^ 31 := by omega) : (x < y → A) ∧ (¬ x < y → B) := by
  subst hx hy
  rw [nI_ltI ha hb]
  exact ⟨f, fun z => g (by omega)⟩
theorem pk_eq {x y : Int32} {A B : Prop} (a b : Nat) (f : a = b → A) (g : a ≠ b → B) (hx : x = nI a := by rfl) (hy : y = nI b := by rfl) (ha : a < 2 ^ 31 := by omega) (hb : b < 2 ^ 31 := by omega) : (x = y → A) ∧ (¬ x = y → B) := by
  subst hx hy
  rw [nI_eq ha hb]
  exact ⟨f, g⟩
theorem pk_in {x : Int32} (n N : Nat) (h : n < N) (hx : x = nI n := by rfl) (hN : N < 2 ^ 31 := by omega) : vp_in x N := by
  subst hx
  exact vp_in_nI h hN
theorem pk_cl {x : Int32} (n : Nat) (hx : x = nI n := by rfl) (h : n < 2 ^ 31 := by omega) : x.toNatClampNeg = n := by
  subst hx
  exact nI_clamp h
theorem pk_tn {n : Nat} (h : n < 2 ^ 32) : (nI n).toBitVec.toNat = n := Nat.mod_eq_of_lt h
theorem pk_and (x : Int32) {m : Int32} (k : Nat) (hm : m.toBitVec.toNat = 2 ^ k - 1) : x &&& m = nI (x.toBitVec.toNat % 2 ^ k) := by
  apply Int32.toBitVec_inj.mp
  apply BitVec.eq_of_toNat_eq
  rw [Int32.toBitVec_and, BitVec.toNat_and, hm, Nat.and_two_pow_sub_one_eq_mod]
  show _ = (BitVec.ofNat 32 _).toNat
  rw [BitVec.toNat_ofNat]
  exact (Nat.mod_eq_of_lt (Nat.lt_of_le_of_lt (Nat.mod_le _ _) x.toBitVec.isLt)).symm
theorem pk_andN {n : Nat} (h : n < 2 ^ 32) {m : Int32} (k : Nat) (hm : m.toBitVec.toNat = 2 ^ k - 1) : nI n &&& m = nI (n % 2 ^ k) := by
  rw [pk_and _ k hm, pk_tn h]
theorem pk_andE (x : Int32) {m : Int32} (k : Nat) (hm : m.toBitVec.toNat = 2 ^ k - 1) : ∃ j : Nat, j < 2 ^ k ∧ x &&& m = nI j := ⟨_, Nat.mod_lt _ (Nat.two_pow_pos k), pk_and x k hm⟩
theorem pk_andIn (x : Int32) {m : Int32} (k : Nat) (hm : m.toBitVec.toNat = 2 ^ k - 1) (hk : k ≤ 30) : vp_in (x &&& m) (2 ^ k) := by
  obtain ⟨j, hj, e⟩ := pk_andE x k hm
  rw [e]
  exact vp_in_nI hj (Nat.lt_of_le_of_lt (Nat.pow_le_pow_right (by decide) hk) (by decide))
theorem pk_shl (a s : Int32) (k : Nat) (hs : (s.toBitVec.smod 32).toNat = k) : (a <<< s).toBitVec.toNat = a.toBitVec.toNat * 2 ^ k % 2 ^ 32 := by
  show (a.toBitVec <<< (s.toBitVec.smod 32).toNat).toNat = _
  rw [hs, BitVec.toNat_shiftLeft, Nat.shiftLeft_eq]
theorem pk_shlN {n : Nat} (s : Int32) (k : Nat) (hs : (s.toBitVec.smod 32).toNat = k) (h : n * 2 ^ k < 2 ^ 32) : nI n <<< s = nI (n * 2 ^ k) := by
  apply Int32.toBitVec_inj.mp
  apply BitVec.eq_of_toNat_eq
  have hn : n < 2 ^ 32 := Nat.lt_of_le_of_lt (Nat.le_mul_of_pos_right n (Nat.two_pow_pos k)) h
  rw [pk_shl _ _ k hs, pk_tn hn, pk_tn h, Nat.mod_eq_of_lt h]
theorem pk_shr (a s : Int32) (k : Nat) (hs : (s.toBitVec.smod 32).toNat = k) : (a >>> s).toInt = a.toInt >>> k := by
  show (a.toBitVec.sshiftRight (s.toBitVec.smod 32).toNat).toInt = _
  rw [hs, BitVec.toInt_sshiftRight]
  rfl
theorem pk_shrN {n : Nat} (h : n < 2 ^ 31) (s : Int32) (k : Nat) (hs : (s.toBitVec.smod 32).toNat = k) : nI n >>> s = nI (n / 2 ^ k) := by
  apply Int32.toInt_inj.mp
  have h2 : n / 2 ^ k ≤ n := Nat.div_le_self _ _
  rw [pk_shr _ _ k hs, nI_toInt h, nI_toInt (by omega), Int.shiftRight_eq_div_pow]
  rfl
theorem pk_ushr (x s : Int32) (k : Nat) (hs : ((s.toUInt32 &&& Int32.toUInt32 31).toBitVec % 32).toNat = k) : (x.toUInt32 >>> (s.toUInt32 &&& Int32.toUInt32 31)).toInt32.toBitVec.toNat = x.toBitVec.toNat / 2 ^ k := by
  have e : (x.toUInt32 >>> (s.toUInt32 &&& Int32.toUInt32 31)).toInt32.toBitVec = x.toBitVec >>> k := by
    rw [← hs]
    exact UInt32.toBitVec_shiftRight _ _
  rw [e, BitVec.toNat_ushiftRight, Nat.shiftRight_eq_div_pow]
theorem pk_ushrN {n : Nat} (hn : n < 2 ^ 32) (s : Int32) (k : Nat) (hs : ((s.toUInt32 &&& Int32.toUInt32 31).toBitVec % 32).toNat = k) : ((nI n).toUInt32 >>> (s.toUInt32 &&& Int32.toUInt32 31)).toInt32 = nI (n / 2 ^ k) := by
  apply Int32.toBitVec_inj.mp
  apply BitVec.eq_of_toNat_eq
  rw [pk_ushr _ s k hs, pk_tn hn, pk_tn (Nat.lt_of_le_of_lt (Nat.div_le_self _ _) hn)]
theorem pk_nb (z : Int32) : narrow .byte (.int z.toInt8.toInt32) = .int z.toInt8.toInt32 := congrArg Value.int (by simp)
theorem pk_ns (z : Int32) : narrow .short (.int z.toInt16.toInt32) = .int z.toInt16.toInt32 := congrArg Value.int (by simp)
theorem pk_fb (r : Int32) : fits .byte (.int r.toInt8.toInt32) = true := by
  have ⟨a, b⟩ := lg_i2b_range r
  have h1 : (-128 : Int32).toInt = -128 := by decide
  have h2 : (127 : Int32).toInt = 127 := by decide
  simp only [fits, Bool.and_eq_true, decide_eq_true_eq, Int32.le_iff_toInt_le, h1, h2]
  omega
theorem pk_fs (r : Int32) : fits .short (.int r.toInt16.toInt32) = true := by
  have ⟨a, b⟩ := lg_i2s_range r
  have h1 : (-32768 : Int32).toInt = -32768 := by decide
  have h2 : (32767 : Int32).toInt = 32767 := by decide
  simp only [fits, Bool.and_eq_true, decide_eq_true_eq, Int32.le_iff_toInt_le, h1, h2]
  omega
theorem pk_charN {q : Nat} (hq : q < 65536) : narrow .char (.int (nI q)) = .int (nI q) ∧ fits .char (.int (nI q)) = true := by
  constructor
  · have e : (nI q).toUInt32.toUInt16.toUInt32.toInt32 = nI q := by
      apply Int32.toBitVec_inj.mp
      apply BitVec.eq_of_toNat_eq
      show (nI q).toUInt32.toUInt16.toUInt32.toNat = q % 2 ^ 32
      rw [UInt16.toNat_toUInt32, UInt32.toNat_toUInt16, show (nI q).toUInt32.toNat = q % 2 ^ 32 from rfl]
      omega
    exact congrArg Value.int e
  · have a : (0 : Int32) ≤ nI q := nI_pos' (by omega)
    have b : nI q ≤ 65535 := nI_le (b := 65535) (by omega) (by decide)
    show (decide ((0 : Int32) ≤ nI q) && decide (nI q ≤ 65535)) = true
    rw [decide_eq_true a, decide_eq_true b]
    rfl
theorem pk_char (x : Int32) : (x.toUInt32 % 65536).toInt32 = nI (x.toBitVec.toNat % 65536) := by
  apply Int32.toBitVec_inj.mp
  apply BitVec.eq_of_toNat_eq
  rw [pk_tn (by omega)]
  show (x.toUInt32 % 65536).toNat = _
  rw [UInt32.toNat_mod]
  rfl
theorem pk_nc (x : Int32) : narrow .char (.int (x.toUInt32 % 65536).toInt32) = .int (x.toUInt32 % 65536).toInt32 := by
  rw [pk_char]
  exact (pk_charN (Nat.mod_lt _ (by decide))).1
theorem pk_fc (x : Int32) : fits .char (.int (x.toUInt32 % 65536).toInt32) = true := by
  rw [pk_char]
  exact (pk_charN (Nat.mod_lt _ (by decide))).2
theorem pk_vb (z : Int32) : vp_nar .byte z.toInt8.toInt32 = z.toInt8.toInt32 := by rw [vp_nar_byte]; simp
theorem pk_vs (z : Int32) : vp_nar .short z.toInt16.toInt32 = z.toInt16.toInt32 := by rw [vp_nar_short]; simp
theorem pk_vc (z : Int32) : vp_nar .char (z.toUInt32 % 65536).toInt32 = (z.toUInt32 % 65536).toInt32 := Value.int.inj (pk_nc z)
theorem pk_lT {n : Nat} (h : n < 2 ^ 63) : (lN n).toInt = (n : Int) := lg_ofNat_toInt h
theorem pk_lLT {a b : Nat} (ha : a < 2 ^ 63) (hb : b < 2 ^ 63) : lN a < lN b ↔ a < b := by
  rw [Int64.lt_iff_toInt_lt, pk_lT ha, pk_lT hb]; omega
theorem pk_lLE {a b : Nat} (ha : a < 2 ^ 63) (hb : b < 2 ^ 63) : lN a ≤ lN b ↔ a ≤ b := by
  rw [Int64.le_iff_toInt_le, pk_lT ha, pk_lT hb]; omega
theorem pk_lEQ {a b : Nat} (ha : a < 2 ^ 63) (hb : b < 2 ^ 63) : lN a = lN b ↔ a = b := by
  rw [← Int64.toInt_inj, pk_lT ha, pk_lT hb]; omega
theorem pk_lOf {x : Int64} (h : ¬ x < 0) : ∃ k : Nat, k < 2 ^ 63 ∧ x = lN k := by
  rw [Int64.lt_iff_toInt_lt] at h
  have h0 : (0 : Int64).toInt = 0 := by decide
  have hx := Int64.toInt_lt x
  refine ⟨x.toInt.toNat, by omega, Int64.toInt_inj.mp ?_⟩
  rw [pk_lT (by omega)]
  omega
theorem pk_lDiv {a b : Nat} (ha : a < 2 ^ 63) (h0 : 0 < b) (hb : b < 2 ^ 63) : lN a / lN b = lN (a / b) := by
  apply Int64.toInt_inj.mp
  rw [lg_ldiv_nonneg (by rw [pk_lT ha]; omega) (by rw [pk_lT hb]; omega), pk_lT ha, pk_lT hb, pk_lT (Nat.lt_of_le_of_lt (Nat.div_le_self a b) ha)]
  rfl
theorem pk_lRem {a b : Nat} (ha : a < 2 ^ 63) (h0 : 0 < b) (hb : b < 2 ^ 63) : lN a - lN a / lN b * lN b = lN (a % b) := by
  rw [pk_lDiv ha h0 hb, lN_mul, lN_sub (Nat.div_mul_le_self a b)]
  exact congrArg lN (by have := Nat.div_add_mod' a b; omega)
theorem pk_loop {σ : Type} (W : Nat → Nat → σ → Prop) (I : Nat → σ → Prop) (e i0 : Nat) (s : σ) (hi : i0 ≤ e) (h0 : I i0 s) (hx : ∀ n s, I e s → W (n + 1) e s)
    (hs : ∀ n i s, i < e → I i s → (∀ s', I (i + 1) s' → W n (i + 1) s') → W (n + 1) i s) : ∃ n, W n i0 s :=
  ⟨e + 1, loop_i W I e hx hs (e + 1) i0 s hi (by omega) h0⟩
theorem pk_loopD {σ : Type} (W : Nat → Nat → σ → Prop) (I : Nat → σ → Prop) (hx : ∀ n s, I 0 s → W (n + 1) 0 s)
    (hs : ∀ n i s, I (i + 1) s → (∀ s', I i s' → W n i s') → W (n + 1) (i + 1) s) : ∀ (e : Nat) (s : σ), I e s → W (e + 1) e s := by
  intro e
  induction e with
  | zero => exact fun s h => hx 0 s h
  | succ e ih => exact fun s h => hs (e + 1) e s h (fun s' h' => ih s' h')
theorem lp1 {A1 : Type} (W : Nat → A1 → Prop) (I : A1 → Prop) (μ : A1 → Nat) (hs : ∀ (n : Nat) (a1 : A1), I a1 → (∀ (b1 : A1), I b1 → μ b1 < μ a1 → W n b1) → W (n + 1) a1) (a1 : A1) (h : I a1) : ∃ n, W n a1 :=
  loop_m (σ := A1) (fun n s => W n s) (fun s => I s) (fun s => μ s) (fun n s hI hk => hs n s hI (fun b1 h9 hm => hk b1 h9 hm)) a1 h
theorem lp2 {A1 A2 : Type} (W : Nat → A1 → A2 → Prop) (I : A1 → A2 → Prop) (μ : A1 → A2 → Nat) (hs : ∀ (n : Nat) (a1 : A1) (a2 : A2), I a1 a2 → (∀ (b1 : A1) (b2 : A2), I b1 b2 → μ b1 b2 < μ a1 a2 → W n b1 b2) → W (n + 1) a1 a2) (a1 : A1) (a2 : A2) (h : I a1 a2) : ∃ n, W n a1 a2 :=
  loop_m (σ := A1 × A2) (fun n s => W n s.1 s.2) (fun s => I s.1 s.2) (fun s => μ s.1 s.2) (fun n s hI hk => hs n s.1 s.2 hI (fun b1 b2 h9 hm => hk (b1, b2) h9 hm)) (a1, a2) h
theorem lp3 {A1 A2 A3 : Type} (W : Nat → A1 → A2 → A3 → Prop) (I : A1 → A2 → A3 → Prop) (μ : A1 → A2 → A3 → Nat) (hs : ∀ (n : Nat) (a1 : A1) (a2 : A2) (a3 : A3), I a1 a2 a3 → (∀ (b1 : A1) (b2 : A2) (b3 : A3), I b1 b2 b3 → μ b1 b2 b3 < μ a1 a2 a3 → W n b1 b2 b3) → W (n + 1) a1 a2 a3) (a1 : A1) (a2 : A2) (a3 : A3) (h : I a1 a2 a3) : ∃ n, W n a1 a2 a3 :=
  loop_m (σ := A1 × A2 × A3) (fun n s => W n s.1 s.2.1 s.2.2) (fun s => I s.1 s.2.1 s.2.2) (fun s => μ s.1 s.2.1 s.2.2) (fun n s hI hk => hs n s.1 s.2.1 s.2.2 hI (fun b1 b2 b3 h9 hm => hk (b1, b2, b3) h9 hm)) (a1, a2, a3) h
theorem lp4 {A1 A2 A3 A4 : Type} (W : Nat → A1 → A2 → A3 → A4 → Prop) (I : A1 → A2 → A3 → A4 → Prop) (μ : A1 → A2 → A3 → A4 → Nat) (hs : ∀ (n : Nat) (a1 : A1) (a2 : A2) (a3 : A3) (a4 : A4), I a1 a2 a3 a4 → (∀ (b1 : A1) (b2 : A2) (b3 : A3) (b4 : A4), I b1 b2 b3 b4 → μ b1 b2 b3 b4 < μ a1 a2 a3 a4 → W n b1 b2 b3 b4) → W (n + 1) a1 a2 a3 a4) (a1 : A1) (a2 : A2) (a3 : A3) (a4 : A4) (h : I a1 a2 a3 a4) : ∃ n, W n a1 a2 a3 a4 :=
  loop_m (σ := A1 × A2 × A3 × A4) (fun n s => W n s.1 s.2.1 s.2.2.1 s.2.2.2) (fun s => I s.1 s.2.1 s.2.2.1 s.2.2.2) (fun s => μ s.1 s.2.1 s.2.2.1 s.2.2.2) (fun n s hI hk => hs n s.1 s.2.1 s.2.2.1 s.2.2.2 hI (fun b1 b2 b3 b4 h9 hm => hk (b1, b2, b3, b4) h9 hm)) (a1, a2, a3, a4) h
theorem lp5 {A1 A2 A3 A4 A5 : Type} (W : Nat → A1 → A2 → A3 → A4 → A5 → Prop) (I : A1 → A2 → A3 → A4 → A5 → Prop) (μ : A1 → A2 → A3 → A4 → A5 → Nat) (hs : ∀ (n : Nat) (a1 : A1) (a2 : A2) (a3 : A3) (a4 : A4) (a5 : A5), I a1 a2 a3 a4 a5 → (∀ (b1 : A1) (b2 : A2) (b3 : A3) (b4 : A4) (b5 : A5), I b1 b2 b3 b4 b5 → μ b1 b2 b3 b4 b5 < μ a1 a2 a3 a4 a5 → W n b1 b2 b3 b4 b5) → W (n + 1) a1 a2 a3 a4 a5) (a1 : A1) (a2 : A2) (a3 : A3) (a4 : A4) (a5 : A5) (h : I a1 a2 a3 a4 a5) : ∃ n, W n a1 a2 a3 a4 a5 :=
  loop_m (σ := A1 × A2 × A3 × A4 × A5) (fun n s => W n s.1 s.2.1 s.2.2.1 s.2.2.2.1 s.2.2.2.2) (fun s => I s.1 s.2.1 s.2.2.1 s.2.2.2.1 s.2.2.2.2) (fun s => μ s.1 s.2.1 s.2.2.1 s.2.2.2.1 s.2.2.2.2) (fun n s hI hk => hs n s.1 s.2.1 s.2.2.1 s.2.2.2.1 s.2.2.2.2 hI (fun b1 b2 b3 b4 b5 h9 hm => hk (b1, b2, b3, b4, b5) h9 hm)) (a1, a2, a3, a4, a5) h
theorem lp6 {A1 A2 A3 A4 A5 A6 : Type} (W : Nat → A1 → A2 → A3 → A4 → A5 → A6 → Prop) (I : A1 → A2 → A3 → A4 → A5 → A6 → Prop) (μ : A1 → A2 → A3 → A4 → A5 → A6 → Nat) (hs : ∀ (n : Nat) (a1 : A1) (a2 : A2) (a3 : A3) (a4 : A4) (a5 : A5) (a6 : A6), I a1 a2 a3 a4 a5 a6 → (∀ (b1 : A1) (b2 : A2) (b3 : A3) (b4 : A4) (b5 : A5) (b6 : A6), I b1 b2 b3 b4 b5 b6 → μ b1 b2 b3 b4 b5 b6 < μ a1 a2 a3 a4 a5 a6 → W n b1 b2 b3 b4 b5 b6) → W (n + 1) a1 a2 a3 a4 a5 a6) (a1 : A1) (a2 : A2) (a3 : A3) (a4 : A4) (a5 : A5) (a6 : A6) (h : I a1 a2 a3 a4 a5 a6) : ∃ n, W n a1 a2 a3 a4 a5 a6 :=
  loop_m (σ := A1 × A2 × A3 × A4 × A5 × A6) (fun n s => W n s.1 s.2.1 s.2.2.1 s.2.2.2.1 s.2.2.2.2.1 s.2.2.2.2.2) (fun s => I s.1 s.2.1 s.2.2.1 s.2.2.2.1 s.2.2.2.2.1 s.2.2.2.2.2) (fun s => μ s.1 s.2.1 s.2.2.1 s.2.2.2.1 s.2.2.2.2.1 s.2.2.2.2.2) (fun n s hI hk => hs n s.1 s.2.1 s.2.2.1 s.2.2.2.1 s.2.2.2.2.1 s.2.2.2.2.2 hI (fun b1 b2 b3 b4 b5 b6 h9 hm => hk (b1, b2, b3, b4, b5, b6) h9 hm)) (a1, a2, a3, a4, a5, a6) h
theorem lp7 {A1 A2 A3 A4 A5 A6 A7 : Type} (W : Nat → A1 → A2 → A3 → A4 → A5 → A6 → A7 → Prop) (I : A1 → A2 → A3 → A4 → A5 → A6 → A7 → Prop) (μ : A1 → A2 → A3 → A4 → A5 → A6 → A7 → Nat) (hs : ∀ (n : Nat) (a1 : A1) (a2 : A2) (a3 : A3) (a4 : A4) (a5 : A5) (a6 : A6) (a7 : A7), I a1 a2 a3 a4 a5 a6 a7 → (∀ (b1 : A1) (b2 : A2) (b3 : A3) (b4 : A4) (b5 : A5) (b6 : A6) (b7 : A7), I b1 b2 b3 b4 b5 b6 b7 → μ b1 b2 b3 b4 b5 b6 b7 < μ a1 a2 a3 a4 a5 a6 a7 → W n b1 b2 b3 b4 b5 b6 b7) → W (n + 1) a1 a2 a3 a4 a5 a6 a7) (a1 : A1) (a2 : A2) (a3 : A3) (a4 : A4) (a5 : A5) (a6 : A6) (a7 : A7) (h : I a1 a2 a3 a4 a5 a6 a7) : ∃ n, W n a1 a2 a3 a4 a5 a6 a7 :=
  loop_m (σ := A1 × A2 × A3 × A4 × A5 × A6 × A7) (fun n s => W n s.1 s.2.1 s.2.2.1 s.2.2.2.1 s.2.2.2.2.1 s.2.2.2.2.2.1 s.2.2.2.2.2.2) (fun s => I s.1 s.2.1 s.2.2.1 s.2.2.2.1 s.2.2.2.2.1 s.2.2.2.2.2.1 s.2.2.2.2.2.2) (fun s => μ s.1 s.2.1 s.2.2.1 s.2.2.2.1 s.2.2.2.2.1 s.2.2.2.2.2.1 s.2.2.2.2.2.2) (fun n s hI hk => hs n s.1 s.2.1 s.2.2.1 s.2.2.2.1 s.2.2.2.2.1 s.2.2.2.2.2.1 s.2.2.2.2.2.2 hI (fun b1 b2 b3 b4 b5 b6 b7 h9 hm => hk (b1, b2, b3, b4, b5, b6, b7) h9 hm)) (a1, a2, a3, a4, a5, a6, a7) h
theorem lp8 {A1 A2 A3 A4 A5 A6 A7 A8 : Type} (W : Nat → A1 → A2 → A3 → A4 → A5 → A6 → A7 → A8 → Prop) (I : A1 → A2 → A3 → A4 → A5 → A6 → A7 → A8 → Prop) (μ : A1 → A2 → A3 → A4 → A5 → A6 → A7 → A8 → Nat) (hs : ∀ (n : Nat) (a1 : A1) (a2 : A2) (a3 : A3) (a4 : A4) (a5 : A5) (a6 : A6) (a7 : A7) (a8 : A8), I a1 a2 a3 a4 a5 a6 a7 a8 → (∀ (b1 : A1) (b2 : A2) (b3 : A3) (b4 : A4) (b5 : A5) (b6 : A6) (b7 : A7) (b8 : A8), I b1 b2 b3 b4 b5 b6 b7 b8 → μ b1 b2 b3 b4 b5 b6 b7 b8 < μ a1 a2 a3 a4 a5 a6 a7 a8 → W n b1 b2 b3 b4 b5 b6 b7 b8) → W (n + 1) a1 a2 a3 a4 a5 a6 a7 a8) (a1 : A1) (a2 : A2) (a3 : A3) (a4 : A4) (a5 : A5) (a6 : A6) (a7 : A7) (a8 : A8) (h : I a1 a2 a3 a4 a5 a6 a7 a8) : ∃ n, W n a1 a2 a3 a4 a5 a6 a7 a8 :=
  loop_m (σ := A1 × A2 × A3 × A4 × A5 × A6 × A7 × A8) (fun n s => W n s.1 s.2.1 s.2.2.1 s.2.2.2.1 s.2.2.2.2.1 s.2.2.2.2.2.1 s.2.2.2.2.2.2.1 s.2.2.2.2.2.2.2) (fun s => I s.1 s.2.1 s.2.2.1 s.2.2.2.1 s.2.2.2.2.1 s.2.2.2.2.2.1 s.2.2.2.2.2.2.1 s.2.2.2.2.2.2.2) (fun s => μ s.1 s.2.1 s.2.2.1 s.2.2.2.1 s.2.2.2.2.1 s.2.2.2.2.2.1 s.2.2.2.2.2.2.1 s.2.2.2.2.2.2.2) (fun n s hI hk => hs n s.1 s.2.1 s.2.2.1 s.2.2.2.1 s.2.2.2.2.1 s.2.2.2.2.2.1 s.2.2.2.2.2.2.1 s.2.2.2.2.2.2.2 hI (fun b1 b2 b3 b4 b5 b6 b7 b8 h9 hm => hk (b1, b2, b3, b4, b5, b6, b7, b8) h9 hm)) (a1, a2, a3, a4, a5, a6, a7, a8) h
theorem lp9 {A1 A2 A3 A4 A5 A6 A7 A8 A9 : Type} (W : Nat → A1 → A2 → A3 → A4 → A5 → A6 → A7 → A8 → A9 → Prop) (I : A1 → A2 → A3 → A4 → A5 → A6 → A7 → A8 → A9 → Prop) (μ : A1 → A2 → A3 → A4 → A5 → A6 → A7 → A8 → A9 → Nat) (hs : ∀ (n : Nat) (a1 : A1) (a2 : A2) (a3 : A3) (a4 : A4) (a5 : A5) (a6 : A6) (a7 : A7) (a8 : A8) (a9 : A9), I a1 a2 a3 a4 a5 a6 a7 a8 a9 → (∀ (b1 : A1) (b2 : A2) (b3 : A3) (b4 : A4) (b5 : A5) (b6 : A6) (b7 : A7) (b8 : A8) (b9 : A9), I b1 b2 b3 b4 b5 b6 b7 b8 b9 → μ b1 b2 b3 b4 b5 b6 b7 b8 b9 < μ a1 a2 a3 a4 a5 a6 a7 a8 a9 → W n b1 b2 b3 b4 b5 b6 b7 b8 b9) → W (n + 1) a1 a2 a3 a4 a5 a6 a7 a8 a9) (a1 : A1) (a2 : A2) (a3 : A3) (a4 : A4) (a5 : A5) (a6 : A6) (a7 : A7) (a8 : A8) (a9 : A9) (h : I a1 a2 a3 a4 a5 a6 a7 a8 a9) : ∃ n, W n a1 a2 a3 a4 a5 a6 a7 a8 a9 :=
  loop_m (σ := A1 × A2 × A3 × A4 × A5 × A6 × A7 × A8 × A9) (fun n s => W n s.1 s.2.1 s.2.2.1 s.2.2.2.1 s.2.2.2.2.1 s.2.2.2.2.2.1 s.2.2.2.2.2.2.1 s.2.2.2.2.2.2.2.1 s.2.2.2.2.2.2.2.2) (fun s => I s.1 s.2.1 s.2.2.1 s.2.2.2.1 s.2.2.2.2.1 s.2.2.2.2.2.1 s.2.2.2.2.2.2.1 s.2.2.2.2.2.2.2.1 s.2.2.2.2.2.2.2.2) (fun s => μ s.1 s.2.1 s.2.2.1 s.2.2.2.1 s.2.2.2.2.1 s.2.2.2.2.2.1 s.2.2.2.2.2.2.1 s.2.2.2.2.2.2.2.1 s.2.2.2.2.2.2.2.2) (fun n s hI hk => hs n s.1 s.2.1 s.2.2.1 s.2.2.2.1 s.2.2.2.2.1 s.2.2.2.2.2.1 s.2.2.2.2.2.2.1 s.2.2.2.2.2.2.2.1 s.2.2.2.2.2.2.2.2 hI (fun b1 b2 b3 b4 b5 b6 b7 b8 b9 h9 hm => hk (b1, b2, b3, b4, b5, b6, b7, b8, b9) h9 hm)) (a1, a2, a3, a4, a5, a6, a7, a8, a9) h
theorem lp10 {A1 A2 A3 A4 A5 A6 A7 A8 A9 A10 : Type} (W : Nat → A1 → A2 → A3 → A4 → A5 → A6 → A7 → A8 → A9 → A10 → Prop) (I : A1 → A2 → A3 → A4 → A5 → A6 → A7 → A8 → A9 → A10 → Prop) (μ : A1 → A2 → A3 → A4 → A5 → A6 → A7 → A8 → A9 → A10 → Nat) (hs : ∀ (n : Nat) (a1 : A1) (a2 : A2) (a3 : A3) (a4 : A4) (a5 : A5) (a6 : A6) (a7 : A7) (a8 : A8) (a9 : A9) (a10 : A10), I a1 a2 a3 a4 a5 a6 a7 a8 a9 a10 → (∀ (b1 : A1) (b2 : A2) (b3 : A3) (b4 : A4) (b5 : A5) (b6 : A6) (b7 : A7) (b8 : A8) (b9 : A9) (b10 : A10), I b1 b2 b3 b4 b5 b6 b7 b8 b9 b10 → μ b1 b2 b3 b4 b5 b6 b7 b8 b9 b10 < μ a1 a2 a3 a4 a5 a6 a7 a8 a9 a10 → W n b1 b2 b3 b4 b5 b6 b7 b8 b9 b10) → W (n + 1) a1 a2 a3 a4 a5 a6 a7 a8 a9 a10) (a1 : A1) (a2 : A2) (a3 : A3) (a4 : A4) (a5 : A5) (a6 : A6) (a7 : A7) (a8 : A8) (a9 : A9) (a10 : A10) (h : I a1 a2 a3 a4 a5 a6 a7 a8 a9 a10) : ∃ n, W n a1 a2 a3 a4 a5 a6 a7 a8 a9 a10 :=
  loop_m (σ := A1 × A2 × A3 × A4 × A5 × A6 × A7 × A8 × A9 × A10) (fun n s => W n s.1 s.2.1 s.2.2.1 s.2.2.2.1 s.2.2.2.2.1 s.2.2.2.2.2.1 s.2.2.2.2.2.2.1 s.2.2.2.2.2.2.2.1 s.2.2.2.2.2.2.2.2.1 s.2.2.2.2.2.2.2.2.2) (fun s => I s.1 s.2.1 s.2.2.1 s.2.2.2.1 s.2.2.2.2.1 s.2.2.2.2.2.1 s.2.2.2.2.2.2.1 s.2.2.2.2.2.2.2.1 s.2.2.2.2.2.2.2.2.1 s.2.2.2.2.2.2.2.2.2) (fun s => μ s.1 s.2.1 s.2.2.1 s.2.2.2.1 s.2.2.2.2.1 s.2.2.2.2.2.1 s.2.2.2.2.2.2.1 s.2.2.2.2.2.2.2.1 s.2.2.2.2.2.2.2.2.1 s.2.2.2.2.2.2.2.2.2) (fun n s hI hk => hs n s.1 s.2.1 s.2.2.1 s.2.2.2.1 s.2.2.2.2.1 s.2.2.2.2.2.1 s.2.2.2.2.2.2.1 s.2.2.2.2.2.2.2.1 s.2.2.2.2.2.2.2.2.1 s.2.2.2.2.2.2.2.2.2 hI (fun b1 b2 b3 b4 b5 b6 b7 b8 b9 b10 h9 hm => hk (b1, b2, b3, b4, b5, b6, b7, b8, b9, b10) h9 hm)) (a1, a2, a3, a4, a5, a6, a7, a8, a9, a10) h
theorem lp11 {A1 A2 A3 A4 A5 A6 A7 A8 A9 A10 A11 : Type} (W : Nat → A1 → A2 → A3 → A4 → A5 → A6 → A7 → A8 → A9 → A10 → A11 → Prop) (I : A1 → A2 → A3 → A4 → A5 → A6 → A7 → A8 → A9 → A10 → A11 → Prop) (μ : A1 → A2 → A3 → A4 → A5 → A6 → A7 → A8 → A9 → A10 → A11 → Nat) (hs : ∀ (n : Nat) (a1 : A1) (a2 : A2) (a3 : A3) (a4 : A4) (a5 : A5) (a6 : A6) (a7 : A7) (a8 : A8) (a9 : A9) (a10 : A10) (a11 : A11), I a1 a2 a3 a4 a5 a6 a7 a8 a9 a10 a11 → (∀ (b1 : A1) (b2 : A2) (b3 : A3) (b4 : A4) (b5 : A5) (b6 : A6) (b7 : A7) (b8 : A8) (b9 : A9) (b10 : A10) (b11 : A11), I b1 b2 b3 b4 b5 b6 b7 b8 b9 b10 b11 → μ b1 b2 b3 b4 b5 b6 b7 b8 b9 b10 b11 < μ a1 a2 a3 a4 a5 a6 a7 a8 a9 a10 a11 → W n b1 b2 b3 b4 b5 b6 b7 b8 b9 b10 b11) → W (n + 1) a1 a2 a3 a4 a5 a6 a7 a8 a9 a10 a11) (a1 : A1) (a2 : A2) (a3 : A3) (a4 : A4) (a5 : A5) (a6 : A6) (a7 : A7) (a8 : A8) (a9 : A9) (a10 : A10) (a11 : A11) (h : I a1 a2 a3 a4 a5 a6 a7 a8 a9 a10 a11) : ∃ n, W n a1 a2 a3 a4 a5 a6 a7 a8 a9 a10 a11 :=
  loop_m (σ := A1 × A2 × A3 × A4 × A5 × A6 × A7 × A8 × A9 × A10 × A11) (fun n s => W n s.1 s.2.1 s.2.2.1 s.2.2.2.1 s.2.2.2.2.1 s.2.2.2.2.2.1 s.2.2.2.2.2.2.1 s.2.2.2.2.2.2.2.1 s.2.2.2.2.2.2.2.2.1 s.2.2.2.2.2.2.2.2.2.1 s.2.2.2.2.2.2.2.2.2.2) (fun s => I s.1 s.2.1 s.2.2.1 s.2.2.2.1 s.2.2.2.2.1 s.2.2.2.2.2.1 s.2.2.2.2.2.2.1 s.2.2.2.2.2.2.2.1 s.2.2.2.2.2.2.2.2.1 s.2.2.2.2.2.2.2.2.2.1 s.2.2.2.2.2.2.2.2.2.2) (fun s => μ s.1 s.2.1 s.2.2.1 s.2.2.2.1 s.2.2.2.2.1 s.2.2.2.2.2.1 s.2.2.2.2.2.2.1 s.2.2.2.2.2.2.2.1 s.2.2.2.2.2.2.2.2.1 s.2.2.2.2.2.2.2.2.2.1 s.2.2.2.2.2.2.2.2.2.2) (fun n s hI hk => hs n s.1 s.2.1 s.2.2.1 s.2.2.2.1 s.2.2.2.2.1 s.2.2.2.2.2.1 s.2.2.2.2.2.2.1 s.2.2.2.2.2.2.2.1 s.2.2.2.2.2.2.2.2.1 s.2.2.2.2.2.2.2.2.2.1 s.2.2.2.2.2.2.2.2.2.2 hI (fun b1 b2 b3 b4 b5 b6 b7 b8 b9 b10 b11 h9 hm => hk (b1, b2, b3, b4, b5, b6, b7, b8, b9, b10, b11) h9 hm)) (a1, a2, a3, a4, a5, a6, a7, a8, a9, a10, a11) h
theorem lp12 {A1 A2 A3 A4 A5 A6 A7 A8 A9 A10 A11 A12 : Type} (W : Nat → A1 → A2 → A3 → A4 → A5 → A6 → A7 → A8 → A9 → A10 → A11 → A12 → Prop) (I : A1 → A2 → A3 → A4 → A5 → A6 → A7 → A8 → A9 → A10 → A11 → A12 → Prop) (μ : A1 → A2 → A3 → A4 → A5 → A6 → A7 → A8 → A9 → A10 → A11 → A12 → Nat) (hs : ∀ (n : Nat) (a1 : A1) (a2 : A2) (a3 : A3) (a4 : A4) (a5 : A5) (a6 : A6) (a7 : A7) (a8 : A8) (a9 : A9) (a10 : A10) (a11 : A11) (a12 : A12), I a1 a2 a3 a4 a5 a6 a7 a8 a9 a10 a11 a12 → (∀ (b1 : A1) (b2 : A2) (b3 : A3) (b4 : A4) (b5 : A5) (b6 : A6) (b7 : A7) (b8 : A8) (b9 : A9) (b10 : A10) (b11 : A11) (b12 : A12), I b1 b2 b3 b4 b5 b6 b7 b8 b9 b10 b11 b12 → μ b1 b2 b3 b4 b5 b6 b7 b8 b9 b10 b11 b12 < μ a1 a2 a3 a4 a5 a6 a7 a8 a9 a10 a11 a12 → W n b1 b2 b3 b4 b5 b6 b7 b8 b9 b10 b11 b12) → W (n + 1) a1 a2 a3 a4 a5 a6 a7 a8 a9 a10 a11 a12) (a1 : A1) (a2 : A2) (a3 : A3) (a4 : A4) (a5 : A5) (a6 : A6) (a7 : A7) (a8 : A8) (a9 : A9) (a10 : A10) (a11 : A11) (a12 : A12) (h : I a1 a2 a3 a4 a5 a6 a7 a8 a9 a10 a11 a12) : ∃ n, W n a1 a2 a3 a4 a5 a6 a7 a8 a9 a10 a11 a12 :=
  loop_m (σ := A1 × A2 × A3 × A4 × A5 × A6 × A7 × A8 × A9 × A10 × A11 × A12) (fun n s => W n s.1 s.2.1 s.2.2.1 s.2.2.2.1 s.2.2.2.2.1 s.2.2.2.2.2.1 s.2.2.2.2.2.2.1 s.2.2.2.2.2.2.2.1 s.2.2.2.2.2.2.2.2.1 s.2.2.2.2.2.2.2.2.2.1 s.2.2.2.2.2.2.2.2.2.2.1 s.2.2.2.2.2.2.2.2.2.2.2) (fun s => I s.1 s.2.1 s.2.2.1 s.2.2.2.1 s.2.2.2.2.1 s.2.2.2.2.2.1 s.2.2.2.2.2.2.1 s.2.2.2.2.2.2.2.1 s.2.2.2.2.2.2.2.2.1 s.2.2.2.2.2.2.2.2.2.1 s.2.2.2.2.2.2.2.2.2.2.1 s.2.2.2.2.2.2.2.2.2.2.2) (fun s => μ s.1 s.2.1 s.2.2.1 s.2.2.2.1 s.2.2.2.2.1 s.2.2.2.2.2.1 s.2.2.2.2.2.2.1 s.2.2.2.2.2.2.2.1 s.2.2.2.2.2.2.2.2.1 s.2.2.2.2.2.2.2.2.2.1 s.2.2.2.2.2.2.2.2.2.2.1 s.2.2.2.2.2.2.2.2.2.2.2) (fun n s hI hk => hs n s.1 s.2.1 s.2.2.1 s.2.2.2.1 s.2.2.2.2.1 s.2.2.2.2.2.1 s.2.2.2.2.2.2.1 s.2.2.2.2.2.2.2.1 s.2.2.2.2.2.2.2.2.1 s.2.2.2.2.2.2.2.2.2.1 s.2.2.2.2.2.2.2.2.2.2.1 s.2.2.2.2.2.2.2.2.2.2.2 hI (fun b1 b2 b3 b4 b5 b6 b7 b8 b9 b10 b11 b12 h9 hm => hk (b1, b2, b3, b4, b5, b6, b7, b8, b9, b10, b11, b12) h9 hm)) (a1, a2, a3, a4, a5, a6, a7, a8, a9, a10, a11, a12) h
theorem lp13 {A1 A2 A3 A4 A5 A6 A7 A8 A9 A10 A11 A12 A13 : Type} (W : Nat → A1 → A2 → A3 → A4 → A5 → A6 → A7 → A8 → A9 → A10 → A11 → A12 → A13 → Prop) (I : A1 → A2 → A3 → A4 → A5 → A6 → A7 → A8 → A9 → A10 → A11 → A12 → A13 → Prop) (μ : A1 → A2 → A3 → A4 → A5 → A6 → A7 → A8 → A9 → A10 → A11 → A12 → A13 → Nat) (hs : ∀ (n : Nat) (a1 : A1) (a2 : A2) (a3 : A3) (a4 : A4) (a5 : A5) (a6 : A6) (a7 : A7) (a8 : A8) (a9 : A9) (a10 : A10) (a11 : A11) (a12 : A12) (a13 : A13), I a1 a2 a3 a4 a5 a6 a7 a8 a9 a10 a11 a12 a13 → (∀ (b1 : A1) (b2 : A2) (b3 : A3) (b4 : A4) (b5 : A5) (b6 : A6) (b7 : A7) (b8 : A8) (b9 : A9) (b10 : A10) (b11 : A11) (b12 : A12) (b13 : A13), I b1 b2 b3 b4 b5 b6 b7 b8 b9 b10 b11 b12 b13 → μ b1 b2 b3 b4 b5 b6 b7 b8 b9 b10 b11 b12 b13 < μ a1 a2 a3 a4 a5 a6 a7 a8 a9 a10 a11 a12 a13 → W n b1 b2 b3 b4 b5 b6 b7 b8 b9 b10 b11 b12 b13) → W (n + 1) a1 a2 a3 a4 a5 a6 a7 a8 a9 a10 a11 a12 a13) (a1 : A1) (a2 : A2) (a3 : A3) (a4 : A4) (a5 : A5) (a6 : A6) (a7 : A7) (a8 : A8) (a9 : A9) (a10 : A10) (a11 : A11) (a12 : A12) (a13 : A13) (h : I a1 a2 a3 a4 a5 a6 a7 a8 a9 a10 a11 a12 a13) : ∃ n, W n a1 a2 a3 a4 a5 a6 a7 a8 a9 a10 a11 a12 a13 :=
  loop_m (σ := A1 × A2 × A3 × A4 × A5 × A6 × A7 × A8 × A9 × A10 × A11 × A12 × A13) (fun n s => W n s.1 s.2.1 s.2.2.1 s.2.2.2.1 s.2.2.2.2.1 s.2.2.2.2.2.1 s.2.2.2.2.2.2.1 s.2.2.2.2.2.2.2.1 s.2.2.2.2.2.2.2.2.1 s.2.2.2.2.2.2.2.2.2.1 s.2.2.2.2.2.2.2.2.2.2.1 s.2.2.2.2.2.2.2.2.2.2.2.1 s.2.2.2.2.2.2.2.2.2.2.2.2) (fun s => I s.1 s.2.1 s.2.2.1 s.2.2.2.1 s.2.2.2.2.1 s.2.2.2.2.2.1 s.2.2.2.2.2.2.1 s.2.2.2.2.2.2.2.1 s.2.2.2.2.2.2.2.2.1 s.2.2.2.2.2.2.2.2.2.1 s.2.2.2.2.2.2.2.2.2.2.1 s.2.2.2.2.2.2.2.2.2.2.2.1 s.2.2.2.2.2.2.2.2.2.2.2.2) (fun s => μ s.1 s.2.1 s.2.2.1 s.2.2.2.1 s.2.2.2.2.1 s.2.2.2.2.2.1 s.2.2.2.2.2.2.1 s.2.2.2.2.2.2.2.1 s.2.2.2.2.2.2.2.2.1 s.2.2.2.2.2.2.2.2.2.1 s.2.2.2.2.2.2.2.2.2.2.1 s.2.2.2.2.2.2.2.2.2.2.2.1 s.2.2.2.2.2.2.2.2.2.2.2.2) (fun n s hI hk => hs n s.1 s.2.1 s.2.2.1 s.2.2.2.1 s.2.2.2.2.1 s.2.2.2.2.2.1 s.2.2.2.2.2.2.1 s.2.2.2.2.2.2.2.1 s.2.2.2.2.2.2.2.2.1 s.2.2.2.2.2.2.2.2.2.1 s.2.2.2.2.2.2.2.2.2.2.1 s.2.2.2.2.2.2.2.2.2.2.2.1 s.2.2.2.2.2.2.2.2.2.2.2.2 hI (fun b1 b2 b3 b4 b5 b6 b7 b8 b9 b10 b11 b12 b13 h9 hm => hk (b1, b2, b3, b4, b5, b6, b7, b8, b9, b10, b11, b12, b13) h9 hm)) (a1, a2, a3, a4, a5, a6, a7, a8, a9, a10, a11, a12, a13) h
theorem lp14 {A1 A2 A3 A4 A5 A6 A7 A8 A9 A10 A11 A12 A13 A14 : Type} (W : Nat → A1 → A2 → A3 → A4 → A5 → A6 → A7 → A8 → A9 → A10 → A11 → A12 → A13 → A14 → Prop) (I : A1 → A2 → A3 → A4 → A5 → A6 → A7 → A8 → A9 → A10 → A11 → A12 → A13 → A14 → Prop) (μ : A1 → A2 → A3 → A4 → A5 → A6 → A7 → A8 → A9 → A10 → A11 → A12 → A13 → A14 → Nat) (hs : ∀ (n : Nat) (a1 : A1) (a2 : A2) (a3 : A3) (a4 : A4) (a5 : A5) (a6 : A6) (a7 : A7) (a8 : A8) (a9 : A9) (a10 : A10) (a11 : A11) (a12 : A12) (a13 : A13) (a14 : A14), I a1 a2 a3 a4 a5 a6 a7 a8 a9 a10 a11 a12 a13 a14 → (∀ (b1 : A1) (b2 : A2) (b3 : A3) (b4 : A4) (b5 : A5) (b6 : A6) (b7 : A7) (b8 : A8) (b9 : A9) (b10 : A10) (b11 : A11) (b12 : A12) (b13 : A13) (b14 : A14), I b1 b2 b3 b4 b5 b6 b7 b8 b9 b10 b11 b12 b13 b14 → μ b1 b2 b3 b4 b5 b6 b7 b8 b9 b10 b11 b12 b13 b14 < μ a1 a2 a3 a4 a5 a6 a7 a8 a9 a10 a11 a12 a13 a14 → W n b1 b2 b3 b4 b5 b6 b7 b8 b9 b10 b11 b12 b13 b14) → W (n + 1) a1 a2 a3 a4 a5 a6 a7 a8 a9 a10 a11 a12 a13 a14) (a1 : A1) (a2 : A2) (a3 : A3) (a4 : A4) (a5 : A5) (a6 : A6) (a7 : A7) (a8 : A8) (a9 : A9) (a10 : A10) (a11 : A11) (a12 : A12) (a13 : A13) (a14 : A14) (h : I a1 a2 a3 a4 a5 a6 a7 a8 a9 a10 a11 a12 a13 a14) : ∃ n, W n a1 a2 a3 a4 a5 a6 a7 a8 a9 a10 a11 a12 a13 a14 :=
  loop_m (σ := A1 × A2 × A3 × A4 × A5 × A6 × A7 × A8 × A9 × A10 × A11 × A12 × A13 × A14) (fun n s => W n s.1 s.2.1 s.2.2.1 s.2.2.2.1 s.2.2.2.2.1 s.2.2.2.2.2.1 s.2.2.2.2.2.2.1 s.2.2.2.2.2.2.2.1 s.2.2.2.2.2.2.2.2.1 s.2.2.2.2.2.2.2.2.2.1 s.2.2.2.2.2.2.2.2.2.2.1 s.2.2.2.2.2.2.2.2.2.2.2.1 s.2.2.2.2.2.2.2.2.2.2.2.2.1 s.2.2.2.2.2.2.2.2.2.2.2.2.2) (fun s => I s.1 s.2.1 s.2.2.1 s.2.2.2.1 s.2.2.2.2.1 s.2.2.2.2.2.1 s.2.2.2.2.2.2.1 s.2.2.2.2.2.2.2.1 s.2.2.2.2.2.2.2.2.1 s.2.2.2.2.2.2.2.2.2.1 s.2.2.2.2.2.2.2.2.2.2.1 s.2.2.2.2.2.2.2.2.2.2.2.1 s.2.2.2.2.2.2.2.2.2.2.2.2.1 s.2.2.2.2.2.2.2.2.2.2.2.2.2) (fun s => μ s.1 s.2.1 s.2.2.1 s.2.2.2.1 s.2.2.2.2.1 s.2.2.2.2.2.1 s.2.2.2.2.2.2.1 s.2.2.2.2.2.2.2.1 s.2.2.2.2.2.2.2.2.1 s.2.2.2.2.2.2.2.2.2.1 s.2.2.2.2.2.2.2.2.2.2.1 s.2.2.2.2.2.2.2.2.2.2.2.1 s.2.2.2.2.2.2.2.2.2.2.2.2.1 s.2.2.2.2.2.2.2.2.2.2.2.2.2) (fun n s hI hk => hs n s.1 s.2.1 s.2.2.1 s.2.2.2.1 s.2.2.2.2.1 s.2.2.2.2.2.1 s.2.2.2.2.2.2.1 s.2.2.2.2.2.2.2.1 s.2.2.2.2.2.2.2.2.1 s.2.2.2.2.2.2.2.2.2.1 s.2.2.2.2.2.2.2.2.2.2.1 s.2.2.2.2.2.2.2.2.2.2.2.1 s.2.2.2.2.2.2.2.2.2.2.2.2.1 s.2.2.2.2.2.2.2.2.2.2.2.2.2 hI (fun b1 b2 b3 b4 b5 b6 b7 b8 b9 b10 b11 b12 b13 b14 h9 hm => hk (b1, b2, b3, b4, b5, b6, b7, b8, b9, b10, b11, b12, b13, b14) h9 hm)) (a1, a2, a3, a4, a5, a6, a7, a8, a9, a10, a11, a12, a13, a14) h
theorem lp15 {A1 A2 A3 A4 A5 A6 A7 A8 A9 A10 A11 A12 A13 A14 A15 : Type} (W : Nat → A1 → A2 → A3 → A4 → A5 → A6 → A7 → A8 → A9 → A10 → A11 → A12 → A13 → A14 → A15 → Prop) (I : A1 → A2 → A3 → A4 → A5 → A6 → A7 → A8 → A9 → A10 → A11 → A12 → A13 → A14 → A15 → Prop) (μ : A1 → A2 → A3 → A4 → A5 → A6 → A7 → A8 → A9 → A10 → A11 → A12 → A13 → A14 → A15 → Nat) (hs : ∀ (n : Nat) (a1 : A1) (a2 : A2) (a3 : A3) (a4 : A4) (a5 : A5) (a6 : A6) (a7 : A7) (a8 : A8) (a9 : A9) (a10 : A10) (a11 : A11) (a12 : A12) (a13 : A13) (a14 : A14) (a15 : A15), I a1 a2 a3 a4 a5 a6 a7 a8 a9 a10 a11 a12 a13 a14 a15 → (∀ (b1 : A1) (b2 : A2) (b3 : A3) (b4 : A4) (b5 : A5) (b6 : A6) (b7 : A7) (b8 : A8) (b9 : A9) (b10 : A10) (b11 : A11) (b12 : A12) (b13 : A13) (b14 : A14) (b15 : A15), I b1 b2 b3 b4 b5 b6 b7 b8 b9 b10 b11 b12 b13 b14 b15 → μ b1 b2 b3 b4 b5 b6 b7 b8 b9 b10 b11 b12 b13 b14 b15 < μ a1 a2 a3 a4 a5 a6 a7 a8 a9 a10 a11 a12 a13 a14 a15 → W n b1 b2 b3 b4 b5 b6 b7 b8 b9 b10 b11 b12 b13 b14 b15) → W (n + 1) a1 a2 a3 a4 a5 a6 a7 a8 a9 a10 a11 a12 a13 a14 a15) (a1 : A1) (a2 : A2) (a3 : A3) (a4 : A4) (a5 : A5) (a6 : A6) (a7 : A7) (a8 : A8) (a9 : A9) (a10 : A10) (a11 : A11) (a12 : A12) (a13 : A13) (a14 : A14) (a15 : A15) (h : I a1 a2 a3 a4 a5 a6 a7 a8 a9 a10 a11 a12 a13 a14 a15) : ∃ n, W n a1 a2 a3 a4 a5 a6 a7 a8 a9 a10 a11 a12 a13 a14 a15 :=
  loop_m (σ := A1 × A2 × A3 × A4 × A5 × A6 × A7 × A8 × A9 × A10 × A11 × A12 × A13 × A14 × A15) (fun n s => W n s.1 s.2.1 s.2.2.1 s.2.2.2.1 s.2.2.2.2.1 s.2.2.2.2.2.1 s.2.2.2.2.2.2.1 s.2.2.2.2.2.2.2.1 s.2.2.2.2.2.2.2.2.1 s.2.2.2.2.2.2.2.2.2.1 s.2.2.2.2.2.2.2.2.2.2.1 s.2.2.2.2.2.2.2.2.2.2.2.1 s.2.2.2.2.2.2.2.2.2.2.2.2.1 s.2.2.2.2.2.2.2.2.2.2.2.2.2.1 s.2.2.2.2.2.2.2.2.2.2.2.2.2.2) (fun s => I s.1 s.2.1 s.2.2.1 s.2.2.2.1 s.2.2.2.2.1 s.2.2.2.2.2.1 s.2.2.2.2.2.2.1 s.2.2.2.2.2.2.2.1 s.2.2.2.2.2.2.2.2.1 s.2.2.2.2.2.2.2.2.2.1 s.2.2.2.2.2.2.2.2.2.2.1 s.2.2.2.2.2.2.2.2.2.2.2.1 s.2.2.2.2.2.2.2.2.2.2.2.2.1 s.2.2.2.2.2.2.2.2.2.2.2.2.2.1 s.2.2.2.2.2.2.2.2.2.2.2.2.2.2) (fun s => μ s.1 s.2.1 s.2.2.1 s.2.2.2.1 s.2.2.2.2.1 s.2.2.2.2.2.1 s.2.2.2.2.2.2.1 s.2.2.2.2.2.2.2.1 s.2.2.2.2.2.2.2.2.1 s.2.2.2.2.2.2.2.2.2.1 s.2.2.2.2.2.2.2.2.2.2.1 s.2.2.2.2.2.2.2.2.2.2.2.1 s.2.2.2.2.2.2.2.2.2.2.2.2.1 s.2.2.2.2.2.2.2.2.2.2.2.2.2.1 s.2.2.2.2.2.2.2.2.2.2.2.2.2.2) (fun n s hI hk => hs n s.1 s.2.1 s.2.2.1 s.2.2.2.1 s.2.2.2.2.1 s.2.2.2.2.2.1 s.2.2.2.2.2.2.1 s.2.2.2.2.2.2.2.1 s.2.2.2.2.2.2.2.2.1 s.2.2.2.2.2.2.2.2.2.1 s.2.2.2.2.2.2.2.2.2.2.1 s.2.2.2.2.2.2.2.2.2.2.2.1 s.2.2.2.2.2.2.2.2.2.2.2.2.1 s.2.2.2.2.2.2.2.2.2.2.2.2.2.1 s.2.2.2.2.2.2.2.2.2.2.2.2.2.2 hI (fun b1 b2 b3 b4 b5 b6 b7 b8 b9 b10 b11 b12 b13 b14 b15 h9 hm => hk (b1, b2, b3, b4, b5, b6, b7, b8, b9, b10, b11, b12, b13, b14, b15) h9 hm)) (a1, a2, a3, a4, a5, a6, a7, a8, a9, a10, a11, a12, a13, a14, a15) h
theorem lp16 {A1 A2 A3 A4 A5 A6 A7 A8 A9 A10 A11 A12 A13 A14 A15 A16 : Type} (W : Nat → A1 → A2 → A3 → A4 → A5 → A6 → A7 → A8 → A9 → A10 → A11 → A12 → A13 → A14 → A15 → A16 → Prop) (I : A1 → A2 → A3 → A4 → A5 → A6 → A7 → A8 → A9 → A10 → A11 → A12 → A13 → A14 → A15 → A16 → Prop) (μ : A1 → A2 → A3 → A4 → A5 → A6 → A7 → A8 → A9 → A10 → A11 → A12 → A13 → A14 → A15 → A16 → Nat) (hs : ∀ (n : Nat) (a1 : A1) (a2 : A2) (a3 : A3) (a4 : A4) (a5 : A5) (a6 : A6) (a7 : A7) (a8 : A8) (a9 : A9) (a10 : A10) (a11 : A11) (a12 : A12) (a13 : A13) (a14 : A14) (a15 : A15) (a16 : A16), I a1 a2 a3 a4 a5 a6 a7 a8 a9 a10 a11 a12 a13 a14 a15 a16 → (∀ (b1 : A1) (b2 : A2) (b3 : A3) (b4 : A4) (b5 : A5) (b6 : A6) (b7 : A7) (b8 : A8) (b9 : A9) (b10 : A10) (b11 : A11) (b12 : A12) (b13 : A13) (b14 : A14) (b15 : A15) (b16 : A16), I b1 b2 b3 b4 b5 b6 b7 b8 b9 b10 b11 b12 b13 b14 b15 b16 → μ b1 b2 b3 b4 b5 b6 b7 b8 b9 b10 b11 b12 b13 b14 b15 b16 < μ a1 a2 a3 a4 a5 a6 a7 a8 a9 a10 a11 a12 a13 a14 a15 a16 → W n b1 b2 b3 b4 b5 b6 b7 b8 b9 b10 b11 b12 b13 b14 b15 b16) → W (n + 1) a1 a2 a3 a4 a5 a6 a7 a8 a9 a10 a11 a12 a13 a14 a15 a16) (a1 : A1) (a2 : A2) (a3 : A3) (a4 : A4) (a5 : A5) (a6 : A6) (a7 : A7) (a8 : A8) (a9 : A9) (a10 : A10) (a11 : A11) (a12 : A12) (a13 : A13) (a14 : A14) (a15 : A15) (a16 : A16) (h : I a1 a2 a3 a4 a5 a6 a7 a8 a9 a10 a11 a12 a13 a14 a15 a16) : ∃ n, W n a1 a2 a3 a4 a5 a6 a7 a8 a9 a10 a11 a12 a13 a14 a15 a16 :=
  loop_m (σ := A1 × A2 × A3 × A4 × A5 × A6 × A7 × A8 × A9 × A10 × A11 × A12 × A13 × A14 × A15 × A16) (fun n s => W n s.1 s.2.1 s.2.2.1 s.2.2.2.1 s.2.2.2.2.1 s.2.2.2.2.2.1 s.2.2.2.2.2.2.1 s.2.2.2.2.2.2.2.1 s.2.2.2.2.2.2.2.2.1 s.2.2.2.2.2.2.2.2.2.1 s.2.2.2.2.2.2.2.2.2.2.1 s.2.2.2.2.2.2.2.2.2.2.2.1 s.2.2.2.2.2.2.2.2.2.2.2.2.1 s.2.2.2.2.2.2.2.2.2.2.2.2.2.1 s.2.2.2.2.2.2.2.2.2.2.2.2.2.2.1 s.2.2.2.2.2.2.2.2.2.2.2.2.2.2.2) (fun s => I s.1 s.2.1 s.2.2.1 s.2.2.2.1 s.2.2.2.2.1 s.2.2.2.2.2.1 s.2.2.2.2.2.2.1 s.2.2.2.2.2.2.2.1 s.2.2.2.2.2.2.2.2.1 s.2.2.2.2.2.2.2.2.2.1 s.2.2.2.2.2.2.2.2.2.2.1 s.2.2.2.2.2.2.2.2.2.2.2.1 s.2.2.2.2.2.2.2.2.2.2.2.2.1 s.2.2.2.2.2.2.2.2.2.2.2.2.2.1 s.2.2.2.2.2.2.2.2.2.2.2.2.2.2.1 s.2.2.2.2.2.2.2.2.2.2.2.2.2.2.2) (fun s => μ s.1 s.2.1 s.2.2.1 s.2.2.2.1 s.2.2.2.2.1 s.2.2.2.2.2.1 s.2.2.2.2.2.2.1 s.2.2.2.2.2.2.2.1 s.2.2.2.2.2.2.2.2.1 s.2.2.2.2.2.2.2.2.2.1 s.2.2.2.2.2.2.2.2.2.2.1 s.2.2.2.2.2.2.2.2.2.2.2.1 s.2.2.2.2.2.2.2.2.2.2.2.2.1 s.2.2.2.2.2.2.2.2.2.2.2.2.2.1 s.2.2.2.2.2.2.2.2.2.2.2.2.2.2.1 s.2.2.2.2.2.2.2.2.2.2.2.2.2.2.2) (fun n s hI hk => hs n s.1 s.2.1 s.2.2.1 s.2.2.2.1 s.2.2.2.2.1 s.2.2.2.2.2.1 s.2.2.2.2.2.2.1 s.2.2.2.2.2.2.2.1 s.2.2.2.2.2.2.2.2.1 s.2.2.2.2.2.2.2.2.2.1 s.2.2.2.2.2.2.2.2.2.2.1 s.2.2.2.2.2.2.2.2.2.2.2.1 s.2.2.2.2.2.2.2.2.2.2.2.2.1 s.2.2.2.2.2.2.2.2.2.2.2.2.2.1 s.2.2.2.2.2.2.2.2.2.2.2.2.2.2.1 s.2.2.2.2.2.2.2.2.2.2.2.2.2.2.2 hI (fun b1 b2 b3 b4 b5 b6 b7 b8 b9 b10 b11 b12 b13 b14 b15 b16 h9 hm => hk (b1, b2, b3, b4, b5, b6, b7, b8, b9, b10, b11, b12, b13, b14, b15, b16) h9 hm)) (a1, a2, a3, a4, a5, a6, a7, a8, a9, a10, a11, a12, a13, a14, a15, a16) h
theorem pk_least (P : Nat → Prop) (h : ∃ k, P k) : ∃ k, P k ∧ ∀ j, j < k → ¬ P j := by
  obtain ⟨k, hk⟩ := h
  induction k using Nat.strongRecOn with
  | ind k ih =>
    by_cases e : ∃ j, j < k ∧ P j
    · obtain ⟨j, hj, pj⟩ := e
      exact ih j hj pj
    · exact ⟨k, hk, fun j hj pj => e ⟨j, hj, pj⟩⟩
theorem rp1 {ρ A1 : Type} (W : Nat → (ρ → Prop) → A1 → Prop) (ok : A1 → Prop) (μ : A1 → Nat) (val : A1 → ρ)
    (hs : ∀ (d : Nat) (post : ρ → Prop) (a1 : A1), ok a1 → post (val a1) → (∀ (post' : ρ → Prop) (b1 : A1), ok b1 → μ b1 < μ a1 → post' (val b1) → W d post' b1) → W (d + 1) post a1) :
    ∀ (d : Nat) (post : ρ → Prop) (a1 : A1), ok a1 → μ a1 < d → post (val a1) → W d post a1 := by
  intro d
  induction d with
  | zero => intro post a1 _ h; omega
  | succ d ih =>
    intro post a1 ho hm hp
    exact hs d post a1 ho hp (fun post' b1 ho' hm' hp' => ih post' b1 ho' (by omega) hp')
theorem rp2 {ρ A1 A2 : Type} (W : Nat → (ρ → Prop) → A1 → A2 → Prop) (ok : A1 → A2 → Prop) (μ : A1 → A2 → Nat) (val : A1 → A2 → ρ)
    (hs : ∀ (d : Nat) (post : ρ → Prop) (a1 : A1) (a2 : A2), ok a1 a2 → post (val a1 a2) → (∀ (post' : ρ → Prop) (b1 : A1) (b2 : A2), ok b1 b2 → μ b1 b2 < μ a1 a2 → post' (val b1 b2) → W d post' b1 b2) → W (d + 1) post a1 a2) :
    ∀ (d : Nat) (post : ρ → Prop) (a1 : A1) (a2 : A2), ok a1 a2 → μ a1 a2 < d → post (val a1 a2) → W d post a1 a2 := by
  intro d
  induction d with
  | zero => intro post a1 a2 _ h; omega
  | succ d ih =>
    intro post a1 a2 ho hm hp
    exact hs d post a1 a2 ho hp (fun post' b1 b2 ho' hm' hp' => ih post' b1 b2 ho' (by omega) hp')
theorem rp3 {ρ A1 A2 A3 : Type} (W : Nat → (ρ → Prop) → A1 → A2 → A3 → Prop) (ok : A1 → A2 → A3 → Prop) (μ : A1 → A2 → A3 → Nat) (val : A1 → A2 → A3 → ρ)
    (hs : ∀ (d : Nat) (post : ρ → Prop) (a1 : A1) (a2 : A2) (a3 : A3), ok a1 a2 a3 → post (val a1 a2 a3) → (∀ (post' : ρ → Prop) (b1 : A1) (b2 : A2) (b3 : A3), ok b1 b2 b3 → μ b1 b2 b3 < μ a1 a2 a3 → post' (val b1 b2 b3) → W d post' b1 b2 b3) → W (d + 1) post a1 a2 a3) :
    ∀ (d : Nat) (post : ρ → Prop) (a1 : A1) (a2 : A2) (a3 : A3), ok a1 a2 a3 → μ a1 a2 a3 < d → post (val a1 a2 a3) → W d post a1 a2 a3 := by
  intro d
  induction d with
  | zero => intro post a1 a2 a3 _ h; omega
  | succ d ih =>
    intro post a1 a2 a3 ho hm hp
    exact hs d post a1 a2 a3 ho hp (fun post' b1 b2 b3 ho' hm' hp' => ih post' b1 b2 b3 ho' (by omega) hp')
theorem rp4 {ρ A1 A2 A3 A4 : Type} (W : Nat → (ρ → Prop) → A1 → A2 → A3 → A4 → Prop) (ok : A1 → A2 → A3 → A4 → Prop) (μ : A1 → A2 → A3 → A4 → Nat) (val : A1 → A2 → A3 → A4 → ρ)
    (hs : ∀ (d : Nat) (post : ρ → Prop) (a1 : A1) (a2 : A2) (a3 : A3) (a4 : A4), ok a1 a2 a3 a4 → post (val a1 a2 a3 a4) → (∀ (post' : ρ → Prop) (b1 : A1) (b2 : A2) (b3 : A3) (b4 : A4), ok b1 b2 b3 b4 → μ b1 b2 b3 b4 < μ a1 a2 a3 a4 → post' (val b1 b2 b3 b4) → W d post' b1 b2 b3 b4) → W (d + 1) post a1 a2 a3 a4) :
    ∀ (d : Nat) (post : ρ → Prop) (a1 : A1) (a2 : A2) (a3 : A3) (a4 : A4), ok a1 a2 a3 a4 → μ a1 a2 a3 a4 < d → post (val a1 a2 a3 a4) → W d post a1 a2 a3 a4 := by
  intro d
  induction d with
  | zero => intro post a1 a2 a3 a4 _ h; omega
  | succ d ih =>
    intro post a1 a2 a3 a4 ho hm hp
    exact hs d post a1 a2 a3 a4 ho hp (fun post' b1 b2 b3 b4 ho' hm' hp' => ih post' b1 b2 b3 b4 ho' (by omega) hp')
theorem rp5 {ρ A1 A2 A3 A4 A5 : Type} (W : Nat → (ρ → Prop) → A1 → A2 → A3 → A4 → A5 → Prop) (ok : A1 → A2 → A3 → A4 → A5 → Prop) (μ : A1 → A2 → A3 → A4 → A5 → Nat) (val : A1 → A2 → A3 → A4 → A5 → ρ)
    (hs : ∀ (d : Nat) (post : ρ → Prop) (a1 : A1) (a2 : A2) (a3 : A3) (a4 : A4) (a5 : A5), ok a1 a2 a3 a4 a5 → post (val a1 a2 a3 a4 a5) → (∀ (post' : ρ → Prop) (b1 : A1) (b2 : A2) (b3 : A3) (b4 : A4) (b5 : A5), ok b1 b2 b3 b4 b5 → μ b1 b2 b3 b4 b5 < μ a1 a2 a3 a4 a5 → post' (val b1 b2 b3 b4 b5) → W d post' b1 b2 b3 b4 b5) → W (d + 1) post a1 a2 a3 a4 a5) :
    ∀ (d : Nat) (post : ρ → Prop) (a1 : A1) (a2 : A2) (a3 : A3) (a4 : A4) (a5 : A5), ok a1 a2 a3 a4 a5 → μ a1 a2 a3 a4 a5 < d → post (val a1 a2 a3 a4 a5) → W d post a1 a2 a3 a4 a5 := by
  intro d
  induction d with
  | zero => intro post a1 a2 a3 a4 a5 _ h; omega
  | succ d ih =>
    intro post a1 a2 a3 a4 a5 ho hm hp
    exact hs d post a1 a2 a3 a4 a5 ho hp (fun post' b1 b2 b3 b4 b5 ho' hm' hp' => ih post' b1 b2 b3 b4 b5 ho' (by omega) hp')
theorem rp6 {ρ A1 A2 A3 A4 A5 A6 : Type} (W : Nat → (ρ → Prop) → A1 → A2 → A3 → A4 → A5 → A6 → Prop) (ok : A1 → A2 → A3 → A4 → A5 → A6 → Prop) (μ : A1 → A2 → A3 → A4 → A5 → A6 → Nat) (val : A1 → A2 → A3 → A4 → A5 → A6 → ρ)
    (hs : ∀ (d : Nat) (post : ρ → Prop) (a1 : A1) (a2 : A2) (a3 : A3) (a4 : A4) (a5 : A5) (a6 : A6), ok a1 a2 a3 a4 a5 a6 → post (val a1 a2 a3 a4 a5 a6) → (∀ (post' : ρ → Prop) (b1 : A1) (b2 : A2) (b3 : A3) (b4 : A4) (b5 : A5) (b6 : A6), ok b1 b2 b3 b4 b5 b6 → μ b1 b2 b3 b4 b5 b6 < μ a1 a2 a3 a4 a5 a6 → post' (val b1 b2 b3 b4 b5 b6) → W d post' b1 b2 b3 b4 b5 b6) → W (d + 1) post a1 a2 a3 a4 a5 a6) :
    ∀ (d : Nat) (post : ρ → Prop) (a1 : A1) (a2 : A2) (a3 : A3) (a4 : A4) (a5 : A5) (a6 : A6), ok a1 a2 a3 a4 a5 a6 → μ a1 a2 a3 a4 a5 a6 < d → post (val a1 a2 a3 a4 a5 a6) → W d post a1 a2 a3 a4 a5 a6 := by
  intro d
  induction d with
  | zero => intro post a1 a2 a3 a4 a5 a6 _ h; omega
  | succ d ih =>
    intro post a1 a2 a3 a4 a5 a6 ho hm hp
    exact hs d post a1 a2 a3 a4 a5 a6 ho hp (fun post' b1 b2 b3 b4 b5 b6 ho' hm' hp' => ih post' b1 b2 b3 b4 b5 b6 ho' (by omega) hp')
theorem rec_p {σ ρ : Type} (W : Nat → (ρ → Prop) → σ → Prop) (ok : σ → Prop) (μ : σ → Nat) (val : σ → ρ)
    (hs : ∀ d s post, ok s → post (val s) → (∀ s' post', ok s' → μ s' < μ s → post' (val s') → W d post' s') → W (d + 1) post s) :
    ∀ d s post, ok s → μ s < d → post (val s) → W d post s := by
  intro d
  induction d with
  | zero => intro s post _ h; omega
  | succ d ih =>
    intro s post ho hm hp
    exact hs d s post ho hp (fun s' post' ho' hm' hp' => ih s' post' ho' (by omega) hp')
theorem rec_q {σ ρ : Type} (W : Nat → (ρ → Prop) → σ → Prop) (ok : σ → Prop) (μ : σ → Nat) (Q : σ → ρ → Prop)
    (hs : ∀ d s post, ok s → (∀ r, Q s r → post r) → (∀ s' post', ok s' → μ s' < μ s → (∀ r, Q s' r → post' r) → W d post' s') → W (d + 1) post s) :
    ∀ d s post, ok s → μ s < d → (∀ r, Q s r → post r) → W d post s := by
  intro d
  induction d with
  | zero => intro s post _ h; omega
  | succ d ih =>
    intro s post ho hm hp
    exact hs d s post ho hp (fun s' post' ho' hm' hp' => ih s' post' ho' (by omega) hp')
def bx_sum (f : Nat → Int32) : Nat → Int32
  | 0 => 0
  | n + 1 => bx_sum f n + f n
theorem ek_u {A : Prop} {B : Nat → Prop} {k N : Nat} (hk : k < N) (h : B k) : (some k = none → A) ∧ (∀ y : Nat, some k = some y → (y < N ∧ B y)) :=
  ⟨fun z => absurd z (Option.some_ne_none k), fun _ e => (by cases e; exact ⟨hk, h⟩)⟩
theorem ek_nu {A : Prop} {B : Nat → Prop} (h : A) : ((none : Option Nat) = none → A) ∧ (∀ y : Nat, (none : Option Nat) = some y → B y) :=
  ⟨fun _ => h, fun _ e => (by cases e)⟩
theorem ek_if {c d A B : Prop} (e : c ↔ d) (f : d → A) (g : ¬ d → B) : (c → A) ∧ (¬ c → B) :=
  ⟨fun z => f (e.mp z), fun z => g (fun y => z (e.mpr y))⟩
theorem ek_v {α : Sort _} {P : α → Prop} {a b : α} (e : a = b) (h : P b) : P a := e ▸ h
theorem co_some {x : Option Nat} {A : Prop} {B : Nat → Prop} (i : Nat) (h : B i) (hx : x = some i := by rfl) : (x = none → A) ∧ (∀ y : Nat, x = some y → B y) := by
  subst hx
  exact ⟨fun e => (nomatch e), fun y e => Option.some.inj e ▸ h⟩
theorem co_none {x : Option Nat} {A : Prop} {B : Nat → Prop} (h : A) (hx : x = none := by rfl) : (x = none → A) ∧ (∀ y : Nat, x = some y → B y) := by
  subst hx
  exact ⟨fun _ => h, fun y e => (nomatch e)⟩
theorem co_any {x : Option Nat} {A : Prop} {B : Nat → Prop} (hn : x = none → A) (hs : ∀ i : Nat, x = some i → B i) : (x = none → A) ∧ (∀ y : Nat, x = some y → B y) := ⟨hn, hs⟩
theorem co_2 {P : Nat → Prop} (h0 : P 0) (h1 : P 1) {i : Nat} (hi : i < 2) : P i :=
  match i, hi with
  | 0, _ => h0
  | 1, _ => h1
theorem co_3 {P : Nat → Prop} (h0 : P 0) (h1 : P 1) (h2 : P 2) {i : Nat} (hi : i < 3) : P i :=
  match i, hi with
  | 0, _ => h0
  | 1, _ => h1
  | 2, _ => h2
theorem co_4 {P : Nat → Prop} (h0 : P 0) (h1 : P 1) (h2 : P 2) (h3 : P 3) {i : Nat} (hi : i < 4) : P i :=
  match i, hi with
  | 0, _ => h0
  | 1, _ => h1
  | 2, _ => h2
  | 3, _ => h3
theorem co_dec {N : Nat} {P : Nat → Prop} [DecidablePred P] (h : (List.range N).all (fun i => decide (P i)) = true) {i : Nat} (hi : i < N) : P i := by
  have := List.all_eq_true.mp h i (List.mem_range.mpr hi)
  exact of_decide_eq_true this
theorem co_tab {α : Type} {l : List α} {d : α} {P : α → Prop} (h : ∀ a, a ∈ l → P a) {i : Nat} (hi : i < l.length) : P (l.getD i d) := by
  rw [List.getD_eq_getElem?_getD, List.getElem?_eq_getElem hi]
  exact h _ (List.getElem_mem hi)
theorem pk_mu {x : Int32} {L : Nat} (h0 : ¬ x < 0) (h : ¬ nI L ≤ x) (hL : L < 2 ^ 31) : ∃ j : Nat, j < L ∧ x = nI j ∧ x + 1 = nI (j + 1) ∧ x.toNatClampNeg = j ∧ L - (x + 1).toNatClampNeg < L - x.toNatClampNeg := by
  obtain ⟨j, hj, rfl⟩ := nI_of h0
  have hl : j < L := Nat.not_le.mp fun q => h (nI_le q hj)
  refine ⟨j, hl, rfl, nI_1 j, nI_clamp hj, ?_⟩
  rw [nI_1, nI_clamp (by omega), nI_clamp hj]
  omega
theorem op_s {α : Type} {r : Option α} {A : Prop} {B : α → Prop} {y : α} (h : r = some y) (b : B y) : (r = none → A) ∧ ∀ z, r = some z → B z :=
  ⟨fun e => (by rw [h] at e; cases e), fun z e => (by rw [h] at e; cases e; exact b)⟩
def l_holds {α : Type} (a : Nat → Option Nat) (LP : List Nat) (p : Nat → α) (c : Nat) (b : Nat → α) : Prop :=
  ∀ j, j < c → ∃ y, a j = some y ∧ y ∈ LP ∧ p y = b j
theorem l_holds_0 {α : Type} {a : Nat → Option Nat} {LP : List Nat} {p b : Nat → α} : l_holds a LP p 0 b := fun j h => absurd h (Nat.not_lt_zero j)
theorem l_in_new (LP : List Nat) (q : Nat) : q ∈ LP ++ [q] := List.mem_append.mpr (Or.inr (List.mem_singleton.mpr rfl))
def l_sum (b : Nat → Int32) : Nat → Int32
  | 0 => 0
  | k + 1 => l_sum b k + b k
theorem sb_shr0 (x : Int32) : x >>> ((0 : Int32) &&& 31) = x := by
  rw [show ((0 : Int32) &&& 31) = 0 by decide]
  simp
theorem sb_shl0 (x : Int32) : x <<< ((0 : Int32) &&& 31) = x := by
  rw [show ((0 : Int32) &&& 31) = 0 by decide]
  simp
theorem sb_cl0 : (0 : Int32).toNatClampNeg = 0 := by decide
theorem sb_m1 {p : Nat} (h : 0 < p) : nI p + (-1) = nI (p - 1) := by
  obtain ⟨q, rfl⟩ : ∃ q, p = q + 1 := ⟨p - 1, by omega⟩
  exact pk_m1 q
def sb_b (c : Nat) : Int32 := (nI c).toInt8.toInt32
theorem sb_byte : ∀ c, c < 256 → sb_b c &&& 255 = nI c ∧ ((nI c).toUInt32 % 65536).toInt32 = nI c ∧ nI c ≤ 255 := by decide +kernel
def sb_Fit (a : Nat → Int32) : Prop := ∀ j, fits .byte (.int (a j)) = true
def sb_Lat (t : Nat → Nat) (n : Nat) (a : Nat → Int32) : Prop := ∀ j, j < n → t j < 256 ∧ a j = sb_b (t j)
theorem sb_fitB (c : Nat) : fits .byte (.int (sb_b c)) = true := pk_fb _
theorem sb_fit0 : sb_Fit (fun _ => 0) := fun _ => by
  show fits .byte (.int 0) = true
  decide
theorem sb_fitU {a : Nat → Int32} {k : Nat} {x : Int32} (h : sb_Fit a) (hx : fits .byte (.int x) = true) : sb_Fit (upd a k x) := by
  intro j
  by_cases e : j = k
  · subst e
    rw [pk_us]
    exact hx
  · rw [pk_un e]
    exact h j
def sb_cat (t : Nat → Nat) (n : Nat) (s : Nat → Nat) : Nat → Nat := fun j => if j < n then t j else s (j - n)
theorem sb_cat_lo {t s : Nat → Nat} {n j : Nat} (h : j < n) : sb_cat t n s j = t j := if_pos h
theorem sb_cat_hi {t s : Nat → Nat} {n j : Nat} : sb_cat t n s (n + j) = s j := by
  show (if n + j < n then t (n + j) else s (n + j - n)) = s j
  rw [if_neg (by omega), Nat.add_sub_cancel_left]
theorem sb_latPut {t s : Nat → Nat} {n w : Nat} {a a' : Nat → Int32} (h : sb_Lat t n a) (hk : ∀ j, j < n → a' j = a j) (hs : ∀ i, i < w → s i < 256 ∧ a' (n + i) = sb_b (s i)) : sb_Lat (sb_cat t n s) (n + w) a' := by
  intro j hj
  by_cases e : j < n
  · rw [sb_cat_lo e, hk j e]
    exact h j e
  · obtain ⟨i, rfl⟩ : ∃ i, j = n + i := ⟨j - n, by omega⟩
    rw [sb_cat_hi]
    exact hs i (by omega)
theorem sb_latKeep {t : Nat → Nat} {n : Nat} {a a' : Nat → Int32} (h : sb_Lat t n a) (hk : ∀ j, j < n → a' j = a j) : sb_Lat t n a' := fun j hj => by
  rw [hk j hj]
  exact h j hj
def sb_cap (q m : Nat) : Nat := if q ≤ m then m else if 2 * m + 2 < q then q else 2 * m + 2
def sb_Room (q m mc ms : Nat) : Prop := q ≤ m ∨ (1 ≤ mc ∧ sb_cap q m ≤ ms ∧ sb_cap q m ≤ 65536)
theorem sb_cap_ge (q m : Nat) : q ≤ sb_cap q m := by
  unfold sb_cap
  split
  · omega
  · split <;> omega
theorem sb_cap_gem (q m : Nat) : m ≤ sb_cap q m := by
  unfold sb_cap
  split
  · omega
  · split <;> omega
theorem sb_cap_le {q m mc ms : Nat} (hm : m ≤ 65536) (hr : sb_Room q m mc ms) : sb_cap q m ≤ 65536 := by
  rcases hr with h | h
  · rw [sb_cap, if_pos h]
    exact hm
  · exact h.2.2
theorem sb_at {P : Int32 → Prop} {x y : Int32} (e : x = y) (h : P y) : P x := e ▸ h
def sb_dg (w : Nat) : Nat := if w < 10 then 1 else if w < 100 then 2 else if w < 1000 then 3 else if w < 10000 then 4 else if w < 100000 then 5 else if w < 1000000 then 6 else if w < 10000000 then 7 else if w < 100000000 then 8 else if w < 1000000000 then 9 else 10
def sb_dec (v : Nat) : Nat → Nat := fun i => 48 + v / 10 ^ (sb_dg v - 1 - i) % 10
theorem sb_dg_in (w : Nat) : 1 ≤ sb_dg w ∧ sb_dg w ≤ 10 := by
  unfold sb_dg
  constructor <;> (repeat' split) <;> omega
theorem sb_dg100 {w : Nat} (h : 100 ≤ w) (hw : w < 2 ^ 31) : sb_dg w = sb_dg (w / 100) + 2 := by
  rw [sb_dg, sb_dg, if_neg (show ¬ w < 10 by omega), if_neg (show ¬ w < 100 by omega)]
  by_cases h3 : w < 1000
  · rw [if_pos h3, if_pos (show w / 100 < 10 by omega)]
  rw [if_neg h3, if_neg (show ¬ w / 100 < 10 by omega)]
  by_cases h4 : w < 10000
  · rw [if_pos h4, if_pos (show w / 100 < 100 by omega)]
  rw [if_neg h4, if_neg (show ¬ w / 100 < 100 by omega)]
  by_cases h5 : w < 100000
  · rw [if_pos h5, if_pos (show w / 100 < 1000 by omega)]
  rw [if_neg h5, if_neg (show ¬ w / 100 < 1000 by omega)]
  by_cases h6 : w < 1000000
  · rw [if_pos h6, if_pos (show w / 100 < 10000 by omega)]
  rw [if_neg h6, if_neg (show ¬ w / 100 < 10000 by omega)]
  by_cases h7 : w < 10000000
  · rw [if_pos h7, if_pos (show w / 100 < 100000 by omega)]
  rw [if_neg h7, if_neg (show ¬ w / 100 < 100000 by omega)]
  by_cases h8 : w < 100000000
  · rw [if_pos h8, if_pos (show w / 100 < 1000000 by omega)]
  rw [if_neg h8, if_neg (show ¬ w / 100 < 1000000 by omega)]
  by_cases h9 : w < 1000000000
  · rw [if_pos h9, if_pos (show w / 100 < 10000000 by omega)]
  rw [if_neg h9, if_neg (show ¬ w / 100 < 10000000 by omega)]
  rw [if_pos (show w / 100 < 100000000 by omega)]
theorem sb_negT {w : Nat} (h : w < 2 ^ 31) : (-nI w).toInt = -(w : Int) := by
  rw [Int32.toInt_neg, nI_toInt h]
  exact Int.bmod_eq_of_le (by omega) (by omega)
theorem sb_nle {a b : Nat} (ha : a < 2 ^ 31) (hb : b < 2 ^ 31) : -nI a ≤ -nI b ↔ b ≤ a := by
  rw [Int32.le_iff_toInt_le, sb_negT ha, sb_negT hb]
  omega
theorem sb_nlt {a b : Nat} (ha : a < 2 ^ 31) (hb : b < 2 ^ 31) : -nI a < -nI b ↔ b < a := by
  rw [Int32.lt_iff_toInt_lt, sb_negT ha, sb_negT hb]
  omega
theorem sb_cmp {A B : Prop} {x : Int32} (v c : Nat) (f : c ≤ v → A) (g : v < c → B) (hv : v < 2 ^ 31) (hx : x = -nI c := by rfl) (hc : c < 2 ^ 31 := by omega) : (-nI v ≤ x → A) ∧ (¬ -nI v ≤ x → B) := by
  subst hx
  rw [sb_nle hv hc]
  exact ⟨f, fun z => g (by omega)⟩
theorem sb_ndiv {w : Nat} (hw : w < 2 ^ 31) : (-nI w) / 100 = -nI (w / 100) := by
  apply Int32.toInt_inj.mp
  have h100 : (100 : Int32).toInt = 100 := by decide
  rw [Int32.toInt_div, sb_negT hw, h100, sb_negT (by omega), Int.neg_tdiv, Int.tdiv_eq_ediv_of_nonneg (by omega), Int.bmod_eq_of_le (by omega) (by omega)]
  omega
theorem sb_nrem {w : Nat} (hw : w < 2 ^ 31) : (-nI (w / 100)) * 100 - (-nI w) = nI (w % 100) := by
  have h := pk_rem (a := w) (d := 100) hw (by decide) (by decide)
  rw [pk_div hw (by decide) (by decide)] at h
  rw [← h]
  show (-nI (w / 100)) * nI 100 - (-nI w) = nI w - nI (w / 100) * nI 100
  rw [Int32.neg_mul, Int32.sub_neg, Int32.add_comm, ← Int32.sub_eq_add_neg]
/-! rows on bits, shifts and unsigned numbers, to paste: each family out of a closed proof of our own, whole with what it rests on; each by itself clean at Lean in its own claim (generation 39, form 5). Take a family whole -/
/-! ===== Int32 by its bits: bt x i ===== -/
def bt (x : Int32) (i : Nat) : Bool := x.toBitVec.getLsbD i
theorem b_ext {x y : Int32} (h : ∀ i, i < 32 → bt x i = bt y i) : x = y := Int32.toBitVec_inj.mp (BitVec.eq_of_getLsbD_eq (fun i hi => h i hi))
theorem b_or (x y : Int32) (i : Nat) : bt (x ||| y) i = (bt x i || bt y i) := by unfold bt; rw [Int32.toBitVec_or, BitVec.getLsbD_or]
theorem b_and (x y : Int32) (i : Nat) : bt (x &&& y) i = (bt x i && bt y i) := by unfold bt; rw [Int32.toBitVec_and, BitVec.getLsbD_and]
theorem b_xor (x y : Int32) (i : Nat) : bt (x ^^^ y) i = (bt x i ^^ bt y i) := by unfold bt; rw [Int32.toBitVec_xor, BitVec.getLsbD_xor]
theorem b_big {x : Int32} {i : Nat} (h : 32 ≤ i) : bt x i = false := BitVec.getLsbD_of_ge _ _ h
theorem b_255 (i : Nat) : bt 255 i = decide (i < 8) := by
  rcases Nat.lt_or_ge i 32 with h | h
  · exact (by decide +kernel : ∀ i, i < 32 → bt 255 i = decide (i < 8)) i h
  · rw [b_big h, decide_eq_false (by omega)]
theorem b_65535 (i : Nat) : bt 65535 i = decide (i < 16) := by
  rcases Nat.lt_or_ge i 32 with h | h
  · exact (by decide +kernel : ∀ i, i < 32 → bt 65535 i = decide (i < 16)) i h
  · rw [b_big h, decide_eq_false (by omega)]
theorem b_m1 : ∀ i, i < 32 → bt (-1) i = true := by decide +kernel
theorem b_0 (i : Nat) : bt 0 i = false := BitVec.getLsbD_zero
theorem s_l : ∀ n, n < 32 → ((nI n &&& 31).toBitVec.smod 32).toNat = n := by decide +kernel
theorem s_u : ∀ n, n < 32 → (((nI n).toUInt32 &&& Int32.toUInt32 31).toBitVec % 32).toNat = n := by decide +kernel
theorem b_shl (n : Nat) (hn : n < 32) (x : Int32) {i : Nat} (hi : i < 32) : bt (x <<< (nI n &&& 31)) i = (decide (n ≤ i) && bt x (i - n)) := by
  unfold bt
  rw [Int32.toBitVec_shiftLeft]
  show (x.toBitVec <<< ((nI n &&& 31).toBitVec.smod 32).toNat).getLsbD i = _
  rw [s_l n hn, BitVec.getLsbD_shiftLeft]
  rcases Nat.lt_or_ge i n with h | h
  · simp [h, Nat.not_le.mpr h]
  · simp [hi, h, Nat.not_lt.mpr h]
theorem b_ushr (n : Nat) (hn : n < 32) (x : Int32) (i : Nat) : bt ((x.toUInt32 >>> ((nI n).toUInt32 &&& Int32.toUInt32 31)).toInt32) i = bt x (n + i) := by
  show (x.toUInt32 >>> ((nI n).toUInt32 &&& Int32.toUInt32 31)).toBitVec.getLsbD i = x.toUInt32.toBitVec.getLsbD (n + i)
  rw [UInt32.toBitVec_shiftRight]
  show (x.toUInt32.toBitVec >>> (((nI n).toUInt32 &&& Int32.toUInt32 31).toBitVec % 32).toNat).getLsbD i = _
  rw [s_u n hn, BitVec.getLsbD_ushiftRight]
theorem b_sshr (n : Nat) (hn : n < 32) (x : Int32) {i : Nat} (hi : i < 32) : bt (x >>> (nI n &&& 31)) i = if n + i < 32 then bt x (n + i) else bt x 31 := by
  unfold bt
  rw [Int32.toBitVec_shiftRight]
  show (x.toBitVec.sshiftRight ((nI n &&& 31).toBitVec.smod 32).toNat).getLsbD i = _
  rw [s_l n hn, BitVec.getLsbD_sshiftRight, BitVec.msb_eq_getLsbD_last]
  simp [hi]
theorem b_shl8 (x : Int32) {i : Nat} (hi : i < 32) : bt (x <<< ((8 : Int32) &&& 31)) i = (decide (8 ≤ i) && bt x (i - 8)) := b_shl 8 (by omega) x hi
theorem b_shl16 (x : Int32) {i : Nat} (hi : i < 32) : bt (x <<< ((16 : Int32) &&& 31)) i = (decide (16 ≤ i) && bt x (i - 16)) := b_shl 16 (by omega) x hi
theorem b_shl24 (x : Int32) {i : Nat} (hi : i < 32) : bt (x <<< ((24 : Int32) &&& 31)) i = (decide (24 ≤ i) && bt x (i - 24)) := b_shl 24 (by omega) x hi
theorem b_sshr8 (x : Int32) {i : Nat} (hi : i < 32) : bt (x >>> ((8 : Int32) &&& 31)) i = if 8 + i < 32 then bt x (8 + i) else bt x 31 := b_sshr 8 (by omega) x hi
/-! ===== nI under and, xor, >>>, one bit, 65535 ===== -/
theorem nx_and (a b : Nat) : nI a &&& nI b = nI (a &&& b) := by
  apply Int32.toBitVec_inj.1
  show BitVec.ofNat 32 a &&& BitVec.ofNat 32 b = BitVec.ofNat 32 (a &&& b)
  apply BitVec.eq_of_getLsbD_eq
  intro i hi
  simp [hi]
theorem nx_xor (a b : Nat) : nI a ^^^ nI b = nI (a ^^^ b) := by
  apply Int32.toBitVec_inj.1
  show BitVec.ofNat 32 a ^^^ BitVec.ofNat 32 b = BitVec.ofNat 32 (a ^^^ b)
  apply BitVec.eq_of_getLsbD_eq
  intro i hi
  simp [hi]
theorem nx_cnt : ∀ j : Fin 32, (UInt32.ofNat j.val &&& Int32.toUInt32 31).toNat % 32 = j.val := by decide +kernel
theorem nx_ush {k j : Nat} (hk : k < 65536) (hj : j < 32) : ((nI k).toUInt32 >>> ((nI j).toUInt32 &&& Int32.toUInt32 31)).toInt32 = nI (k >>> j) := by
  have hs : k >>> j ≤ k := by
    rw [Nat.shiftRight_eq_div_pow]
    exact Nat.div_le_self _ _
  have e2 : UInt32.ofNat k >>> (UInt32.ofNat j &&& Int32.toUInt32 31) = UInt32.ofNat (k >>> j) := by
    apply UInt32.toNat_inj.1
    have h1 : (UInt32.ofNat k).toNat = k := Nat.mod_eq_of_lt (by omega)
    have h2 : (UInt32.ofNat (k >>> j)).toNat = k >>> j := Nat.mod_eq_of_lt (by omega)
    rw [UInt32.toNat_shiftRight, nx_cnt ⟨j, hj⟩, h1, h2]
  show (UInt32.ofNat k >>> (UInt32.ofNat j &&& Int32.toUInt32 31)).toInt32 = _
  rw [e2]
  rfl
theorem nx_bit {k j : Nat} (hk : k < 65536) (hj : j < 16) : (((nI k).toUInt32 >>> ((nI j).toUInt32 &&& Int32.toUInt32 31)).toInt32 &&& 1) = 0 ↔ k.testBit j = false := by
  rw [nx_ush hk (by omega)]
  show nI (k >>> j) &&& nI 1 = 0 ↔ _
  rw [nx_and, Nat.and_one_is_mod, ← nI_0, nI_eq (by omega) (by omega), Nat.testBit_eq_decide_div_mod_eq, Nat.shiftRight_eq_div_pow, decide_eq_false_iff_not]
  generalize k / 2 ^ j = z
  omega
theorem nx_mod (k : Nat) : nI k &&& 65535 = nI (k % 65536) := by
  show nI k &&& nI 65535 = _
  rw [nx_and, show (65535 : Nat) = 2 ^ 16 - 1 from rfl, Nat.and_two_pow_sub_one_eq_mod]
theorem nx_m16 {k : Nat} (h : k < 65536) : nI k &&& 65535 = nI k := by rw [nx_mod, Nat.mod_eq_of_lt h]
theorem nx_mask (x : Int32) : ∃ k, k < 65536 ∧ x &&& 65535 = nI k := by
  have e : x = nI x.toBitVec.toNat := by
    apply Int32.toBitVec_inj.1
    show x.toBitVec = BitVec.ofNat 32 x.toBitVec.toNat
    simp
  refine ⟨x.toBitVec.toNat % 65536, Nat.mod_lt _ (by omega), ?_⟩
  rw [← nx_mod, ← e]
/-! ===== Int32 as a set of bits: test, set ===== -/
def nf_M (m : Int32) : Nat := 4294967296 - m.toBitVec.toNat
theorem nf_sh : ∀ l, l < 32 → ((1 : Int32) <<< (nI l &&& 31)).toBitVec = BitVec.twoPow 32 l := by decide +kernel
theorem nf_sl : ∀ l, l < 32 → (((nI l).toUInt32 &&& Int32.toUInt32 31).toBitVec % 32).toNat = l := by decide +kernel
theorem nf_tp : ∀ l, l < 32 → BitVec.twoPow 32 l ≠ 0#32 := by decide +kernel
theorem nf_bit (m : Int32) (l : Nat) (hl : l < 32) : ((m.toUInt32 >>> ((nI l).toUInt32 &&& Int32.toUInt32 31)).toInt32 &&& 1) = 0 ↔ (m &&& ((1 : Int32) <<< (nI l &&& 31))) = 0 := by
  have e : ((m.toUInt32 >>> ((nI l).toUInt32 &&& Int32.toUInt32 31)).toInt32).toBitVec = m.toBitVec >>> l := by
    show m.toBitVec >>> (((nI l).toUInt32 &&& Int32.toUInt32 31).toBitVec % 32) = m.toBitVec >>> l
    rw [BitVec.ushiftRight_eq', nf_sl l hl]
  rw [← Int32.toBitVec_inj, ← Int32.toBitVec_inj, Int32.toBitVec_and, Int32.toBitVec_and, nf_sh l hl, e, BitVec.and_twoPow]
  show (m.toBitVec >>> l &&& 1#32) = 0#32 ↔ _ = 0#32
  rw [BitVec.and_one_eq_setWidth_ofBool_getLsbD, BitVec.getLsbD_ushiftRight, Nat.add_zero]
  cases hb : m.toBitVec.getLsbD l
  · exact ⟨fun _ => by simp, fun _ => by decide⟩
  · exact ⟨fun z => absurd z (by decide), fun z => absurd ((if_pos rfl).symm.trans z) (nf_tp l hl)⟩
theorem nf_gr (m k : Int32) (h : m &&& k = 0) (hk : k ≠ 0) : nf_M (m ||| k) < nf_M m := by
  have hm := m.toBitVec.isLt
  have hm' := (m ||| k).toBitVec.isLt
  have h1 : m.toBitVec.toNat ≤ (m ||| k).toBitVec.toNat := by
    rw [Int32.toBitVec_or, BitVec.toNat_or]
    exact Nat.left_le_or
  have h2 : m.toBitVec.toNat ≠ (m ||| k).toBitVec.toNat := by
    intro e
    have e2 : m = m ||| k := Int32.toBitVec_inj.mp (BitVec.eq_of_toNat_eq e)
    apply hk
    apply Int32.toBitVec_inj.mp
    show k.toBitVec = 0#32
    apply BitVec.eq_of_getLsbD_eq
    intro i hi
    have a : m.toBitVec.getLsbD i = (m.toBitVec.getLsbD i || k.toBitVec.getLsbD i) := by rw [← BitVec.getLsbD_or, ← Int32.toBitVec_or, ← e2]
    have b : (m.toBitVec.getLsbD i && k.toBitVec.getLsbD i) = false := by
      rw [← BitVec.getLsbD_and, ← Int32.toBitVec_and, h]
      exact BitVec.getLsbD_zero
    rw [BitVec.getLsbD_zero]
    revert a b
    cases m.toBitVec.getLsbD i <;> cases k.toBitVec.getLsbD i <;> simp
  unfold nf_M
  omega
end
section
/-! sums and counts over the first n naturals -/
noncomputable def cd_b (P : Prop) : Nat := @ite Nat P (Classical.propDecidable P) 1 0
theorem cd_bt {P : Prop} (h : P) : cd_b P = 1 := by unfold cd_b; rw [if_pos h]
theorem cd_bf {P : Prop} (h : ¬ P) : cd_b P = 0 := by unfold cd_b; rw [if_neg h]
theorem cd_bc {P Q : Prop} (h : P ↔ Q) : cd_b P = cd_b Q := by rw [propext h]
theorem cd_bcase (P : Prop) : (P ∧ cd_b P = 1) ∨ (¬ P ∧ cd_b P = 0) := by
  by_cases h : P
  · exact Or.inl ⟨h, cd_bt h⟩
  · exact Or.inr ⟨h, cd_bf h⟩
theorem cd_ble (P : Prop) : cd_b P ≤ 1 := by
  rcases cd_bcase P with ⟨_, e⟩ | ⟨_, e⟩ <;> omega
theorem cd_bmono {P Q : Prop} (h : P → Q) : cd_b P ≤ cd_b Q := by
  by_cases hp : P
  · rw [cd_bt hp, cd_bt (h hp)]; omega
  · rw [cd_bf hp]; omega
theorem cd_b1 {P : Prop} (h : cd_b P = 1) : P := by
  rcases cd_bcase P with ⟨a, _⟩ | ⟨_, e⟩
  · exact a
  · omega
theorem cd_b0 {P : Prop} (h : cd_b P = 0) : ¬ P := by
  rcases cd_bcase P with ⟨_, e⟩ | ⟨a, _⟩
  · omega
  · exact a
def cd_sm (f : Nat → Nat) : Nat → Nat
  | 0 => 0
  | n + 1 => cd_sm f n + f n
theorem cd_sm_0 (f : Nat → Nat) : cd_sm f 0 = 0 := rfl
theorem cd_sm_s (f : Nat → Nat) (n : Nat) : cd_sm f (n + 1) = cd_sm f n + f n := rfl
theorem cd_sm_c {f g : Nat → Nat} (n : Nat) (h : ∀ i, i < n → f i = g i) : cd_sm f n = cd_sm g n := by
  induction n with
  | zero => rfl
  | succ n ih => rw [cd_sm_s, cd_sm_s, ih (fun i hi => h i (by omega)), h n (by omega)]
theorem cd_sm_le {f g : Nat → Nat} (n : Nat) (h : ∀ i, i < n → f i ≤ g i) : cd_sm f n ≤ cd_sm g n := by
  induction n with
  | zero => exact Nat.le_refl _
  | succ n ih =>
    rw [cd_sm_s, cd_sm_s]
    have a := ih (fun i hi => h i (by omega))
    have b := h n (by omega)
    omega
theorem cd_sm_lt {f g : Nat → Nat} (n a : Nat) (ha : a < n) (h : ∀ i, i < n → f i ≤ g i) (hl : f a < g a) : cd_sm f n < cd_sm g n := by
  induction n with
  | zero => omega
  | succ n ih =>
    rw [cd_sm_s, cd_sm_s]
    have b := h n (by omega)
    by_cases e : a = n
    · have c := cd_sm_le n (fun i hi => h i (by omega))
      subst e
      omega
    · have c := ih (by omega) (fun i hi => h i (by omega))
      omega
theorem cd_sm_add (f g : Nat → Nat) (n : Nat) : cd_sm (fun i => f i + g i) n = cd_sm f n + cd_sm g n := by
  induction n with
  | zero => rfl
  | succ n ih => rw [cd_sm_s, cd_sm_s, cd_sm_s, ih]; omega
theorem cd_sm_mul (f : Nat → Nat) (c n : Nat) : cd_sm (fun i => f i * c) n = cd_sm f n * c := by
  induction n with
  | zero => rw [cd_sm_0, cd_sm_0, Nat.zero_mul]
  | succ n ih => rw [cd_sm_s, cd_sm_s, ih, Nat.add_mul]
theorem cd_sm_mul' (f : Nat → Nat) (c n : Nat) : cd_sm (fun i => c * f i) n = c * cd_sm f n := by
  induction n with
  | zero => rw [cd_sm_0, cd_sm_0, Nat.mul_zero]
  | succ n ih => rw [cd_sm_s, cd_sm_s, ih, Nat.mul_add]
theorem cd_sm_k (c n : Nat) : cd_sm (fun _ => c) n = n * c := by
  induction n with
  | zero => rw [cd_sm_0, Nat.zero_mul]
  | succ n ih => rw [cd_sm_s, ih, Nat.succ_mul]
theorem cd_sm_swap (f : Nat → Nat → Nat) (m n : Nat) : cd_sm (fun i => cd_sm (fun j => f i j) n) m = cd_sm (fun j => cd_sm (fun i => f i j) m) n := by
  induction m with
  | zero =>
    show 0 = cd_sm (fun _ => 0) n
    rw [cd_sm_k, Nat.mul_zero]
  | succ m ih =>
    rw [cd_sm_s, ih, ← cd_sm_add]
    exact cd_sm_c n (fun _ _ => rfl)
theorem cd_sm_z {f : Nat → Nat} {n : Nat} (h : cd_sm f n = 0) : ∀ i, i < n → f i = 0 := by
  induction n with
  | zero => intro i hi; omega
  | succ n ih =>
    rw [cd_sm_s] at h
    intro i hi
    by_cases e : i = n
    · subst e; omega
    · exact ih (by omega) i (by omega)
theorem cd_sm_zz {f : Nat → Nat} (n : Nat) (h : ∀ i, i < n → f i = 0) : cd_sm f n = 0 := by
  rw [cd_sm_c (g := fun _ => 0) n h, cd_sm_k, Nat.mul_zero]
theorem cd_sm_split (f : Nat → Nat) (a b : Nat) : cd_sm f (a + b) = cd_sm f a + cd_sm (fun i => f (a + i)) b := by
  induction b with
  | zero => rfl
  | succ b ih => rw [← Nat.add_assoc, cd_sm_s, ih, cd_sm_s, Nat.add_assoc]
theorem cd_sm_one {f : Nat → Nat} {n : Nat} (a : Nat) (ha : a < n) (h : ∀ i, i < n → i ≠ a → f i = 0) : cd_sm f n = f a := by
  induction n with
  | zero => omega
  | succ n ih =>
    rw [cd_sm_s]
    by_cases e : a = n
    · subst e
      rw [cd_sm_zz a (fun i hi => h i (by omega) (by omega)), Nat.zero_add]
    · rw [ih (by omega) (fun i hi => h i (by omega)), h n (by omega) (fun z => e z.symm), Nat.add_zero]
theorem cd_sm_mono (f : Nat → Nat) {a b : Nat} (h : a ≤ b) : cd_sm f a ≤ cd_sm f b := by
  obtain ⟨c, rfl⟩ : ∃ c, b = a + c := ⟨b - a, by omega⟩
  rw [cd_sm_split]
  omega
/-! counts -/
noncomputable def cd_cn (P : Nat → Prop) (n : Nat) : Nat := cd_sm (fun i => cd_b (P i)) n
theorem cd_cn_0 (P : Nat → Prop) : cd_cn P 0 = 0 := rfl
theorem cd_cn_s (P : Nat → Prop) (n : Nat) : cd_cn P (n + 1) = cd_cn P n + cd_b (P n) := rfl
theorem cd_cn_c {P Q : Nat → Prop} (n : Nat) (h : ∀ i, i < n → (P i ↔ Q i)) : cd_cn P n = cd_cn Q n := cd_sm_c n (fun i hi => cd_bc (h i hi))
theorem cd_cn_le {P Q : Nat → Prop} (n : Nat) (h : ∀ i, i < n → P i → Q i) : cd_cn P n ≤ cd_cn Q n := cd_sm_le n (fun i hi => cd_bmono (h i hi))
theorem cd_cn_lt {P Q : Nat → Prop} (n a : Nat) (ha : a < n) (h : ∀ i, i < n → P i → Q i) (hp : ¬ P a) (hq : Q a) : cd_cn P n < cd_cn Q n :=
  cd_sm_lt n a ha (fun i hi => cd_bmono (h i hi)) (by rw [cd_bf hp, cd_bt hq]; omega)
theorem cd_cn_n (P : Nat → Prop) (n : Nat) : cd_cn P n ≤ n := by
  have a := cd_sm_le (f := fun i => cd_b (P i)) (g := fun _ => 1) n (fun i _ => cd_ble (P i))
  rw [cd_sm_k, Nat.mul_one] at a
  exact a
theorem cd_cn_all {P : Nat → Prop} {n : Nat} (h : ∀ i, i < n → P i) : cd_cn P n = n := by
  have a := cd_sm_c (f := fun i => cd_b (P i)) (g := fun _ => 1) n (fun i hi => cd_bt (h i hi))
  rw [cd_sm_k, Nat.mul_one] at a
  exact a
theorem cd_cn_z {P : Nat → Prop} {n : Nat} (h : ∀ i, i < n → ¬ P i) : cd_cn P n = 0 := cd_sm_zz n (fun i hi => cd_bf (h i hi))
theorem cd_cn_zi {P : Nat → Prop} {n : Nat} (h : cd_cn P n = 0) : ∀ i, i < n → ¬ P i := fun i hi => cd_b0 (cd_sm_z h i hi)
theorem cd_cn_pos {P : Nat → Prop} {n a : Nat} (ha : a < n) (h : P a) : 0 < cd_cn P n := by
  rcases Nat.eq_zero_or_pos (cd_cn P n) with e | e
  · exact absurd h (cd_cn_zi e a ha)
  · exact e
theorem cd_cn_eqs {P Q : Nat → Prop} {n : Nat} (h : ∀ i, i < n → P i → Q i) (e : cd_cn Q n ≤ cd_cn P n) : ∀ i, i < n → Q i → P i := by
  intro i hi hq
  by_cases hp : P i
  · exact hp
  · have := cd_cn_lt n i hi h hp hq
    omega
theorem cd_cn_full {P : Nat → Prop} {n : Nat} (e : cd_cn P n = n) : ∀ i, i < n → P i := by
  intro i hi
  exact cd_cn_eqs (P := P) (Q := fun _ => True) (fun _ _ _ => trivial) (by rw [e, cd_cn_all (fun _ _ => trivial)]; exact Nat.le_refl _) i hi trivial
theorem cd_cn_one {P : Nat → Prop} {n : Nat} (a : Nat) (ha : a < n) (hp : P a) (h : ∀ i, i < n → P i → i = a) : cd_cn P n = 1 := by
  have e := cd_sm_one (f := fun i => cd_b (P i)) a ha (fun i hi hne => cd_bf (fun hpi => hne (h i hi hpi)))
  exact e.trans (cd_bt hp)
theorem cd_cn_or {P Q : Nat → Prop} (n : Nat) (h : ∀ i, i < n → P i → ¬ Q i) : cd_cn (fun i => P i ∨ Q i) n = cd_cn P n + cd_cn Q n := by
  have e := cd_sm_add (fun i => cd_b (P i)) (fun i => cd_b (Q i)) n
  refine Eq.trans (cd_sm_c n (fun i hi => ?_)) e
  show cd_b (P i ∨ Q i) = cd_b (P i) + cd_b (Q i)
  rcases cd_bcase (P i) with ⟨p, ep⟩ | ⟨p, ep⟩
  · rw [ep, cd_bt (Or.inl p), cd_bf (h i hi p)]
  · rw [ep, Nat.zero_add]
    exact cd_bc ⟨fun z => z.resolve_left p, Or.inr⟩
theorem cd_cn_split (P : Nat → Prop) (a b : Nat) : cd_cn P (a + b) = cd_cn P a + cd_cn (fun i => P (a + i)) b := cd_sm_split _ a b
theorem cd_cn_below (g n : Nat) (h : g ≤ n) : cd_cn (fun i => i < g) n = g := by
  obtain ⟨c, rfl⟩ : ∃ c, n = g + c := ⟨n - g, by omega⟩
  rw [cd_cn_split, cd_cn_all (fun i hi => hi), cd_cn_z (fun i _ => by omega), Nat.add_zero]
/-! an injection o of the first p into the first n: its image -/
def cd_im (o : Nat → Nat) (p c : Nat) : Prop := ∃ i, i < p ∧ c = o i
theorem cd_im_s {o : Nat → Nat} {p c : Nat} : cd_im o (p + 1) c ↔ cd_im o p c ∨ c = o p := by
  constructor
  · rintro ⟨i, hi, e⟩
    by_cases z : i = p
    · subst z; exact Or.inr e
    · exact Or.inl ⟨i, by omega, e⟩
  · rintro (⟨i, hi, e⟩ | e)
    · exact ⟨i, by omega, e⟩
    · exact ⟨p, by omega, e⟩
theorem cd_im_sum (f : Nat → Nat) {o : Nat → Nat} {n : Nat} : ∀ p : Nat, (∀ i, i < p → o i < n) → (∀ i j, i < p → j < p → o i = o j → i = j) → cd_sm (fun c => cd_b (cd_im o p c) * f c) n = cd_sm (fun i => f (o i)) p := by
  intro p
  induction p with
  | zero =>
    intro _ _
    rw [cd_sm_0]
    exact cd_sm_zz n (fun i _ => by rw [cd_bf (fun ⟨j, hj, _⟩ => by omega), Nat.zero_mul])
  | succ p ih =>
    intro hr hi
    have e := ih (fun i h => hr i (by omega)) (fun i j h1 h2 => hi i j (by omega) (by omega))
    have hn : ¬ cd_im o p (o p) := by
      rintro ⟨i, h1, h2⟩
      have := hi p i (by omega) (by omega) h2
      omega
    have e2 : f (o p) = cd_sm (fun c => cd_b (c = o p) * f c) n := by
      have e3 := cd_sm_one (f := fun c => cd_b (c = o p) * f c) (o p) (hr p (by omega)) (fun i _ hne => by rw [cd_bf hne, Nat.zero_mul])
      rw [e3, cd_bt rfl, Nat.one_mul]
    rw [cd_sm_s, ← e, e2, ← cd_sm_add]
    refine cd_sm_c n (fun c _ => ?_)
    show cd_b (cd_im o (p + 1) c) * f c = cd_b (cd_im o p c) * f c + cd_b (c = o p) * f c
    rw [← Nat.add_mul]
    congr 1
    by_cases z : c = o p
    · subst z
      rw [cd_bt (cd_im_s.mpr (Or.inr rfl)), cd_bf hn, cd_bt rfl]
    · rw [cd_bf z, Nat.add_zero]
      exact cd_bc ⟨fun q => (cd_im_s.mp q).resolve_right z, fun q => cd_im_s.mpr (Or.inl q)⟩
theorem cd_im_cn {o : Nat → Nat} {n p : Nat} (hr : ∀ i, i < p → o i < n) (hi : ∀ i j, i < p → j < p → o i = o j → i = j) : cd_cn (cd_im o p) n = p := by
  have e := cd_im_sum (fun _ => 1) p hr hi
  rw [cd_sm_k, Nat.mul_one] at e
  exact (cd_sm_c n (fun c _ => (Nat.mul_one _).symm)).trans e
theorem cd_pigeon {o : Nat → Nat} {n p : Nat} (hr : ∀ i, i < p → o i < n) (hi : ∀ i j, i < p → j < p → o i = o j → i = j) : p ≤ n := by
  have a := cd_cn_n (cd_im o p) n
  rw [cd_im_cn hr hi] at a
  exact a
theorem cd_surj {o : Nat → Nat} {n : Nat} (hr : ∀ i, i < n → o i < n) (hi : ∀ i j, i < n → j < n → o i = o j → i = j) : ∀ c, c < n → cd_im o n c := cd_cn_full (cd_im_cn hr hi)
theorem cd_perm (f : Nat → Nat) {o : Nat → Nat} {n : Nat} (hr : ∀ i, i < n → o i < n) (hi : ∀ i j, i < n → j < n → o i = o j → i = j) : cd_sm (fun i => f (o i)) n = cd_sm f n := by
  rw [← cd_im_sum f n hr hi]
  exact cd_sm_c n (fun c hc => by rw [cd_bt (cd_surj hr hi c hc), Nat.one_mul])
theorem cd_permc (P : Nat → Prop) {o : Nat → Nat} {n : Nat} (hr : ∀ i, i < n → o i < n) (hi : ∀ i j, i < n → j < n → o i = o j → i = j) : cd_cn (fun i => P (o i)) n = cd_cn P n := cd_perm (fun i => cd_b (P i)) hr hi
/-! the beginnings of an order by falling values have the greatest sums -/
theorem cd_greedy {f : Nat → Nat} {o : Nat → Nat} {n p : Nat} (hp : p ≤ n) (hr : ∀ i, i < n → o i < n) (hi : ∀ i j, i < n → j < n → o i = o j → i = j) (hs : ∀ i j, i < j → j < n → f (o j) ≤ f (o i)) (S : Nat → Prop) (hS : cd_cn S n = p) : cd_sm (fun c => cd_b (S c) * f c) n ≤ cd_sm (fun c => cd_b (cd_im o p c) * f c) n := by
  have key : ∃ q : Nat, (∀ c, c < n → cd_im o p c → q ≤ f c) ∧ (∀ c, c < n → ¬ cd_im o p c → f c ≤ q) := by
    by_cases z : p = 0
    · refine ⟨cd_sm f n, fun c _ ⟨i, h1, _⟩ => by omega, fun c hc _ => ?_⟩
      have e := cd_sm_one (f := fun i => cd_b (i = c) * f i) c hc (fun i _ hne => by rw [cd_bf hne, Nat.zero_mul])
      have l := cd_sm_le (f := fun i => cd_b (i = c) * f i) (g := f) n (fun i _ => by
        have := cd_ble (i = c)
        exact Nat.le_trans (Nat.mul_le_mul_right _ this) (by rw [Nat.one_mul]; exact Nat.le_refl _))
      rw [e] at l
      have e1 : cd_b (c = c) * f c = f c := by rw [cd_bt rfl, Nat.one_mul]
      exact e1 ▸ l
    · refine ⟨f (o (p - 1)), fun c _ ⟨i, h1, h2⟩ => ?_, fun c hc hn => ?_⟩
      · rw [h2]
        by_cases e : i = p - 1
        · rw [e]; exact Nat.le_refl _
        · exact hs i (p - 1) (by omega) (by omega)
      · obtain ⟨j, hj, e⟩ := cd_surj hr hi c hc
        have : ¬ j < p := fun q => hn ⟨j, q, e⟩
        rw [e]
        exact hs (p - 1) j (by omega) hj
  obtain ⟨q, h1, h2⟩ := key
  have e : cd_sm (fun c => cd_b (S c) * f c + cd_b (cd_im o p c) * q) n ≤ cd_sm (fun c => cd_b (cd_im o p c) * f c + cd_b (S c) * q) n := by
    refine cd_sm_le n (fun c hc => ?_)
    show cd_b (S c) * f c + cd_b (cd_im o p c) * q ≤ cd_b (cd_im o p c) * f c + cd_b (S c) * q
    rcases cd_bcase (S c) with ⟨a, ea⟩ | ⟨a, ea⟩ <;> rcases cd_bcase (cd_im o p c) with ⟨b, eb⟩ | ⟨b, eb⟩ <;> rw [ea, eb]
    · exact Nat.le_refl _
    · have := h2 c hc b; omega
    · have := h1 c hc b; omega
    · exact Nat.le_refl _
  rw [cd_sm_add, cd_sm_add, cd_sm_mul (fun c => cd_b (cd_im o p c)), cd_sm_mul (fun c => cd_b (S c))] at e
  have c1 : cd_sm (fun c => cd_b (cd_im o p c)) n = p := cd_im_cn (fun i h => hr i (by omega)) (fun i j h1 h2 => hi i j (by omega) (by omega))
  have c2 : cd_sm (fun c => cd_b (S c)) n = p := hS
  rw [c1, c2] at e
  omega
end
section
/-! the cloth: T the threads, C u t: u crosses t and is above it; Li: sets that can be lifted; Rr t u: u must be lifted with t -/
def cd_T (w h t : Nat) : Prop := t < w ∨ (8 ≤ t ∧ t < 8 + h)
def cd_C (w h : Nat) (ab : Nat → Nat → Prop) (u t : Nat) : Prop := (u < w ∧ 8 ≤ t ∧ t < 8 + h ∧ ab u (t - 8)) ∨ (t < w ∧ 8 ≤ u ∧ u < 8 + h ∧ ¬ ab t (u - 8))
def cd_Li (C : Nat → Nat → Prop) (S : Nat → Prop) : Prop := ∀ a b, S a → C b a → S b
def cd_R (C : Nat → Nat → Prop) (t u : Nat) : Prop := ∀ S : Nat → Prop, cd_Li C S → S t → S u
theorem cd_R_r (C : Nat → Nat → Prop) (t : Nat) : cd_R C t t := fun _ _ h => h
theorem cd_R_t {C : Nat → Nat → Prop} {a b c : Nat} (h1 : cd_R C a b) (h2 : cd_R C b c) : cd_R C a c := fun S hS h => h2 S hS (h1 S hS h)
theorem cd_R_c {C : Nat → Nat → Prop} {a b : Nat} (h : C b a) : cd_R C a b := fun _ hS ha => hS a b ha h
theorem cd_R_li (C : Nat → Nat → Prop) (t : Nat) : cd_Li C (cd_R C t) := fun _ _ ha hb => cd_R_t ha (cd_R_c hb)
theorem cd_R_first {C : Nat → Nat → Prop} {t u : Nat} (h : cd_R C t u) (hne : u ≠ t) : ∃ c, C c t ∧ cd_R C c u := by
  have := h (fun x => x = t ∨ ∃ c, C c t ∧ cd_R C c x) (by
    intro a b ha hb
    rcases ha with e | ⟨c, h1, h2⟩
    · subst e
      exact Or.inr ⟨b, hb, cd_R_r C b⟩
    · exact Or.inr ⟨c, h1, cd_R_t h2 (cd_R_c hb)⟩) (Or.inl rfl)
  exact this.resolve_left hne
theorem cd_R_li_of {C : Nat → Nat → Prop} {S : Nat → Prop} {t u : Nat} (hS : cd_Li C S) (h : cd_R C t u) (ht : S t) : S u := h S hS ht
section
variable {w h : Nat} {ab : Nat → Nat → Prop} (hw : w ≤ 8) (hh : h ≤ 8)
theorem cd_T16 (hw : w ≤ 8) (hh : h ≤ 8) {t : Nat} (ht : cd_T w h t) : t < 16 := by unfold cd_T at ht; omega
theorem cd_C_T {u t : Nat} (hc : cd_C w h ab u t) : cd_T w h u ∧ cd_T w h t := by
  unfold cd_T
  rcases hc with ⟨a, b, c, _⟩ | ⟨a, b, c, _⟩
  · exact ⟨Or.inl a, Or.inr ⟨b, c⟩⟩
  · exact ⟨Or.inr ⟨b, c⟩, Or.inl a⟩
theorem cd_C_k (hw : w ≤ 8) {u t : Nat} (hc : cd_C w h ab u t) : u < 8 ↔ ¬ t < 8 := by
  rcases hc with ⟨a, b, c, _⟩ | ⟨a, b, c, _⟩ <;> omega
theorem cd_C_tot (hw : w ≤ 8) {u t : Nat} (hu : cd_T w h u) (ht : cd_T w h t) (hk : u < 8 ↔ ¬ t < 8) : cd_C w h ab u t ∨ cd_C w h ab t u := by
  unfold cd_T at hu ht
  by_cases z : u < 8
  · have z2 : ¬ t < 8 := hk.mp z
    by_cases q : ab u (t - 8)
    · exact Or.inl (Or.inl ⟨by omega, by omega, by omega, q⟩)
    · exact Or.inr (Or.inr ⟨by omega, by omega, by omega, q⟩)
  · have z2 : t < 8 := by
      by_cases q : t < 8
      · exact q
      · exact absurd (hk.mpr q) z
    by_cases q : ab t (u - 8)
    · exact Or.inr (Or.inl ⟨by omega, by omega, by omega, q⟩)
    · exact Or.inl (Or.inr ⟨by omega, by omega, by omega, q⟩)
theorem cd_R_T {t u : Nat} (hr : cd_R (cd_C w h ab) t u) (ht : cd_T w h t) : cd_T w h u := cd_R_li_of (fun _ _ _ hb => (cd_C_T hb).1) hr ht
theorem cd_T_li : cd_Li (cd_C w h ab) (cd_T w h) := fun _ _ _ hb => (cd_C_T hb).1
/-! what a set lacks -/
noncomputable def cd_sc (h : Nat) (ab : Nat → Nat → Prop) (c : Nat) : Nat := cd_cn (fun r => ab c r) h
noncomputable def cd_sw (w : Nat) (ab : Nat → Nat → Prop) (r : Nat) : Nat := cd_cn (fun c => ¬ ab c r) w
def cd_vi (ab : Nat → Nat → Prop) (S : Nat → Prop) (c r : Nat) : Prop := (S c ∧ ¬ S (8 + r) ∧ ¬ ab c r) ∨ (¬ S c ∧ S (8 + r) ∧ ab c r)
noncomputable def cd_V (w h : Nat) (ab : Nat → Nat → Prop) (S : Nat → Prop) : Nat := cd_sm (fun c => cd_sm (fun r => cd_b (cd_vi ab S c r)) h) w
theorem cd_pair (A B D : Prop) : cd_b A * cd_b D + cd_b B * cd_b (¬ D) + cd_b ((A ∧ ¬ B ∧ ¬ D) ∨ (¬ A ∧ B ∧ D)) + cd_b A * cd_b B = cd_b A + cd_b B := by
  by_cases a : A <;> by_cases b : B <;> by_cases d : D <;> simp [a, b, d, cd_bt, cd_bf]
theorem cd_lack (w h : Nat) (ab : Nat → Nat → Prop) (S : Nat → Prop) : cd_sm (fun c => cd_b (S c) * cd_sc h ab c) w + cd_sm (fun r => cd_b (S (8 + r)) * cd_sw w ab r) h + cd_V w h ab S + cd_cn S w * cd_cn (fun r => S (8 + r)) h = cd_cn S w * h + cd_cn (fun r => S (8 + r)) h * w := by
  have e1 : cd_sm (fun c => cd_b (S c) * cd_sc h ab c) w = cd_sm (fun c => cd_sm (fun r => cd_b (S c) * cd_b (ab c r)) h) w :=
    cd_sm_c w (fun c _ => (cd_sm_mul' (fun r => cd_b (ab c r)) (cd_b (S c)) h).symm)
  have e2 : cd_sm (fun r => cd_b (S (8 + r)) * cd_sw w ab r) h = cd_sm (fun c => cd_sm (fun r => cd_b (S (8 + r)) * cd_b (¬ ab c r)) h) w := by
    rw [cd_sm_swap]
    exact cd_sm_c h (fun r _ => (cd_sm_mul' (fun c => cd_b (¬ ab c r)) (cd_b (S (8 + r))) w).symm)
  have e3 : cd_cn S w * cd_cn (fun r => S (8 + r)) h = cd_sm (fun c => cd_sm (fun r => cd_b (S c) * cd_b (S (8 + r))) h) w := by
    refine Eq.trans (cd_sm_mul (fun c => cd_b (S c)) _ w).symm (cd_sm_c w (fun c _ => ?_))
    exact (cd_sm_mul' (fun r => cd_b (S (8 + r))) (cd_b (S c)) h).symm
  have e4 : cd_cn S w * h = cd_sm (fun c => cd_sm (fun _ => cd_b (S c)) h) w := by
    refine Eq.trans (cd_sm_mul (fun c => cd_b (S c)) h w).symm (cd_sm_c w (fun c _ => ?_))
    show cd_b (S c) * h = _
    rw [cd_sm_k, Nat.mul_comm]
  have e5 : cd_cn (fun r => S (8 + r)) h * w = cd_sm (fun c => cd_sm (fun r => cd_b (S (8 + r))) h) w := by
    rw [cd_sm_k, Nat.mul_comm]
    rfl
  rw [e1, e2, e3, e4, e5]
  unfold cd_V
  rw [← cd_sm_add, ← cd_sm_add, ← cd_sm_add, ← cd_sm_add]
  refine cd_sm_c w (fun c _ => ?_)
  show cd_sm (fun r => cd_b (S c) * cd_b (ab c r)) h + cd_sm (fun r => cd_b (S (8 + r)) * cd_b (¬ ab c r)) h + cd_sm (fun r => cd_b (cd_vi ab S c r)) h + cd_sm (fun r => cd_b (S c) * cd_b (S (8 + r))) h = cd_sm (fun _ => cd_b (S c)) h + cd_sm (fun r => cd_b (S (8 + r))) h
  rw [← cd_sm_add, ← cd_sm_add, ← cd_sm_add, ← cd_sm_add]
  exact cd_sm_c h (fun r _ => cd_pair (S c) (S (8 + r)) (ab c r))
theorem cd_V_li {S : Nat → Prop} (hS : ∀ t, S t → cd_T w h t) (hv : cd_V w h ab S = 0) : cd_Li (cd_C w h ab) S := by
  intro a b ha hb
  by_cases z : S b
  · exact z
  · exfalso
    have hT := hS a ha
    rcases hb with ⟨h1, h2, h3, h4⟩ | ⟨h1, h2, h3, h4⟩
    · have q := cd_b0 (cd_sm_z (cd_sm_z hv b h1) (a - 8) (by omega))
      refine q (Or.inr ⟨z, ?_, h4⟩)
      rw [show 8 + (a - 8) = a from by omega]
      exact ha
    · have q := cd_b0 (cd_sm_z (cd_sm_z hv a h1) (b - 8) (by omega))
      refine q (Or.inl ⟨ha, ?_, h4⟩)
      rw [show 8 + (b - 8) = b from by omega]
      exact z
theorem cd_li_V {S : Nat → Prop} (hS : cd_Li (cd_C w h ab) S) : cd_V w h ab S = 0 := by
  refine cd_sm_zz w (fun c hc => cd_sm_zz h (fun r hr => cd_bf ?_))
  rintro (⟨h1, h2, h3⟩ | ⟨h1, h2, h3⟩)
  · exact h2 (hS c (8 + r) h1 (Or.inr ⟨hc, by omega, by omega, by rw [show 8 + r - 8 = r from by omega]; exact h3⟩))
  · exact h1 (hS (8 + r) c h2 (Or.inl ⟨hc, by omega, by omega, by rw [show 8 + r - 8 = r from by omega]; exact h3⟩))
end
/-! an order of the threads: o maps warps to warps, wefts (8 + i) to wefts, one to one, by falling scores -/
def cd_O (w h : Nat) (ab : Nat → Nat → Prop) (o : Nat → Nat) : Prop :=
  (∀ i, i < w → o i < w) ∧ (∀ i j, i < w → j < w → o i = o j → i = j) ∧ (∀ i j, i < j → j < w → cd_sc h ab (o j) ≤ cd_sc h ab (o i)) ∧
  (∀ i, i < h → 8 ≤ o (8 + i) ∧ o (8 + i) < 8 + h) ∧ (∀ i j, i < h → j < h → o (8 + i) = o (8 + j) → i = j) ∧ (∀ i j, i < j → j < h → cd_sw w ab (o (8 + j) - 8) ≤ cd_sw w ab (o (8 + i) - 8))
def cd_P (o : Nat → Nat) (p q t : Nat) : Prop := (∃ i, i < p ∧ t = o i) ∨ (∃ i, i < q ∧ t = o (8 + i))
section
variable {w h : Nat} {ab : Nat → Nat → Prop} {o : Nat → Nat}
theorem cd_P_mono {a b p q t : Nat} (ha : a ≤ p) (hb : b ≤ q) (ht : cd_P o a b t) : cd_P o p q t := by
  rcases ht with ⟨i, h1, h2⟩ | ⟨i, h1, h2⟩
  · exact Or.inl ⟨i, by omega, h2⟩
  · exact Or.inr ⟨i, by omega, h2⟩
theorem cd_P_T (hO : cd_O w h ab o) {p q t : Nat} (hp : p ≤ w) (hq : q ≤ h) (ht : cd_P o p q t) : cd_T w h t := by
  rcases ht with ⟨i, h1, h2⟩ | ⟨i, h1, h2⟩
  · rw [h2]; exact Or.inl (hO.1 i (by omega))
  · rw [h2]; exact Or.inr (hO.2.2.2.1 i (by omega))
theorem cd_P_w (hw : w ≤ 8) (hO : cd_O w h ab o) {p q c : Nat} (hp : p ≤ w) (hq : q ≤ h) (hc : c < 8) : cd_P o p q c ↔ cd_im o p c := by
  constructor
  · rintro (a | ⟨i, h1, h2⟩)
    · exact a
    · have := (hO.2.2.2.1 i (by omega)).1
      omega
  · exact Or.inl
theorem cd_P_h (hw : w ≤ 8) (hO : cd_O w h ab o) {p q r : Nat} (hp : p ≤ w) (hq : q ≤ h) : cd_P o p q (8 + r) ↔ cd_im (fun i => o (8 + i) - 8) q r := by
  constructor
  · rintro (⟨i, h1, h2⟩ | ⟨i, h1, h2⟩)
    · have := hO.1 i (by omega)
      omega
    · exact ⟨i, h1, by show r = o (8 + i) - 8; omega⟩
  · rintro ⟨i, h1, h2⟩
    have := (hO.2.2.2.1 i (by omega)).1
    exact Or.inr ⟨i, h1, by have h3 : r = o (8 + i) - 8 := h2; omega⟩
theorem cd_O_h1 (hO : cd_O w h ab o) : ∀ i, i < h → (fun i => o (8 + i) - 8) i < h := by
  intro i hi
  have := hO.2.2.2.1 i hi
  show o (8 + i) - 8 < h
  omega
theorem cd_O_h2 (hO : cd_O w h ab o) : ∀ i j, i < h → j < h → (fun i => o (8 + i) - 8) i = (fun i => o (8 + i) - 8) j → i = j := by
  intro i j hi hj e
  have e' : o (8 + i) - 8 = o (8 + j) - 8 := e
  have a := hO.2.2.2.1 i hi
  have b := hO.2.2.2.1 j hj
  exact hO.2.2.2.2.1 i j hi hj (by omega)
theorem cd_P_cw (hw : w ≤ 8) (hO : cd_O w h ab o) {p q : Nat} (hp : p ≤ w) (hq : q ≤ h) : cd_cn (cd_P o p q) w = p := by
  rw [cd_cn_c w (fun c hc => cd_P_w hw hO hp hq (by omega))]
  exact cd_im_cn (fun i hi => hO.1 i (by omega)) (fun i j hi hj => hO.2.1 i j (by omega) (by omega))
theorem cd_P_ch (hw : w ≤ 8) (hO : cd_O w h ab o) {p q : Nat} (hp : p ≤ w) (hq : q ≤ h) : cd_cn (fun r => cd_P o p q (8 + r)) h = q := by
  rw [cd_cn_c h (fun c _ => cd_P_h hw hO hp hq)]
  exact cd_im_cn (fun i hi => cd_O_h1 hO i (by omega)) (fun i j hi hj => cd_O_h2 hO i j (by omega) (by omega))
theorem cd_P_sw (hw : w ≤ 8) (hO : cd_O w h ab o) {p q : Nat} (hp : p ≤ w) (hq : q ≤ h) : cd_sm (fun c => cd_b (cd_P o p q c) * cd_sc h ab c) w = cd_sm (fun i => cd_sc h ab (o i)) p := by
  rw [← cd_im_sum (n := w) (cd_sc h ab) p (fun i hi => hO.1 i (by omega)) (fun i j hi hj => hO.2.1 i j (by omega) (by omega))]
  exact cd_sm_c w (fun c hc => by rw [cd_bc (cd_P_w hw hO hp hq (by omega))])
theorem cd_P_sh (hw : w ≤ 8) (hO : cd_O w h ab o) {p q : Nat} (hp : p ≤ w) (hq : q ≤ h) : cd_sm (fun r => cd_b (cd_P o p q (8 + r)) * cd_sw w ab r) h = cd_sm (fun i => cd_sw w ab (o (8 + i) - 8)) q := by
  rw [← cd_im_sum (n := h) (o := fun i => o (8 + i) - 8) (cd_sw w ab) q (fun i hi => cd_O_h1 hO i (by omega)) (fun i j hi hj => cd_O_h2 hO i j (by omega) (by omega))]
  exact cd_sm_c h (fun c _ => by rw [cd_bc (cd_P_h hw hO hp hq)])
/-- what the beginning p, q lacks, as X reckons it -/
theorem cd_P_lack (hw : w ≤ 8) (hO : cd_O w h ab o) {p q : Nat} (hp : p ≤ w) (hq : q ≤ h) : cd_sm (fun i => cd_sc h ab (o i)) p + cd_sm (fun i => cd_sw w ab (o (8 + i) - 8)) q + cd_V w h ab (cd_P o p q) + p * q = p * h + q * w := by
  have e := cd_lack w h ab (cd_P o p q)
  rw [cd_P_sw hw hO hp hq, cd_P_sh hw hO hp hq, cd_P_cw hw hO hp hq, cd_P_ch hw hO hp hq] at e
  exact e
theorem cd_P_li (hO : cd_O w h ab o) {p q : Nat} (hp : p ≤ w) (hq : q ≤ h) : cd_V w h ab (cd_P o p q) = 0 ↔ cd_Li (cd_C w h ab) (cd_P o p q) :=
  ⟨cd_V_li (fun _ ht => cd_P_T hO hp hq ht), cd_li_V⟩
/-- if some set of p warps and q wefts can be lifted, the beginning can -/
theorem cd_P_best (hw : w ≤ 8) (hO : cd_O w h ab o) {S : Nat → Prop} (hS : cd_Li (cd_C w h ab) S) : cd_Li (cd_C w h ab) (cd_P o (cd_cn S w) (cd_cn (fun r => S (8 + r)) h)) := by
  have hp := cd_cn_n S w
  have hq := cd_cn_n (fun r => S (8 + r)) h
  rw [← cd_P_li hO hp hq]
  have e1 := cd_lack w h ab S
  have e2 := cd_lack w h ab (cd_P o (cd_cn S w) (cd_cn (fun r => S (8 + r)) h))
  rw [cd_li_V hS] at e1
  rw [cd_P_cw hw hO hp hq, cd_P_ch hw hO hp hq] at e2
  have g1 := cd_greedy (f := cd_sc h ab) hp hO.1 hO.2.1 hO.2.2.1 S rfl
  have g2 := cd_greedy (f := cd_sw w ab) (o := fun i => o (8 + i) - 8) hq (cd_O_h1 hO) (cd_O_h2 hO) hO.2.2.2.2.2 (fun r => S (8 + r)) rfl
  have c1 : cd_sm (fun c => cd_b (cd_im o (cd_cn S w) c) * cd_sc h ab c) w = cd_sm (fun c => cd_b (cd_P o (cd_cn S w) (cd_cn (fun r => S (8 + r)) h) c) * cd_sc h ab c) w :=
    cd_sm_c w (fun c hc => by rw [cd_bc (cd_P_w hw hO hp hq (by omega))])
  have c2 : cd_sm (fun c => cd_b (cd_im (fun i => o (8 + i) - 8) (cd_cn (fun r => S (8 + r)) h) c) * cd_sw w ab c) h = cd_sm (fun r => cd_b (cd_P o (cd_cn S w) (cd_cn (fun r => S (8 + r)) h) (8 + r)) * cd_sw w ab r) h :=
    cd_sm_c h (fun c _ => by rw [cd_bc (cd_P_h hw hO hp hq)])
  rw [c1] at g1
  rw [c2] at g2
  omega
theorem cd_P_all (hO : cd_O w h ab o) {t : Nat} (ht : cd_T w h t) : cd_P o w h t := by
  rcases ht with a | ⟨a, b⟩
  · exact Or.inl (cd_surj hO.1 hO.2.1 t a)
  · obtain ⟨i, h1, h2⟩ := cd_surj (cd_O_h1 hO) (cd_O_h2 hO) (t - 8) (by omega)
    have := (hO.2.2.2.1 i h1).1
    have h3 : t - 8 = o (8 + i) - 8 := h2
    exact Or.inr ⟨i, h1, by omega⟩
end
end
section
/-! the chain of beginnings that can be lifted, step by step -/
def cd_Ch (w h : Nat) (ab : Nat → Nat → Prop) (o : Nat → Nat) (k a b s : Nat) (L : Nat → Nat) : Prop :=
  (a ≤ w ∧ b ≤ h ∧ s ≤ a + b) ∧
  (∀ j, j ≤ s → cd_Li (cd_C w h ab) (fun t => cd_P o a b t ∧ L t < j)) ∧
  (∀ t, cd_P o a b t → L t < s) ∧
  (∀ j, j < s → ∃ t, cd_P o a b t ∧ L t = j) ∧
  (∀ t u, cd_P o a b t → cd_P o a b u → L t = L u → cd_R (cd_C w h ab) t u) ∧
  (∀ p q, p ≤ w → q ≤ h → a ≤ p → b ≤ q → a + b < p + q → (p + q) * (w + 1) + p < k → ¬ cd_Li (cd_C w h ab) (cd_P o p q))
section
variable {w h : Nat} {ab : Nat → Nat → Prop} {o : Nat → Nat}
theorem cd_P_00 {t : Nat} : ¬ cd_P o 0 0 t := by
  rintro (⟨i, h1, _⟩ | ⟨i, h1, _⟩) <;> omega
theorem cd_Ch_0 (L : Nat → Nat) : cd_Ch w h ab o 1 0 0 0 L := by
  refine ⟨⟨by omega, by omega, by omega⟩, fun j _ a b ha _ => absurd ha.1 cd_P_00, fun t ht => absurd ht cd_P_00, fun j hj => by omega, fun t u ht => absurd ht cd_P_00, ?_⟩
  intro p q _ _ _ _ h1 h2
  exfalso
  have := Nat.le_mul_of_pos_right (p + q) (show 0 < w + 1 by omega)
  omega
theorem cd_Ch_skip {k a b s : Nat} {L : Nat → Nat} (H : cd_Ch w h ab o k a b s L) (hn : ∀ p q, p ≤ w → q ≤ h → a ≤ p → b ≤ q → a + b < p + q → (p + q) * (w + 1) + p = k → ¬ cd_Li (cd_C w h ab) (cd_P o p q)) : cd_Ch w h ab o (k + 1) a b s L := by
  refine ⟨H.1, H.2.1, H.2.2.1, H.2.2.2.1, H.2.2.2.2.1, ?_⟩
  intro p q h1 h2 h3 h4 h5 h6
  by_cases z : (p + q) * (w + 1) + p = k
  · exact hn p q h1 h2 h3 h4 h5 z
  · exact H.2.2.2.2.2 p q h1 h2 h3 h4 h5 (by omega)
theorem cd_P_sub_eq (hw : w ≤ 8) (hO : cd_O w h ab o) {p q : Nat} (hp : p ≤ w) (hq : q ≤ h) {S : Nat → Prop} (hS : ∀ t, S t → cd_P o p q t) (e1 : p ≤ cd_cn S w) (e2 : q ≤ cd_cn (fun r => S (8 + r)) h) {t : Nat} (ht : cd_P o p q t) : S t := by
  rcases cd_P_T hO hp hq ht with a | ⟨a, b⟩
  · exact cd_cn_eqs (P := S) (Q := cd_P o p q) (n := w) (fun i _ hi => hS i hi) (by rw [cd_P_cw hw hO hp hq]; exact e1) t a ht
  · have q1 := cd_cn_eqs (P := fun r => S (8 + r)) (Q := fun r => cd_P o p q (8 + r)) (n := h) (fun i _ hi => hS _ hi) (by rw [cd_P_ch hw hO hp hq]; exact e2) (t - 8) (by omega) (by
      show cd_P o p q (8 + (t - 8))
      rw [show 8 + (t - 8) = t from by omega]
      exact ht)
    have q2 : S (8 + (t - 8)) := q1
    rw [show 8 + (t - 8) = t from by omega] at q2
    exact q2
theorem cd_Ch_close (hw : w ≤ 8) (hO : cd_O w h ab o) {k a b s p q : Nat} {L L' : Nat → Nat} (H : cd_Ch w h ab o k a b s L) (hp : p ≤ w) (hq : q ≤ h) (hap : a ≤ p) (hbq : b ≤ q) (hlt : a + b < p + q) (hk : (p + q) * (w + 1) + p = k) (hL : cd_Li (cd_C w h ab) (cd_P o p q)) (l1 : ∀ t, cd_P o a b t → L' t = L t) (l2 : ∀ t, cd_P o p q t → ¬ cd_P o a b t → L' t = s) : cd_Ch w h ab o (k + 1) p q (s + 1) L' := by
  obtain ⟨⟨ha, hb, hs⟩, h1, h2, h3, h4, h5⟩ := H
  have lold : ∀ t, cd_P o p q t → L' t < s → cd_P o a b t := by
    intro t ht hl
    by_cases z : cd_P o a b t
    · exact z
    · have := l2 t ht z
      omega
  have lnew : ∀ t, cd_P o p q t → L' t = s → ¬ cd_P o a b t := by
    intro t ht hl z
    have := l1 t z
    have := h2 t z
    omega
  have lle : ∀ t, cd_P o p q t → L' t < s + 1 := by
    intro t ht
    by_cases z : cd_P o a b t
    · have := l1 t z
      have := h2 t z
      omega
    · have := l2 t ht z
      omega
  have lab : cd_Li (cd_C w h ab) (cd_P o a b) := by
    intro x y hx hy
    exact (h1 s (Nat.le_refl s) x y ⟨hx, h2 x hx⟩ hy).1
  have kk : ∀ p' q', p' ≤ w → q' ≤ h → a ≤ p' → b ≤ q' → a + b < p' + q' → p' + q' < p + q → ¬ cd_Li (cd_C w h ab) (cd_P o p' q') := by
    intro p' q' g1 g2 g3 g4 g5 g6
    refine h5 p' q' g1 g2 g3 g4 g5 ?_
    have : (p' + q' + 1) * (w + 1) ≤ (p + q) * (w + 1) := Nat.mul_le_mul_right _ (by omega)
    rw [Nat.succ_mul] at this
    omega
  refine ⟨⟨hp, hq, by omega⟩, ?_, lle, ?_, ?_, ?_⟩
  · intro j hj
    by_cases z : j = s + 1
    · subst z
      intro x y hx hy
      have := hL x y hx.1 hy
      exact ⟨this, lle y this⟩
    · intro x y hx hy
      have xo := lold x hx.1 (by have := hx.2; omega)
      have hx2 := hx.2
      rw [l1 x xo] at hx2
      have := h1 j (by omega) x y ⟨xo, hx2⟩ hy
      exact ⟨cd_P_mono hap hbq this.1, by show L' y < j; rw [l1 y this.1]; exact this.2⟩
  · intro j hj
    by_cases z : j = s
    · subst z
      by_cases q1 : a < p
      · refine ⟨o a, Or.inl ⟨a, q1, rfl⟩, l2 _ (Or.inl ⟨a, q1, rfl⟩) ?_⟩
        rintro (⟨i, g1, g2⟩ | ⟨i, g1, g2⟩)
        · have := hO.2.1 a i (by omega) (by omega) g2
          omega
        · have g3 := (hO.2.2.2.1 i (by omega)).1
          have g4 := hO.1 a (by omega)
          omega
      · have q2 : b < q := by omega
        refine ⟨o (8 + b), Or.inr ⟨b, q2, rfl⟩, l2 _ (Or.inr ⟨b, q2, rfl⟩) ?_⟩
        rintro (⟨i, g1, g2⟩ | ⟨i, g1, g2⟩)
        · have g3 := (hO.2.2.2.1 b (by omega)).1
          have g4 := hO.1 i (by omega)
          omega
        · have := hO.2.2.2.2.1 b i (by omega) (by omega) g2
          omega
    · obtain ⟨t, g1, g2⟩ := h3 j (by omega)
      exact ⟨t, cd_P_mono hap hbq g1, by rw [l1 t g1]; exact g2⟩
  · intro t u ht hu e
    by_cases zt : cd_P o a b t
    · have lt := h2 t zt
      rw [← l1 t zt] at lt
      have zu := lold u hu (by omega)
      rw [l1 t zt, l1 u zu] at e
      exact h4 t u zt zu e
    · have zu : ¬ cd_P o a b u := lnew u hu (by rw [← e]; exact l2 t ht zt)
      let S : Nat → Prop := fun x => cd_P o a b x ∨ cd_R (cd_C w h ab) t x
      have hS : cd_Li (cd_C w h ab) S := by
        rintro x y (g | g) hy
        · exact Or.inl (lab x y g hy)
        · exact Or.inr (cd_R_li _ t x y g hy)
      have hS2 : ∀ x, S x → cd_P o p q x := by
        rintro x (g | g)
        · exact cd_P_mono hap hbq g
        · exact cd_R_li_of hL g ht
      have best := cd_P_best hw hO hS
      have c1 := cd_cn_n S w
      have c2 := cd_cn_n (fun r => S (8 + r)) h
      have c3 : a ≤ cd_cn S w := by
        have := cd_cn_le (P := cd_P o a b) (Q := S) w (fun i _ g => Or.inl g)
        rw [cd_P_cw hw hO ha hb] at this
        exact this
      have c4 : b ≤ cd_cn (fun r => S (8 + r)) h := by
        have := cd_cn_le (P := fun r => cd_P o a b (8 + r)) (Q := fun r => S (8 + r)) h (fun i _ g => Or.inl g)
        rw [cd_P_ch hw hO ha hb] at this
        exact this
      have c5 : cd_cn S w ≤ p := by
        have := cd_cn_le (P := S) (Q := cd_P o p q) w (fun i _ g => hS2 i g)
        rw [cd_P_cw hw hO hp hq] at this
        exact this
      have c6 : cd_cn (fun r => S (8 + r)) h ≤ q := by
        have := cd_cn_le (P := fun r => S (8 + r)) (Q := fun r => cd_P o p q (8 + r)) h (fun i _ g => hS2 _ g)
        rw [cd_P_ch hw hO hp hq] at this
        exact this
      have c7 : a + b < cd_cn S w + cd_cn (fun r => S (8 + r)) h := by
        by_cases z : a + b < cd_cn S w + cd_cn (fun r => S (8 + r)) h
        · exact z
        · exfalso
          rcases cd_P_T hO hp hq ht with g | ⟨g, g'⟩
          · have := cd_cn_lt (P := cd_P o a b) (Q := S) w t g (fun i _ g => Or.inl g) zt (Or.inr (cd_R_r _ t))
            rw [cd_P_cw hw hO ha hb] at this
            omega
          · have e8 : 8 + (t - 8) = t := by omega
            have := cd_cn_lt (P := fun r => cd_P o a b (8 + r)) (Q := fun r => S (8 + r)) h (t - 8) (by omega) (fun i _ g => Or.inl g) (by show ¬ cd_P o a b (8 + (t - 8)); rw [e8]; exact zt) (by show S (8 + (t - 8)); rw [e8]; exact Or.inr (cd_R_r _ t))
            rw [cd_P_ch hw hO ha hb] at this
            omega
      have c8 : p + q ≤ cd_cn S w + cd_cn (fun r => S (8 + r)) h := by
        by_cases z : p + q ≤ cd_cn S w + cd_cn (fun r => S (8 + r)) h
        · exact z
        · exact absurd best (kk _ _ c1 c2 c3 c4 c7 (by omega))
      have := cd_P_sub_eq hw hO hp hq hS2 (by omega) (by omega) hu
      exact this.resolve_left zu
  · intro p' q' g1 g2 g3 g4 g5 g6
    exfalso
    have : (p + q + 1) * (w + 1) ≤ (p' + q') * (w + 1) := Nat.mul_le_mul_right _ (by omega)
    rw [Nat.succ_mul] at this
    omega
theorem cd_Ch_end (hO : cd_O w h ab o) {k a b s : Nat} {L : Nat → Nat} (H : cd_Ch w h ab o k a b s L) (hk : (w + h + 1) * (w + 1) ≤ k) : a = w ∧ b = h := by
  obtain ⟨⟨ha, hb, hs⟩, h1, h2, h3, h4, h5⟩ := H
  by_cases z : a = w ∧ b = h
  · exact z
  · exfalso
    refine h5 w h (Nat.le_refl _) (Nat.le_refl _) ha hb (by omega) ?_ ?_
    · rw [Nat.succ_mul] at hk
      omega
    · intro x y hx hy
      exact cd_P_all hO (cd_C_T hy).1
/-! how many threads a step has, and of which kind -/
theorem cd_P_c16 (hw : w ≤ 8) (hh : h ≤ 8) (hO : cd_O w h ab o) {p q : Nat} (hp : p ≤ w) (hq : q ≤ h) : cd_cn (cd_P o p q) 16 = p + q := by
  have e1 : cd_cn (cd_P o p q) 8 = p := by
    have e : (8 : Nat) = w + (8 - w) := by omega
    rw [e, cd_cn_split, cd_P_cw hw hO hp hq, cd_cn_z, Nat.add_zero]
    intro i hi z
    have := cd_P_T hO hp hq z
    unfold cd_T at this
    omega
  have e2 : cd_cn (fun r => cd_P o p q (8 + r)) 8 = q := by
    have e : (8 : Nat) = h + (8 - h) := by omega
    have e' : cd_cn (fun r => cd_P o p q (8 + r)) (h + (8 - h)) = q := by
      rw [cd_cn_split, cd_P_ch hw hO hp hq, cd_cn_z, Nat.add_zero]
      intro i hi z
      have := cd_P_T hO hp hq z
      unfold cd_T at this
      omega
    rw [← e] at e'
    exact e'
  rw [show (16 : Nat) = 8 + 8 from rfl, cd_cn_split, e1, e2]
theorem cd_new_c (hw : w ≤ 8) (hh : h ≤ 8) (hO : cd_O w h ab o) {a b p q : Nat} (hp : p ≤ w) (hq : q ≤ h) (ha : a ≤ p) (hb : b ≤ q) : cd_cn (fun t => cd_P o p q t ∧ ¬ cd_P o a b t) 16 = p + q - (a + b) := by
  have e := cd_cn_or (P := cd_P o a b) (Q := fun t => cd_P o p q t ∧ ¬ cd_P o a b t) 16 (fun i _ h1 h2 => h2.2 h1)
  rw [cd_P_c16 hw hh hO (show a ≤ w by omega) (show b ≤ h by omega)] at e
  have e2 : cd_cn (fun i => cd_P o a b i ∨ (cd_P o p q i ∧ ¬ cd_P o a b i)) 16 = p + q := by
    rw [← cd_P_c16 hw hh hO hp hq]
    refine cd_cn_c 16 (fun i _ => ⟨?_, fun g => ?_⟩)
    · rintro (g | g)
      · exact cd_P_mono ha hb g
      · exact g.1
    · by_cases z : cd_P o a b i
      · exact Or.inl z
      · exact Or.inr ⟨g, z⟩
  omega
theorem cd_new_w (hw : w ≤ 8) (hO : cd_O w h ab o) {a b p q : Nat} (hp : p ≤ w) (hq : q ≤ h) (ha : a ≤ p) (hb : b ≤ q) : (∃ t, t < 8 ∧ cd_P o p q t ∧ ¬ cd_P o a b t) ↔ a < p := by
  constructor
  · rintro ⟨t, g1, g2, g3⟩
    obtain ⟨i, g4, g5⟩ := (cd_P_w hw hO hp hq g1).mp g2
    by_cases z : i < a
    · exact absurd (Or.inl ⟨i, z, g5⟩) g3
    · omega
  · intro g
    have g4 := hO.1 a (by omega)
    refine ⟨o a, by omega, Or.inl ⟨a, g, rfl⟩, ?_⟩
    rintro (⟨i, g1, g2⟩ | ⟨i, g1, g2⟩)
    · have := hO.2.1 a i (by omega) (by omega) g2
      omega
    · have g3 := (hO.2.2.2.1 i (by omega)).1
      omega
end
/-! levels of the whole cloth -/
def cd_Lv (w h : Nat) (ab : Nat → Nat → Prop) (m : Nat) (L : Nat → Nat) : Prop :=
  m ≤ 16 ∧ (∀ j, j ≤ m → cd_Li (cd_C w h ab) (fun t => cd_T w h t ∧ L t < j)) ∧ (∀ t, cd_T w h t → L t < m) ∧ (∀ j, j < m → ∃ t, cd_T w h t ∧ L t = j) ∧ (∀ t u, cd_T w h t → cd_T w h u → L t = L u → cd_R (cd_C w h ab) t u)
noncomputable def cd_sz (w h : Nat) (L : Nat → Nat) (j : Nat) : Nat := cd_cn (fun t => cd_T w h t ∧ L t = j) 16
def cd_wp (w h : Nat) (L : Nat → Nat) (j : Nat) : Prop := ∃ t, t < 8 ∧ cd_T w h t ∧ L t = j
def cd_lk (w h : Nat) (L : Nat → Nat) (l : Nat) : Prop := cd_sz w h L l = 1 ∧ cd_sz w h L (l + 1) = 1 ∧ (cd_wp w h L l ↔ cd_wp w h L (l + 1))
noncomputable def cd_gs (lk : Nat → Prop) : Nat → Nat
  | 0 => 0
  | l + 1 => @ite Nat (lk l) (Classical.propDecidable (lk l)) (cd_gs lk l) (l + 1)
section
variable {lk : Nat → Prop}
theorem cd_gs_0 : cd_gs lk 0 = 0 := rfl
theorem cd_gs_t {l : Nat} (h : lk l) : cd_gs lk (l + 1) = cd_gs lk l := by rw [cd_gs, if_pos h]
theorem cd_gs_f {l : Nat} (h : ¬ lk l) : cd_gs lk (l + 1) = l + 1 := by rw [cd_gs, if_neg h]
theorem cd_gs_le (l : Nat) : cd_gs lk l ≤ l := by
  induction l with
  | zero => exact Nat.le_refl _
  | succ l ih =>
    by_cases z : lk l
    · rw [cd_gs_t z]; omega
    · rw [cd_gs_f z]; omega
theorem cd_gs_in {l i : Nat} (h1 : cd_gs lk l ≤ i) (h2 : i < l) : lk i := by
  induction l with
  | zero => omega
  | succ l ih =>
    by_cases z : lk l
    · rw [cd_gs_t z] at h1
      by_cases e : i = l
      · rw [e]; exact z
      · exact ih h1 (by omega)
    · rw [cd_gs_f z] at h1
      omega
theorem cd_gs_same {l s : Nat} (h1 : cd_gs lk l ≤ s) (h2 : s ≤ l) : cd_gs lk s = cd_gs lk l := by
  induction l with
  | zero => rw [show s = 0 from by omega]
  | succ l ih =>
    by_cases e : s = l + 1
    · rw [e]
    · by_cases z : lk l
      · rw [cd_gs_t z] at h1 ⊢
        exact ih h1 (by omega)
      · rw [cd_gs_f z] at h1
        omega
theorem cd_gs_mono {a b : Nat} (h : a ≤ b) : cd_gs lk a ≤ cd_gs lk b := by
  induction b with
  | zero => rw [show a = 0 from by omega]; exact Nat.le_refl _
  | succ b ih =>
    by_cases e : a = b + 1
    · rw [e]; exact Nat.le_refl _
    · have i := ih (by omega)
      by_cases z : lk b
      · rw [cd_gs_t z]; exact i
      · rw [cd_gs_f z]
        have := cd_gs_le (lk := lk) b
        omega
theorem cd_gs_start {l : Nat} (h : 0 < cd_gs lk l) : ¬ lk (cd_gs lk l - 1) := by
  induction l with
  | zero => rw [cd_gs_0] at h; omega
  | succ l ih =>
    by_cases z : lk l
    · rw [cd_gs_t z] at h ⊢
      exact ih h
    · rw [cd_gs_f z]
      exact z
end
section
variable {w h : Nat} {ab : Nat → Nat → Prop} {m : Nat} {L : Nat → Nat}
theorem cd_Lv_mono (H : cd_Lv w h ab m L) {t u : Nat} (ht : cd_T w h t) (hr : cd_R (cd_C w h ab) t u) : L u ≤ L t := by
  have l := H.2.2.1 t ht
  have := cd_R_li_of (H.2.1 (L t + 1) (by omega)) hr ⟨ht, by omega⟩
  have := this.2
  omega
theorem cd_Lv_eq (H : cd_Lv w h ab m L) {t u : Nat} (ht : cd_T w h t) (hu : cd_T w h u) : (cd_R (cd_C w h ab) t u ∧ cd_R (cd_C w h ab) u t) ↔ L t = L u := by
  constructor
  · rintro ⟨a, b⟩
    have := cd_Lv_mono H ht a
    have := cd_Lv_mono H hu b
    omega
  · intro e
    exact ⟨H.2.2.2.2 t u ht hu e, H.2.2.2.2 u t hu ht e.symm⟩
theorem cd_Lv_up (hw : w ≤ 8) (H : cd_Lv w h ab m L) {x y : Nat} (hx : cd_T w h x) (hy : cd_T w h y) (hl : L x ≤ L y) (hk : x < 8 ↔ ¬ y < 8) : cd_R (cd_C w h ab) y x := by
  by_cases e : L x = L y
  · exact H.2.2.2.2 y x hy hx e.symm
  · rcases cd_C_tot (ab := ab) hw hx hy hk with c | c
    · exact cd_R_c c
    · have := cd_Lv_mono H hx (cd_R_c c)
      omega
theorem cd_single (hw : w ≤ 8) (hh : h ≤ 8) (H : cd_Lv w h ab m L) {j : Nat} (hj : j < m) (κ : Prop) (hk : ∀ x, cd_T w h x → L x = j → (x < 8 ↔ κ)) : cd_sz w h L j = 1 := by
  obtain ⟨t, ht, e⟩ := H.2.2.2.1 j hj
  refine cd_cn_one t (cd_T16 hw hh ht) ⟨ht, e⟩ (fun i hi ⟨h1, h2⟩ => ?_)
  by_cases z : i = t
  · exact z
  · exfalso
    obtain ⟨c, h3, h4⟩ := cd_R_first (H.2.2.2.2 i t h1 ht (by omega)) (fun q => z q.symm)
    have hc := (cd_C_T h3).1
    have a := cd_Lv_mono H h1 (cd_R_c h3)
    have b := cd_Lv_mono H hc h4
    have k1 := hk c hc (by omega)
    have k2 := hk i h1 h2
    have k3 := cd_C_k hw h3
    rw [k1, k2] at k3
    by_cases q : κ
    · exact k3.mp q q
    · exact q (k3.mpr q)
theorem cd_sz1 (hw : w ≤ 8) (hh : h ≤ 8) {j x y : Nat} (hs : cd_sz w h L j = 1) (hx : cd_T w h x) (hy : cd_T w h y) (ex : L x = j) (ey : L y = j) : x = y := by
  by_cases z : x = y
  · exact z
  · exfalso
    have e := cd_cn_or (P := fun i => i = x) (Q := fun i => i = y) 16 (fun i _ a b => z (a.symm.trans b))
    rw [cd_cn_one (P := fun i => i = x) x (cd_T16 hw hh hx) rfl (fun i _ q => q), cd_cn_one (P := fun i => i = y) y (cd_T16 hw hh hy) rfl (fun i _ q => q)] at e
    have l := cd_cn_le (P := fun i => i = x ∨ i = y) (Q := fun t => cd_T w h t ∧ L t = j) 16 (by
      rintro i _ (q | q)
      · rw [q]; exact ⟨hx, ex⟩
      · rw [q]; exact ⟨hy, ey⟩)
    unfold cd_sz at hs
    omega
theorem cd_wpk (hw : w ≤ 8) (hh : h ≤ 8) {j c : Nat} (hs : cd_sz w h L j = 1) (hc : cd_T w h c) (ec : L c = j) : cd_wp w h L j ↔ c < 8 := by
  constructor
  · rintro ⟨t, h1, h2, h3⟩
    rw [cd_sz1 hw hh hs hc h2 ec h3]
    exact h1
  · intro z
    exact ⟨c, z, hc, ec⟩
theorem cd_run_sz {l i : Nat} (h0 : cd_gs (cd_lk w h L) l < l) (h1 : cd_gs (cd_lk w h L) l ≤ i) (h2 : i ≤ l) : cd_sz w h L i = 1 := by
  by_cases e : i = l
  · have k := cd_gs_in (lk := cd_lk w h L) (l := l) (i := l - 1) (by omega) (by omega)
    have := k.2.1
    rw [show l - 1 + 1 = i from by omega] at this
    exact this
  · exact (cd_gs_in (lk := cd_lk w h L) (l := l) (i := i) h1 (by omega)).1
theorem cd_run_wp {l : Nat} : ∀ d i : Nat, i + d = l → cd_gs (cd_lk w h L) l ≤ i → (cd_wp w h L i ↔ cd_wp w h L l) := by
  intro d
  induction d with
  | zero => intro i e _; rw [show i = l from by omega]
  | succ d ih =>
    intro i e hg
    have k := cd_gs_in (lk := cd_lk w h L) (l := l) (i := i) hg (by omega)
    exact k.2.2.trans (ih (i + 1) (by omega) (by omega))
/-- of two threads in different levels the one must be lifted with the other unless they are in one run of single threads -/
theorem cd_weak (hw : w ≤ 8) (hh : h ≤ 8) (H : cd_Lv w h ab m L) {t u : Nat} (ht : cd_T w h t) (hu : cd_T w h u) (hl : L u < L t) : cd_R (cd_C w h ab) t u ↔ L u < cd_gs (cd_lk w h L) (L t) := by
  constructor
  · intro r
    by_cases z : L u < cd_gs (cd_lk w h L) (L t)
    · exact z
    · exfalso
      obtain ⟨c, h3, h4⟩ := cd_R_first r (fun q => by rw [q] at hl; omega)
      have hc := (cd_C_T h3).1
      have a := cd_Lv_mono H ht (cd_R_c h3)
      have b := cd_Lv_mono H hc h4
      have k3 := cd_C_k hw h3
      have g0 : cd_gs (cd_lk w h L) (L t) < L t := by omega
      have s1 := cd_run_sz g0 (i := L c) (by omega) a
      have s2 := cd_run_sz g0 (i := L t) (by omega) (Nat.le_refl _)
      have w1 := cd_run_wp (w := w) (h := h) (L := L) (l := L t) (L t - L c) (L c) (by omega) (by omega)
      rw [cd_wpk hw hh s1 hc rfl, cd_wpk hw hh s2 ht rfl] at w1
      rw [w1] at k3
      by_cases q : t < 8
      · exact k3.mp q q
      · exact q (k3.mpr q)
  · intro hg
    by_cases hk : u < 8 ↔ ¬ t < 8
    · exact cd_Lv_up hw H hu ht (by omega) hk
    · have gl := cd_gs_le (lk := cd_lk w h L) (L t)
      have lt := H.2.2.1 t ht
      have key : ∃ z, cd_T w h z ∧ (L z = cd_gs (cd_lk w h L) (L t) - 1 ∨ L z = cd_gs (cd_lk w h L) (L t)) ∧ (z < 8 ↔ ¬ t < 8) := by
        refine Classical.byContradiction (fun no => ?_)
        have all : ∀ z, cd_T w h z → (L z = cd_gs (cd_lk w h L) (L t) - 1 ∨ L z = cd_gs (cd_lk w h L) (L t)) → (z < 8 ↔ t < 8) := by
          intro z hz hz2
          by_cases q : z < 8 ↔ ¬ t < 8
          · exact absurd ⟨z, hz, hz2, q⟩ no
          · omega
        have s1 := cd_single hw hh H (j := cd_gs (cd_lk w h L) (L t) - 1) (by omega) (t < 8) (fun x h1 h2 => all x h1 (Or.inl h2))
        have s2 := cd_single hw hh H (j := cd_gs (cd_lk w h L) (L t)) (by omega) (t < 8) (fun x h1 h2 => all x h1 (Or.inr h2))
        obtain ⟨x, x1, x2⟩ := H.2.2.2.1 (cd_gs (cd_lk w h L) (L t) - 1) (by omega)
        obtain ⟨y, y1, y2⟩ := H.2.2.2.1 (cd_gs (cd_lk w h L) (L t)) (by omega)
        refine cd_gs_start (lk := cd_lk w h L) (l := L t) (by omega) ?_
        have e : cd_gs (cd_lk w h L) (L t) - 1 + 1 = cd_gs (cd_lk w h L) (L t) := by omega
        refine ⟨s1, by rw [e]; exact s2, ?_⟩
        rw [e, cd_wpk hw hh s1 x1 x2, cd_wpk hw hh s2 y1 y2, all x x1 (Or.inl x2), all y y1 (Or.inr y2)]
      obtain ⟨z, z1, z2, z3⟩ := key
      have a : cd_R (cd_C w h ab) t z := cd_Lv_up hw H z1 ht (by omega) z3
      have b : cd_R (cd_C w h ab) z u := cd_Lv_up hw H hu z1 (by omega) (by omega)
      exact cd_R_t a b
end
end
section
/-! parts in levels: sg k the level of part k, g l the beginning of the run that level l is in; sets that can be lifted, and in how many ways -/
def cd_Up (m : Nat) (sg g : Nat → Nat) (P : Nat → Prop) : Prop := ∀ k j, k < m → j < m → P k → sg j < g (sg k) → P j
noncomputable def cd_F (g : Nat → Nat) : Nat → Nat
  | 0 => 1
  | s + 1 => cd_F g s * (s - g s + 1)
noncomputable def cd_W (m : Nat) (sg g : Nat → Nat) (P : Nat → Prop) : Nat := cd_b (cd_Up m sg g P) * cd_F g (cd_cn P m)
theorem cd_max {Q : Nat → Prop} : ∀ b : Nat, (∃ k, k < b ∧ Q k) → ∃ k, k < b ∧ Q k ∧ ∀ j, j < b → Q j → j ≤ k := by
  intro b
  induction b with
  | zero => rintro ⟨k, h1, _⟩; omega
  | succ b ih =>
    rintro ⟨k, h1, h2⟩
    by_cases z : Q b
    · exact ⟨b, by omega, z, fun j h3 _ => by omega⟩
    · have hk : k ≠ b := fun e => z (e ▸ h2)
      obtain ⟨k', h3, h4, h5⟩ := ih ⟨k, by omega, h2⟩
      refine ⟨k', by omega, h4, fun j h6 h7 => ?_⟩
      have hj : j ≠ b := fun e => z (e ▸ h7)
      exact h5 j (by omega) h7
section
variable {m : Nat} {sg : Nat → Nat} {lk : Nat → Prop} (h1 : ∀ i, i < m → sg i < m) (h2 : ∀ i j, i < m → j < m → sg i = sg j → i = j)
theorem cd_cnl (h1 : ∀ i, i < m → sg i < m) (h2 : ∀ i j, i < m → j < m → sg i = sg j → i = j) {x : Nat} (hx : x ≤ m) : cd_cn (fun k => sg k < x) m = x := by
  rw [cd_permc (fun i => i < x) h1 h2]
  exact cd_cn_below x m hx
theorem cd_top (P : Nat → Prop) (hP : ∃ k, k < m ∧ P k) (h1 : ∀ i, i < m → sg i < m) : ∃ k, k < m ∧ P k ∧ ∀ j, j < m → P j → sg j ≤ sg k := by
  obtain ⟨k, a, b⟩ := hP
  obtain ⟨l, c, ⟨k', d, e, f⟩, g⟩ := cd_max (Q := fun l => ∃ k, k < m ∧ P k ∧ sg k = l) m ⟨sg k, h1 k a, k, a, b, rfl⟩
  exact ⟨k', d, e, fun j hj hp => by rw [f]; exact g (sg j) (h1 j hj) ⟨j, hj, hp, rfl⟩⟩
theorem cd_without {P : Nat → Prop} {k : Nat} (hk : k < m) (hp : P k) : cd_cn P m = cd_cn (fun j => P j ∧ j ≠ k) m + 1 := by
  have e := cd_cn_or (P := fun j => P j ∧ j ≠ k) (Q := fun j => j = k) m (fun i _ a b => a.2 b)
  rw [cd_cn_one (P := fun j => j = k) k hk rfl (fun i _ q => q)] at e
  rw [← e]
  refine cd_cn_c m (fun i _ => ⟨fun q => ?_, ?_⟩)
  · by_cases z : i = k
    · exact Or.inr z
    · exact Or.inl ⟨q, z⟩
  · rintro (q | q)
    · exact q.1
    · rw [q]; exact hp
theorem cd_W_rec (h1 : ∀ i, i < m → sg i < m) (h2 : ∀ i j, i < m → j < m → sg i = sg j → i = j) (P : Nat → Prop) (hP : ∃ k, k < m ∧ P k) : cd_W m sg (cd_gs lk) P = cd_sm (fun k => cd_b (P k ∧ ∀ j, j < m → sg j < cd_gs lk (sg k) → P j ∧ j ≠ k) * cd_W m sg (cd_gs lk) (fun j => P j ∧ j ≠ k)) m := by
  by_cases up : cd_Up m sg (cd_gs lk) P
  · obtain ⟨k0, a1, a2, a3⟩ := cd_top P hP h1
    have b1 := h1 k0 a1
    have gle := cd_gs_le (lk := lk) (sg k0)
    have lo : ∀ j, j < m → sg j < cd_gs lk (sg k0) → P j := fun j hj hl => up k0 j a1 hj a2 hl
    have cA : cd_cn P m = cd_gs lk (sg k0) + cd_cn (fun k => P k ∧ cd_gs lk (sg k0) ≤ sg k) m := by
      have e := cd_cn_or (P := fun k => sg k < cd_gs lk (sg k0)) (Q := fun k => P k ∧ cd_gs lk (sg k0) ≤ sg k) m (fun i _ a b => by have := b.2; omega)
      rw [cd_cnl h1 h2 (by omega)] at e
      rw [← e]
      refine cd_cn_c m (fun i hi => ⟨fun q => ?_, ?_⟩)
      · by_cases z : sg i < cd_gs lk (sg k0)
        · exact Or.inl z
        · exact Or.inr ⟨q, by omega⟩
      · rintro (q | q)
        · exact lo i hi q
        · exact q.1
    have cpos : 0 < cd_cn (fun k => P k ∧ cd_gs lk (sg k0) ≤ sg k) m := cd_cn_pos a1 ⟨a2, gle⟩
    have ctop : cd_cn P m ≤ sg k0 + 1 := by
      have e := cd_cn_le (P := P) (Q := fun k => sg k < sg k0 + 1) m (fun i hi q => by have := a3 i hi q; omega)
      rw [cd_cnl h1 h2 (by omega)] at e
      exact e
    obtain ⟨s, hs⟩ : ∃ s, cd_cn P m = s + 1 := ⟨cd_cn P m - 1, by omega⟩
    have gs : cd_gs lk s = cd_gs lk (sg k0) := cd_gs_same (by omega) (by omega)
    have terms : ∀ k, k < m → cd_b (P k ∧ ∀ j, j < m → sg j < cd_gs lk (sg k) → P j ∧ j ≠ k) * cd_W m sg (cd_gs lk) (fun j => P j ∧ j ≠ k) = cd_b (P k ∧ cd_gs lk (sg k0) ≤ sg k) * cd_F (cd_gs lk) s := by
      intro k hk
      by_cases pk : P k
      · have hc := cd_without hk pk
        have hc2 : cd_cn (fun j => P j ∧ j ≠ k) m = s := by omega
        have kle := a3 k hk pk
        by_cases z : cd_gs lk (sg k0) ≤ sg k
        · have gk : cd_gs lk (sg k) = cd_gs lk (sg k0) := cd_gs_same z kle
          have c1 : P k ∧ ∀ j, j < m → sg j < cd_gs lk (sg k) → P j ∧ j ≠ k := by
            refine ⟨pk, fun j hj hl => ⟨lo j hj (by omega), fun e => ?_⟩⟩
            rw [e] at hl
            omega
          have c2 : cd_Up m sg (cd_gs lk) (fun j => P j ∧ j ≠ k) := by
            intro x y hx hy px hl
            have xle := a3 x hx px.1
            have gm := cd_gs_mono (lk := lk) xle
            refine ⟨lo y hy (by omega), fun e => ?_⟩
            rw [e] at hl
            omega
          unfold cd_W
          rw [cd_bt c1, cd_bt c2, cd_bt (And.intro pk z), hc2, Nat.one_mul, Nat.one_mul]
        · have c2 : ¬ cd_Up m sg (cd_gs lk) (fun j => P j ∧ j ≠ k) := by
            intro q
            have hne : k0 ≠ k := fun e => by rw [e] at gle; rw [e] at z; omega
            exact (q k0 k a1 hk ⟨a2, hne⟩ (by omega)).2 rfl
          unfold cd_W
          rw [cd_bf c2, cd_bf (fun q : P k ∧ cd_gs lk (sg k0) ≤ sg k => z q.2), Nat.zero_mul, Nat.zero_mul, Nat.mul_zero]
      · rw [cd_bf (fun q : P k ∧ ∀ j, j < m → sg j < cd_gs lk (sg k) → P j ∧ j ≠ k => pk q.1), cd_bf (fun q : P k ∧ cd_gs lk (sg k0) ≤ sg k => pk q.1), Nat.zero_mul, Nat.zero_mul]
    rw [cd_sm_c m terms, cd_sm_mul (fun k => cd_b (P k ∧ cd_gs lk (sg k0) ≤ sg k))]
    have e3 : cd_sm (fun k => cd_b (P k ∧ cd_gs lk (sg k0) ≤ sg k)) m = s - cd_gs lk s + 1 := by
      show cd_cn (fun k => P k ∧ cd_gs lk (sg k0) ≤ sg k) m = _
      omega
    rw [e3]
    unfold cd_W
    rw [cd_bt up, hs, Nat.one_mul, cd_F, Nat.mul_comm]
  · have z0 : cd_W m sg (cd_gs lk) P = 0 := by
      unfold cd_W
      rw [cd_bf up, Nat.zero_mul]
    rw [z0]
    refine (cd_sm_zz m (fun k hk => ?_)).symm
    by_cases c1 : P k ∧ ∀ j, j < m → sg j < cd_gs lk (sg k) → P j ∧ j ≠ k
    · have c2 : ¬ cd_Up m sg (cd_gs lk) (fun j => P j ∧ j ≠ k) := by
        intro q
        refine up (fun x y hx hy px hl => ?_)
        by_cases e : x = k
        · rw [e] at hl
          exact (c1.2 y hy hl).1
        · exact (q x y hx hy ⟨px, e⟩ hl).1
      unfold cd_W
      rw [cd_bf c2, Nat.zero_mul, Nat.mul_zero]
    · rw [cd_bf c1, Nat.zero_mul]
theorem cd_W_0 {P : Nat → Prop} (hP : ∀ k, k < m → ¬ P k) : cd_W m sg (cd_gs lk) P = 1 := by
  unfold cd_W
  rw [cd_cn_z hP, cd_bt (P := cd_Up m sg (cd_gs lk) P) (fun x y hx _ px _ => absurd px (hP x hx))]
  rfl
theorem cd_W_c {P Q : Nat → Prop} {g : Nat → Nat} (h : ∀ k, k < m → (P k ↔ Q k)) : cd_W m sg g P = cd_W m sg g Q := by
  unfold cd_W
  rw [cd_cn_c m h]
  congr 1
  refine cd_bc ⟨fun u x y hx hy qx hl => (h y hy).mp (u x y hx hy ((h x hx).mpr qx) hl), fun u x y hx hy px hl => (h y hy).mpr (u x y hx hy ((h x hx).mp px) hl)⟩
theorem cd_F_pos (g : Nat → Nat) (s : Nat) : 0 < cd_F g s := by
  induction s with
  | zero => exact Nat.one_pos
  | succ s ih => exact Nat.mul_pos ih (Nat.succ_pos _)
theorem cd_W_pos {P : Nat → Prop} {g : Nat → Nat} : 0 < cd_W m sg g P ↔ cd_Up m sg g P := by
  unfold cd_W
  by_cases z : cd_Up m sg g P
  · rw [cd_bt z, Nat.one_mul]
    exact ⟨fun _ => z, fun _ => cd_F_pos g _⟩
  · rw [cd_bf z, Nat.zero_mul]
    exact ⟨fun q => absurd q (Nat.lt_irrefl 0), fun q => absurd q z⟩
theorem cd_W_all {g : Nat → Nat} {P : Nat → Prop} (hP : ∀ k, k < m → P k) : cd_W m sg g P = cd_F g m := by
  unfold cd_W
  rw [cd_cn_all hP, cd_bt (P := cd_Up m sg g P) (fun x y _ hy _ _ => hP y hy), Nat.one_mul]
theorem cd_F_mono (g : Nat → Nat) {a b : Nat} (h : a ≤ b) : cd_F g a ≤ cd_F g b := by
  induction b with
  | zero => rw [show a = 0 from by omega]; exact Nat.le_refl _
  | succ b ih =>
    by_cases e : a = b + 1
    · rw [e]; exact Nat.le_refl _
    · exact Nat.le_trans (ih (by omega)) (Nat.le_mul_of_pos_right _ (Nat.succ_pos _))
theorem cd_W_le {g : Nat → Nat} {P : Nat → Prop} : cd_W m sg g P ≤ cd_F g m := by
  unfold cd_W
  refine Nat.le_trans (Nat.mul_le_mul_right _ (cd_ble _)) ?_
  rw [Nat.one_mul]
  exact cd_F_mono g (cd_cn_n P m)
end
/-! sets of numbers below m between two borders -/
def cd_btw (lo hi : Nat → Prop) (m S : Nat) : Prop := (∀ k, k < m → lo k → S.testBit k = true) ∧ (∀ k, k < m → S.testBit k = true → hi k)
theorem cd_box (lo hi : Nat → Prop) : ∀ m : Nat, (∀ k, k < m → lo k → hi k) → cd_sm (fun S => cd_b (cd_btw lo hi m S)) (2 ^ m) = 2 ^ cd_cn (fun k => hi k ∧ ¬ lo k) m := by
  intro m
  induction m with
  | zero =>
    intro _
    rw [cd_cn_0]
    show cd_sm (fun S => cd_b (cd_btw lo hi 0 S)) 1 = 1
    rw [cd_sm_s, cd_sm_0, cd_bt ⟨fun k hk => by omega, fun k hk => by omega⟩]
  | succ m ih =>
    intro hl
    have e := ih (fun k hk => hl k (by omega))
    have p1 : ∀ S, S < 2 ^ m → cd_b (cd_btw lo hi (m + 1) S) = cd_b (cd_btw lo hi m S) * cd_b (¬ lo m) := by
      intro S hS
      have tb := Nat.testBit_lt_two_pow hS
      by_cases z : lo m
      · rw [cd_bf (fun q : ¬ lo m => q z), Nat.mul_zero]
        refine cd_bf (fun q => ?_)
        have := q.1 m (by omega) z
        rw [tb] at this
        exact absurd this (by decide)
      · rw [cd_bt z, Nat.mul_one]
        refine cd_bc ⟨fun q => ⟨fun k hk => q.1 k (by omega), fun k hk => q.2 k (by omega)⟩, fun q => ⟨fun k hk hlo => ?_, fun k hk ht => ?_⟩⟩
        · by_cases ek : k = m
          · rw [ek] at hlo; exact absurd hlo z
          · exact q.1 k (by omega) hlo
        · by_cases ek : k = m
          · rw [ek, tb] at ht; exact absurd ht (by decide)
          · exact q.2 k (by omega) ht
    have p2 : ∀ S, S < 2 ^ m → cd_b (cd_btw lo hi (m + 1) (2 ^ m + S)) = cd_b (cd_btw lo hi m S) * cd_b (hi m) := by
      intro S hS
      have tb : (2 ^ m + S).testBit m = true := by
        rw [Nat.testBit_two_pow_add_eq, Nat.testBit_lt_two_pow hS]
        rfl
      have tk : ∀ k, k < m → (2 ^ m + S).testBit k = S.testBit k := fun k hk => Nat.testBit_two_pow_add_gt hk S
      by_cases z : hi m
      · rw [cd_bt z, Nat.mul_one]
        refine cd_bc ⟨fun q => ⟨fun k hk hlo => ?_, fun k hk ht => ?_⟩, fun q => ⟨fun k hk hlo => ?_, fun k hk ht => ?_⟩⟩
        · rw [← tk k hk]; exact q.1 k (by omega) hlo
        · exact q.2 k (by omega) (by rw [tk k hk]; exact ht)
        · by_cases ek : k = m
          · rw [ek]; exact tb
          · rw [tk k (by omega)]; exact q.1 k (by omega) hlo
        · by_cases ek : k = m
          · rw [ek]; exact z
          · rw [tk k (by omega)] at ht; exact q.2 k (by omega) ht
      · rw [cd_bf z, Nat.mul_zero]
        exact cd_bf (fun q => z (q.2 m (by omega) tb))
    rw [show 2 ^ (m + 1) = 2 ^ m + 2 ^ m from by rw [Nat.pow_succ]; omega, cd_sm_split, cd_sm_c _ p1, cd_sm_c _ p2, cd_sm_mul (fun S => cd_b (cd_btw lo hi m S)), cd_sm_mul (fun S => cd_b (cd_btw lo hi m S)), e, cd_cn_s, Nat.pow_add]
    rw [← Nat.mul_add]
    congr 1
    by_cases a : lo m
    · have b := hl m (by omega) a
      rw [cd_bf (fun q : ¬ lo m => q a), cd_bt b, cd_bf (fun q : hi m ∧ ¬ lo m => q.2 a)]
    · by_cases b : hi m
      · rw [cd_bt a, cd_bt b, cd_bt (And.intro b a)]
      · rw [cd_bt a, cd_bf b, cd_bf (fun q : hi m ∧ ¬ lo m => b q.1)]
section
variable {m : Nat} {sg : Nat → Nat} {lk : Nat → Prop}
/-- how many sets of parts can be lifted -/
theorem cd_ups (h1 : ∀ i, i < m → sg i < m) (h2 : ∀ i j, i < m → j < m → sg i = sg j → i = j) : cd_sm (fun S => cd_b (cd_Up m sg (cd_gs lk) (fun k => S.testBit k = true))) (2 ^ m) = 1 + cd_sm (fun l => 2 ^ (l - cd_gs lk l)) m := by
  have each : ∀ S, S < 2 ^ m → cd_b (cd_Up m sg (cd_gs lk) (fun k => S.testBit k = true)) = cd_b (S = 0) + cd_sm (fun l => cd_b (cd_btw (fun k => sg k < cd_gs lk l ∨ sg k = l) (fun k => sg k ≤ l) m S)) m := by
    intro S hS
    by_cases up : cd_Up m sg (cd_gs lk) (fun k => S.testBit k = true)
    · rw [cd_bt up]
      by_cases z : S = 0
      · rw [cd_bt z, cd_sm_zz m]
        intro l hl
        refine cd_bf (fun q => ?_)
        obtain ⟨k, k1, k2⟩ := cd_surj h1 h2 l hl
        have := q.1 k k1 (Or.inr k2.symm)
        rw [z, Nat.zero_testBit] at this
        exact absurd this (by decide)
      · rw [cd_bf z, Nat.zero_add]
        obtain ⟨k, hk⟩ := Nat.exists_testBit_of_ne_zero z
        have km : k < m := by
          by_cases q : k < m
          · exact q
          · have : S < 2 ^ k := Nat.lt_of_lt_of_le hS (Nat.pow_le_pow_right (by decide) (by omega))
            rw [Nat.testBit_lt_two_pow this] at hk
            exact absurd hk (by decide)
        obtain ⟨k0, a1, a2, a3⟩ := cd_top (fun k => S.testBit k = true) ⟨k, km, hk⟩ h1
        have a2' : S.testBit k0 = true := a2
        have gle := cd_gs_le (lk := lk) (sg k0)
        rw [cd_sm_one (sg k0) (h1 k0 a1), cd_bt]
        · refine ⟨?_, fun k hk ht => a3 k hk ht⟩
          rintro k hk (q | q)
          · exact up k0 k a1 hk a2 q
          · rw [h2 k k0 hk a1 q]; exact a2'
        · intro l hl hne
          refine cd_bf (fun q => hne ?_)
          obtain ⟨k, k1, k2⟩ := cd_surj h1 h2 l hl
          have b1 := a3 k k1 (q.1 k k1 (Or.inr k2.symm))
          have b2 : sg k0 ≤ l := q.2 k0 a1 a2
          omega
    · rw [cd_bf up, cd_bf, cd_sm_zz m]
      · intro l hl
        refine cd_bf (fun q => up (fun x y hx hy px hs => ?_))
        have b : sg x ≤ l := q.2 x hx px
        have gm := cd_gs_mono (lk := lk) b
        exact q.1 y hy (Or.inl (by omega))
      · intro e
        refine up (fun x y hx hy px hs => ?_)
        have px' : S.testBit x = true := px
        rw [e, Nat.zero_testBit] at px'
        exact absurd px' (by decide)
  rw [cd_sm_c _ each, cd_sm_add, cd_sm_swap]
  have e0 : cd_sm (fun S => cd_b (S = 0)) (2 ^ m) = 1 := by
    rw [cd_sm_one (f := fun S => cd_b (S = 0)) 0 (Nat.two_pow_pos m) (fun i _ hne => cd_bf hne), cd_bt rfl]
  rw [e0]
  congr 1
  refine cd_sm_c m (fun l hl => ?_)
  have gle := cd_gs_le (lk := lk) l
  show cd_sm (fun S => cd_b (cd_btw (fun k => sg k < cd_gs lk l ∨ sg k = l) (fun k => sg k ≤ l) m S)) (2 ^ m) = _
  rw [cd_box _ _ m (fun k _ q => by rcases q with q | q <;> omega)]
  congr 1
  rw [cd_cn_c (Q := fun k => (fun i => cd_gs lk l ≤ i ∧ i < l) (sg k)) m (fun i _ => by show (sg i ≤ l ∧ ¬ (sg i < cd_gs lk l ∨ sg i = l)) ↔ (cd_gs lk l ≤ sg i ∧ sg i < l); omega), cd_permc (fun i => cd_gs lk l ≤ i ∧ i < l) h1 h2]
  have e := cd_cn_or (P := fun i => i < cd_gs lk l) (Q := fun i => cd_gs lk l ≤ i ∧ i < l) m (fun i _ a b => by have := b.1; omega)
  rw [cd_cn_below _ m (by omega), cd_cn_c (Q := fun i => i < l) m (fun i _ => by omega), cd_cn_below l m (by omega)] at e
  omega
end
/-! the bound on the number of ways -/
def cd_f : Nat → Nat
  | 0 => 1
  | n + 1 => cd_f n * (n + 1)
theorem cd_f_mono {a b : Nat} (h : a ≤ b) : cd_f a ≤ cd_f b := by
  induction b with
  | zero => rw [show a = 0 from by omega]; exact Nat.le_refl _
  | succ b ih =>
    by_cases e : a = b + 1
    · rw [e]; exact Nat.le_refl _
    · exact Nat.le_trans (ih (by omega)) (Nat.le_mul_of_pos_right _ (Nat.succ_pos _))
section
variable {w h : Nat} {ab : Nat → Nat → Prop} {m : Nat} {L : Nat → Nat}
noncomputable def cd_A (w h : Nat) (L : Nat → Nat) (s : Nat) : Nat := cd_cn (fun t => cd_T w h t ∧ L t < s) 8
noncomputable def cd_B (w h : Nat) (L : Nat → Nat) (s : Nat) : Nat := cd_cn (fun r => cd_T w h (8 + r) ∧ L (8 + r) < s) 8
theorem cd_A_s (s : Nat) : cd_A w h L s ≤ cd_A w h L (s + 1) := cd_cn_le 8 (fun i _ q => ⟨q.1, by have := q.2; omega⟩)
theorem cd_B_s (s : Nat) : cd_B w h L s ≤ cd_B w h L (s + 1) := cd_cn_le 8 (fun i _ q => ⟨q.1, by have := q.2; omega⟩)
theorem cd_A_p {s : Nat} (hp : cd_wp w h L s) : cd_A w h L s + 1 ≤ cd_A w h L (s + 1) := by
  obtain ⟨t, h1, h2, h3⟩ := hp
  exact cd_cn_lt 8 t h1 (fun i _ q => ⟨q.1, by have := q.2; omega⟩) (fun q => by have := q.2; omega) ⟨h2, by omega⟩
theorem cd_B_p (hw : w ≤ 8) (hh : h ≤ 8) (H : cd_Lv w h ab m L) {s : Nat} (hs : s < m) (hp : ¬ cd_wp w h L s) : cd_B w h L s + 1 ≤ cd_B w h L (s + 1) := by
  obtain ⟨t, h1, h2⟩ := H.2.2.2.1 s hs
  have h16 := cd_T16 hw hh h1
  have h8 : ¬ t < 8 := fun q => hp ⟨t, q, h1, h2⟩
  have e : 8 + (t - 8) = t := by omega
  exact cd_cn_lt 8 (t - 8) (by omega) (fun i _ q => ⟨q.1, by have := q.2; omega⟩) (fun q => by have q2 := q.2; rw [e] at q2; omega) (by rw [e]; exact ⟨h1, by omega⟩)
theorem cd_A_run {s : Nat} (hp : cd_wp w h L s) : ∀ d, cd_gs (cd_lk w h L) s + d ≤ s → d ≤ cd_A w h L (cd_gs (cd_lk w h L) s + d) := by
  intro d
  induction d with
  | zero => intro _; omega
  | succ d ih =>
    intro hd
    have i := ih (by omega)
    have r := (cd_run_wp (w := w) (h := h) (L := L) (l := s) (s - (cd_gs (cd_lk w h L) s + d)) (cd_gs (cd_lk w h L) s + d) (by omega) (by omega)).mpr hp
    have := cd_A_p r
    rw [← Nat.add_assoc]
    omega
theorem cd_B_run (hw : w ≤ 8) (hh : h ≤ 8) (H : cd_Lv w h ab m L) {s : Nat} (hs : s < m) (hp : ¬ cd_wp w h L s) : ∀ d, cd_gs (cd_lk w h L) s + d ≤ s → d ≤ cd_B w h L (cd_gs (cd_lk w h L) s + d) := by
  intro d
  induction d with
  | zero => intro _; omega
  | succ d ih =>
    intro hd
    have i := ih (by omega)
    have r : ¬ cd_wp w h L (cd_gs (cd_lk w h L) s + d) := fun q => hp ((cd_run_wp (w := w) (h := h) (L := L) (l := s) (s - (cd_gs (cd_lk w h L) s + d)) (cd_gs (cd_lk w h L) s + d) (by omega) (by omega)).mp q)
    have := cd_B_p hw hh H (by omega) r
    rw [← Nat.add_assoc]
    omega
theorem cd_F_ab (hw : w ≤ 8) (hh : h ≤ 8) (H : cd_Lv w h ab m L) : ∀ s, s ≤ m → cd_F (cd_gs (cd_lk w h L)) s ≤ cd_f (cd_A w h L s) * cd_f (cd_B w h L s) := by
  intro s
  induction s with
  | zero =>
    intro _
    have a0 : cd_A w h L 0 = 0 := cd_cn_z (fun i _ q => by have := q.2; omega)
    have b0 : cd_B w h L 0 = 0 := cd_cn_z (fun i _ q => by have := q.2; omega)
    rw [a0, b0]
    exact Nat.le_refl _
  | succ s ih =>
    intro hs
    have i := ih (by omega)
    have gle := cd_gs_le (lk := cd_lk w h L) s
    rw [cd_F]
    by_cases hp : cd_wp w h L s
    · have r := cd_A_run hp (s - cd_gs (cd_lk w h L) s) (by omega)
      rw [show cd_gs (cd_lk w h L) s + (s - cd_gs (cd_lk w h L) s) = s from by omega] at r
      have a := cd_A_p hp
      have b := cd_B_s (w := w) (h := h) (L := L) s
      have c1 := Nat.mul_le_mul i (Nat.succ_le_succ r)
      refine Nat.le_trans c1 ?_
      have c2 : cd_f (cd_A w h L s) * cd_f (cd_B w h L s) * Nat.succ (cd_A w h L s) = cd_f (cd_A w h L s + 1) * cd_f (cd_B w h L s) := by
        rw [cd_f, Nat.mul_right_comm]
      rw [c2]
      exact Nat.mul_le_mul (cd_f_mono a) (cd_f_mono b)
    · have r := cd_B_run hw hh H (by omega) hp (s - cd_gs (cd_lk w h L) s) (by omega)
      rw [show cd_gs (cd_lk w h L) s + (s - cd_gs (cd_lk w h L) s) = s from by omega] at r
      have a := cd_B_p hw hh H (by omega) hp
      have b := cd_A_s (w := w) (h := h) (L := L) s
      have c1 := Nat.mul_le_mul i (Nat.succ_le_succ r)
      refine Nat.le_trans c1 ?_
      have c2 : cd_f (cd_A w h L s) * cd_f (cd_B w h L s) * Nat.succ (cd_B w h L s) = cd_f (cd_A w h L s) * cd_f (cd_B w h L s + 1) := by
        rw [cd_f, Nat.mul_assoc]
      rw [c2]
      exact Nat.mul_le_mul (cd_f_mono b) (cd_f_mono a)
theorem cd_F_31 (hw : w ≤ 8) (hh : h ≤ 8) (H : cd_Lv w h ab m L) {s : Nat} (hs : s ≤ m) : cd_F (cd_gs (cd_lk w h L)) s < 2 ^ 31 := by
  have i := cd_F_ab hw hh H s hs
  have a := cd_f_mono (cd_cn_n (fun t => cd_T w h t ∧ L t < s) 8)
  have b := cd_f_mono (cd_cn_n (fun r => cd_T w h (8 + r) ∧ L (8 + r) < s) 8)
  have c := Nat.mul_le_mul a b
  have d : cd_f 8 * cd_f 8 < 2 ^ 31 := by decide
  exact Nat.lt_of_le_of_lt (Nat.le_trans i c) d
end
end
section
/-! bits and small numbers -/
theorem cd_bt1 : ∀ i, i < 32 → bt 1 i = decide (i = 0) := by decide +kernel
theorem cd_tst (x : Int32) {j : Nat} (hj : j < 32) : ((x >>> (nI j &&& 31)) &&& 1) = if bt x j = true then 1 else 0 := by
  apply b_ext
  intro i hi
  rw [b_and, b_sshr j hj x hi, cd_bt1 i hi]
  by_cases z : i = 0
  · subst z
    rw [if_pos (by omega), Nat.add_zero, decide_eq_true rfl, Bool.and_true]
    cases e : bt x j
    · rw [if_neg (by decide)]
      exact (b_0 0).symm
    · rw [if_pos rfl]
      decide
  · rw [decide_eq_false z, Bool.and_false]
    split
    · rw [cd_bt1 i hi, decide_eq_false z]
    · exact (b_0 i).symm
theorem cd_bfl {x : Bool} (h : ¬ x = true) : x = false := by
  cases x
  · rfl
  · exact absurd rfl h
theorem cd_ne01 : ¬ (0 : Int32) = 1 := by decide
theorem cd_ne10 : ¬ (1 : Int32) = 0 := by decide
theorem cd_tst1 (x : Int32) {j : Nat} (hj : j < 32) : ((x >>> (nI j &&& 31)) &&& 1) = 1 ↔ bt x j = true := by
  rw [cd_tst x hj]
  cases bt x j
  · exact ⟨fun q => absurd ((if_neg (by decide)).symm.trans q) cd_ne01, fun q => absurd q (by decide)⟩
  · exact ⟨fun _ => rfl, fun _ => if_pos rfl⟩
theorem cd_tst0 (x : Int32) {j : Nat} (hj : j < 32) : ((x >>> (nI j &&& 31)) &&& 1) = 0 ↔ ¬ bt x j = true := by
  rw [cd_tst x hj]
  cases bt x j
  · exact ⟨fun _ => by decide, fun _ => if_neg (by decide)⟩
  · exact ⟨fun q => absurd ((if_pos rfl).symm.trans q) cd_ne10, fun q => absurd rfl q⟩
theorem cd_tstn (x : Int32) {j : Nat} (hj : j < 32) : ((x >>> (nI j &&& 31)) &&& 1) = nI (cd_b (bt x j = true)) := by
  by_cases z : bt x j = true
  · rw [cd_bt z]; exact (cd_tst1 x hj).mpr z
  · rw [cd_bf z]; exact (cd_tst0 x hj).mpr z
theorem cd_sub (x y : Int32) : (x &&& (y ^^^ (-1))) = 0 ↔ ∀ i, i < 32 → bt x i = true → bt y i = true := by
  constructor
  · intro e i hi hx
    have a : bt (x &&& (y ^^^ (-1))) i = false := by rw [e]; exact b_0 i
    rw [b_and, b_xor, b_m1 i hi, hx] at a
    revert a
    cases bt y i <;> decide
  · intro g
    apply b_ext
    intro i hi
    rw [b_and, b_xor, b_m1 i hi, b_0]
    have := g i hi
    revert this
    cases bt x i <;> cases bt y i <;> decide
theorem cd_dis (x y : Int32) : (x &&& y) = 0 ↔ ¬ ∃ i, i < 32 ∧ bt x i = true ∧ bt y i = true := by
  constructor
  · rintro e ⟨i, hi, hx, hy⟩
    have a : bt (x &&& y) i = false := by rw [e]; exact b_0 i
    rw [b_and, hx, hy] at a
    exact absurd a (by decide)
  · intro g
    apply b_ext
    intro i hi
    rw [b_and, b_0]
    by_cases hx : bt x i = true
    · by_cases hy : bt y i = true
      · exact absurd ⟨i, hi, hx, hy⟩ g
      · rw [cd_bfl hy, Bool.and_false]
    · rw [cd_bfl hx, Bool.false_and]
theorem cd_1sh {l : Nat} (hl : l < 32) {i : Nat} (hi : i < 32) : bt ((1 : Int32) <<< (nI l &&& 31)) i = true ↔ i = l := by
  rw [b_shl l hl 1 hi, cd_bt1 (i - l) (by omega), Bool.and_eq_true, decide_eq_true_iff, decide_eq_true_iff]
  omega
theorem cd_orb (x : Int32) {l : Nat} (hl : l < 32) {i : Nat} (hi : i < 32) : bt (x ||| ((1 : Int32) <<< (nI l &&& 31))) i = true ↔ bt x i = true ∨ i = l := by
  rw [b_or, Bool.or_eq_true, cd_1sh hl hi]
theorem cd_mask : ∀ w, w < 9 → ∀ i, i < 32 → bt (((1 : Int32) <<< (nI w &&& 31)) - 1) i = decide (i < w) := by decide +kernel
theorem cd_btN {S : Nat} {i : Nat} (hi : i < 32) : bt (nI S) i = S.testBit i := by
  show (BitVec.ofNat 32 S).getLsbD i = _
  rw [BitVec.getLsbD_ofNat, decide_eq_true hi, Bool.true_and]
theorem cd_n8 : ∀ j, j < 128 → (nI j).toInt8.toInt32 = nI j := by decide +kernel
theorem cd_nar {j : Nat} (h : j < 128) : vp_nar .byte (nI j) = nI j := by rw [vp_nar_byte, cd_n8 j h]
theorem cd_nar8 {j : Nat} (h : j < 128) : vp_nar .byte ((nI j).toInt8.toInt32) = nI j := by rw [cd_n8 j h, cd_nar h]
theorem cd_vb0 : vp_nar .boolean 0 = 0 := by decide
theorem cd_vb1 : vp_nar .boolean 1 = 1 := by decide
theorem cd_8a (a : Nat) : 8 + nI a = nI (8 + a) := nI_add 8 a
/-! the relation -/
def cd_Ok (sh tr ti : Nat → Int32) : Prop := (∀ c, c < 8 → ∃ j, j < 4 ∧ sh c = nI j) ∧ (∀ r, r < 8 → ∃ j, j < 4 ∧ tr r = nI j) ∧ (∀ k, k < 4 → ∃ j, j < 16 ∧ ti k = nI j)
def cd_ab (sh tr ti : Nat → Int32) (c r : Nat) : Prop := (((ti (tr r).toNatClampNeg) >>> ((sh c) &&& 31)) &&& 1) = 1
def i_Rel (_ : Nat) (u : SX) (v : SY) : Prop := match u, v with
  | (fw, fh, _, sh, tr, ti, _, _, _, _, _), (gw, gh, _, sh2, tr2, ti2, _, _, _, _, _, nw) => ∃ w h : Nat, fw = nI w ∧ fh = nI h ∧ gw = nI w ∧ gh = nI h ∧ sh2 = sh ∧ tr2 = tr ∧ ti2 = ti ∧ nw = 65536 ∧ 1 ≤ w ∧ w ≤ 8 ∧ 1 ≤ h ∧ h ≤ 8 ∧ cd_Ok sh tr ti
theorem cd_el {k : Nat} {u : SX} {v : SY} {P : SX → SY → Prop} (I : i_Rel k u v) (hP : ∀ (w h : Nat) (st : Int32) (sh tr ti un od so sz sp : Nat → Int32) (ct : Int32) (mu pa nd ak wa : Nat → Int32), 1 ≤ w → w ≤ 8 → 1 ≤ h → h ≤ 8 → cd_Ok sh tr ti → P (nI w, nI h, st, sh, tr, ti, un, od, so, sz, sp) (nI w, nI h, ct, sh, tr, ti, mu, pa, nd, ak, wa, 65536)) : P u v := by
  obtain ⟨fw, fh, st, sh, tr, ti, un, od, so, sz, sp⟩ := u
  obtain ⟨gw, gh, ct, sh2, tr2, ti2, mu, pa, nd, ak, wa, nw⟩ := v
  obtain ⟨w, h, e1, e2, e3, e4, e5, e6, e7, e8, h1, h2, h3, h4, h5⟩ := I
  subst e1 e2 e3 e4 e5 e6 e7 e8
  exact hP w h st _ _ _ un od so sz sp ct mu pa nd ak wa h1 h2 h3 h4 h5
theorem cd_in {k w h : Nat} {st : Int32} {sh tr ti un od so sz sp : Nat → Int32} {ct : Int32} {mu pa nd ak wa : Nat → Int32} (h1 : 1 ≤ w) (h2 : w ≤ 8) (h3 : 1 ≤ h) (h4 : h ≤ 8) (h5 : cd_Ok sh tr ti) : i_Rel k (nI w, nI h, st, sh, tr, ti, un, od, so, sz, sp) (nI w, nI h, ct, sh, tr, ti, mu, pa, nd, ak, wa, 65536) :=
  ⟨w, h, rfl, rfl, rfl, rfl, rfl, rfl, rfl, rfl, h1, h2, h3, h4, h5⟩
theorem i_up {k : Nat} {u : SX} {v : SY} (h : i_Rel k u v) : i_Rel (k + 3) u v := h
/-! X: the bits of a number counted; above -/
theorem cd_x_size4 {post : Int32 → Prop} {x fw fh st : Int32} {sh tr ti un od so sz sp : Nat → Int32} (hp : post (nI (cd_cn (fun i => bt x i = true) 16))) : ∀ d j : Nat, j + d = 16 → wX_sizeOf_4 post x fw fh st sh tr ti un od so sz sp (d + 1) (nI (cd_cn (fun i => bt x i = true) j)) (nI j) := by
  intro d
  induction d with
  | zero =>
    intro j hj
    have e : j = 16 := by omega
    subst e
    exact br_t (show (16 : Int32) ≤ nI 16 from by decide) hp
  | succ d ih =>
    intro j hj
    refine br_f (nI_ge (b := 16) (by omega) (by omega)) (nm_r (e' := nI (cd_cn (fun i => bt x i = true) (j + 1))) ?_ (nm_r (e' := nI (j + 1)) (nI_1 j) (ih (j + 1) (by omega))))
    rw [cd_tstn x (by omega), nI_add]
    rfl
theorem cd_x_size {post : Int32 → Prop} (x : Int32) {fw fh st : Int32} {sh tr ti un od so sz sp : Nat → Int32} (hp : post (nI (cd_cn (fun i => bt x i = true) 16))) : wpX_sizeOf post (fw, fh, st, sh, tr, ti, un, od, so, sz, sp) x := ⟨17, cd_x_size4 hp 16 0 rfl⟩
theorem cd_x_ab {post : Int32 → Prop} {fw fh st : Int32} {sh tr ti un od so sz sp : Nat → Int32} {c r : Nat} (hc : c < 8) (hr : r < 8) (hok : cd_Ok sh tr ti) (p1 : cd_ab sh tr ti c r → post 1) (p0 : ¬ cd_ab sh tr ti c r → post 0) : wpX_isAbove post (fw, fh, st, sh, tr, ti, un, od, so, sz, sp) (nI c) (nI r) := by
  obtain ⟨j, hj, ej⟩ := hok.2.1 r hr
  unfold wpX_isAbove
  dsimp only
  rw [nI_clamp (n := r) (by omega), nI_clamp (n := c) (by omega)]
  exact ⟨vp_in_nI hr (by omega), by rw [ej]; exact vp_in_nI hj (by omega), vp_in_nI hc (by omega), p1, p0⟩
theorem cd_y_ab {post : Int32 → Prop} {gw gh ct : Int32} {sh tr ti mu pa nd ak wa : Nat → Int32} {nw : Nat} {c r : Nat} (hc : c < 8) (hr : r < 8) (hok : cd_Ok sh tr ti) (p1 : cd_ab sh tr ti c r → post 1) (p0 : ¬ cd_ab sh tr ti c r → post 0) : wpY_isAbove post (gw, gh, ct, sh, tr, ti, mu, pa, nd, ak, wa, nw) (nI c) (nI r) := by
  obtain ⟨j, hj, ej⟩ := hok.2.1 r hr
  unfold wpY_isAbove
  dsimp only
  rw [nI_clamp (n := r) (by omega), nI_clamp (n := c) (by omega)]
  exact ⟨vp_in_nI hr (by omega), by rw [ej]; exact vp_in_nI hj (by omega), vp_in_nI hc (by omega), p1, p0⟩
end
section
/-! X: for each thread the threads below it -/
def cd_UN (w h : Nat) (ab : Nat → Nat → Prop) (un : Nat → Int32) : Prop := ∀ t, t < 16 → ∀ i, i < 32 → (bt (un t) i = true ↔ cd_C w h ab t i)
def cd_px (w t i : Nat) : Nat := if t < 8 then (i - 8) * w + t else (t - 8) * w + i
def cd_UI (w h : Nat) (ab : Nat → Nat → Prop) (k : Nat) (un : Nat → Int32) : Prop := ∀ t, t < 16 → ∀ i, i < 32 → (bt (un t) i = true ↔ cd_C w h ab t i ∧ cd_px w t i < k)
theorem cd_dm {w a b r c : Nat} (hb : b < w) (hc : c < w) (e : a * w + b = r * w + c) : a = r ∧ b = c := by
  rcases Nat.lt_trichotomy a r with z | z | z
  · have := Nat.mul_le_mul_right w (show a + 1 ≤ r from z)
    rw [Nat.succ_mul] at this
    omega
  · rw [z] at e
    exact ⟨z, by omega⟩
  · have := Nat.mul_le_mul_right w (show r + 1 ≤ a from z)
    rw [Nat.succ_mul] at this
    omega
theorem cd_px_lt {w h : Nat} {ab : Nat → Nat → Prop} (hw : w ≤ 8) {t i : Nat} (hc : cd_C w h ab t i) : cd_px w t i < w * h := by
  unfold cd_px
  rcases hc with ⟨a1, a2, a3, a4⟩ | ⟨a1, a2, a3, a4⟩
  · rw [if_pos (by omega)]
    have := Nat.mul_le_mul_right w (show i - 8 + 1 ≤ h by omega)
    rw [Nat.succ_mul, Nat.mul_comm h w] at this
    omega
  · rw [if_neg (by omega)]
    have := Nat.mul_le_mul_right w (show t - 8 + 1 ≤ h by omega)
    rw [Nat.succ_mul, Nat.mul_comm h w] at this
    omega
theorem cd_UI_s {w h : Nat} {ab : Nat → Nat → Prop} {k t0 i0 : Nat} {un : Nat → Int32} (ht0 : t0 < 16) (hi0 : i0 < 32) (hc : cd_C w h ab t0 i0) (he : cd_px w t0 i0 = k) (hne : ∀ t i, cd_C w h ab t i → cd_px w t i = k → t = t0 ∧ i = i0) (hu : cd_UI w h ab k un) : cd_UI w h ab (k + 1) (upd un t0 (un t0 ||| ((1 : Int32) <<< (nI i0 &&& 31)))) := by
  intro t ht i hi
  by_cases z : t = t0
  · rw [z, pk_us, cd_orb _ hi0 hi, hu t0 ht0 i hi]
    constructor
    · rintro (⟨q1, q2⟩ | q)
      · exact ⟨q1, by omega⟩
      · rw [q]; exact ⟨hc, by omega⟩
    · rintro ⟨q1, q2⟩
      by_cases z2 : cd_px w t0 i = k
      · exact Or.inr (hne t0 i q1 z2).2
      · exact Or.inl ⟨q1, by omega⟩
  · rw [pk_un z, hu t ht i hi]
    refine ⟨fun q => ⟨q.1, by have := q.2; omega⟩, fun q => ⟨q.1, ?_⟩⟩
    have ne : cd_px w t i ≠ k := fun e => z (hne t i q.1 e).1
    have := q.2
    omega
theorem cd_px_a {w h : Nat} {ab : Nat → Nat → Prop} (hw : w ≤ 8) {c r t i k : Nat} (hc : c < w) (hk : r * w + c = k) (hab : ab c r) (ht : cd_C w h ab t i) (e : cd_px w t i = k) : t = c ∧ i = 8 + r := by
  unfold cd_px at e
  rcases ht with ⟨a1, a2, a3, a4⟩ | ⟨a1, a2, a3, a4⟩
  · rw [if_pos (by omega)] at e
    have := cd_dm a1 hc (e.trans hk.symm)
    omega
  · rw [if_neg (by omega)] at e
    have q := cd_dm a1 hc (e.trans hk.symm)
    rw [q.1, q.2] at a4
    exact absurd hab a4
theorem cd_px_b {w h : Nat} {ab : Nat → Nat → Prop} (hw : w ≤ 8) {c r t i k : Nat} (hc : c < w) (hk : r * w + c = k) (hab : ¬ ab c r) (ht : cd_C w h ab t i) (e : cd_px w t i = k) : t = 8 + r ∧ i = c := by
  unfold cd_px at e
  rcases ht with ⟨a1, a2, a3, a4⟩ | ⟨a1, a2, a3, a4⟩
  · rw [if_pos (by omega)] at e
    have q := cd_dm a1 hc (e.trans hk.symm)
    rw [q.1, q.2] at a4
    exact absurd a4 hab
  · rw [if_neg (by omega)] at e
    have := cd_dm a1 hc (e.trans hk.symm)
    omega
section
variable {post : SX → Prop} {w h : Nat} {st : Int32} {sh tr ti od so sz sp : Nat → Int32}
theorem cd_x_fu23 (h1 : 1 ≤ w) (h2 : w ≤ 8) (h4 : h ≤ 8) (hok : cd_Ok sh tr ti) (hp : ∀ un, cd_UN w h (cd_ab sh tr ti) un → post (nI w, nI h, st, sh, tr, ti, un, od, so, sz, sp)) : ∀ (d k : Nat) (un : Nat → Int32), k + d = w * h → cd_UI w h (cd_ab sh tr ti) k un → wX_findUnder_23 post (nI w) (nI h) st (d + 1) (nI k) sh tr ti un od so sz sp := by
  have whb : w * h ≤ 64 := Nat.mul_le_mul h2 h4
  intro d
  induction d with
  | zero =>
    intro k un hk hu
    refine br_t ?_ (hp un ?_)
    · rw [pk_mul]; exact nI_le (by omega) (by omega)
    · intro t ht i hi
      rw [hu t ht i hi]
      refine ⟨fun q => q.1, fun q => ⟨q, ?_⟩⟩
      have := cd_px_lt h2 q
      omega
  | succ d ih =>
    intro k un hk hu
    have hkw : k < w * h := by omega
    obtain ⟨c, r, hc, hr, he, ec, er⟩ : ∃ c r : Nat, c < w ∧ r < h ∧ r * w + c = k ∧ k % w = c ∧ k / w = r := ⟨k % w, k / w, Nat.mod_lt _ (by omega), Nat.div_lt_of_lt_mul hkw, Nat.div_add_mod' k w, rfl, rfl⟩
    have e8 : 8 + r - 8 = r := by omega
    refine br_f (by rw [pk_mul]; exact nI_ge (by omega) (by omega)) ⟨nI_ne0 (by omega) (by omega), nm_r (e' := nI c) ((pk_rem (by omega) (by omega) (by omega)).trans (congrArg nI ec)) ⟨nI_ne0 (by omega) (by omega), nm_r (e' := nI r) ((pk_div (by omega) (by omega) (by omega)).trans (congrArg nI er)) (cd_x_ab (by omega) (by omega) hok (fun hab => br_f cd_ne10 ?_) (fun hab => br_t rfl ?_))⟩⟩
    · rw [cd_8a, nI_clamp (n := c) (by omega)]
      refine ⟨vp_in_nI (by omega) (by omega), vp_in_nI (by omega) (by omega), nm_e (nm_r (e' := nI (k + 1)) (nI_1 k) (ih (k + 1) _ (by omega) ?_))⟩
      refine cd_UI_s (by omega) (by omega) (Or.inl ⟨hc, by omega, by omega, ?_⟩) ?_ (fun t i a b => cd_px_a h2 hc he hab a b) hu
      · rw [e8]; exact hab
      · unfold cd_px
        rw [if_pos (by omega), e8]
        exact he
    · rw [cd_8a, nI_clamp (n := 8 + r) (by omega)]
      refine ⟨vp_in_nI (by omega) (by omega), vp_in_nI (by omega) (by omega), nm_e (nm_r (e' := nI (k + 1)) (nI_1 k) (ih (k + 1) _ (by omega) ?_))⟩
      refine cd_UI_s (by omega) (by omega) (Or.inr ⟨hc, by omega, by omega, ?_⟩) ?_ (fun t i a b => cd_px_b h2 hc he hab a b) hu
      · rw [e8]; exact hab
      · unfold cd_px
        rw [if_neg (by omega), e8]
        exact he
theorem cd_x_fu2 {fw fh : Int32} (K : ∀ un, (∀ t, t < 16 → un t = 0) → ∃ n : Nat, wX_findUnder_23 post fw fh st n 0 sh tr ti un od so sz sp) : ∀ (d j : Nat) (un : Nat → Int32), j + d = 16 → (∀ t, t < j → un t = 0) → wX_findUnder_2 post fw fh st (d + 1) (nI j) sh tr ti un od so sz sp := by
  intro d
  induction d with
  | zero =>
    intro j un hj hu
    have e : j = 16 := by omega
    subst e
    exact br_t (show (16 : Int32) ≤ nI 16 from by decide) (K un hu)
  | succ d ih =>
    intro j un hj hu
    refine br_f (nI_ge (b := 16) (by omega) (by omega)) ⟨vp_in_nI (by omega) (by omega), nm_e (nm_r (e' := nI (j + 1)) (nI_1 j) (ih (j + 1) _ (by omega) ?_))⟩
    intro t ht
    rw [nI_clamp (n := j) (by omega)]
    by_cases z : t = j
    · rw [z, pk_us]
    · rw [pk_un z]; exact hu t (by omega)
theorem cd_x_fu {un : Nat → Int32} (h1 : 1 ≤ w) (h2 : w ≤ 8) (h4 : h ≤ 8) (hok : cd_Ok sh tr ti) (hp : ∀ un, cd_UN w h (cd_ab sh tr ti) un → post (nI w, nI h, st, sh, tr, ti, un, od, so, sz, sp)) : wpX_findUnder post (nI w, nI h, st, sh, tr, ti, un, od, so, sz, sp) := by
  refine ⟨17, cd_x_fu2 (fun un' hz => ⟨w * h + 1, cd_x_fu23 h1 h2 h4 hok hp (w * h) 0 un' (by omega) ?_⟩) 16 0 un rfl (fun t ht => by omega)⟩
  intro t ht i hi
  rw [hz t ht, b_0]
  exact ⟨fun q => absurd q (by decide), fun q => absurd q.2 (by omega)⟩
end
section
variable {w h : Nat} {ab : Nat → Nat → Prop} {un : Nat → Int32}
theorem cd_sc_un (hw : w ≤ 8) (hh : h ≤ 8) (hu : cd_UN w h ab un) {c : Nat} (hc : c < w) : cd_cn (fun i => bt (un c) i = true) 16 = cd_sc h ab c := by
  have e0 : cd_cn (fun i => bt (un c) i = true) 16 = cd_cn (fun i => cd_C w h ab c i) (8 + (h + (8 - h))) := by
    rw [show 8 + (h + (8 - h)) = 16 from by omega]
    exact cd_cn_c 16 (fun i hi => hu c (by omega) i (by omega))
  have e1 : cd_cn (fun i => cd_C w h ab c i) 8 = 0 := cd_cn_z (by rintro i hi (⟨_, q, _⟩ | ⟨_, q, _⟩) <;> omega)
  have e2 : cd_cn (fun i => cd_C w h ab c (8 + i)) h = cd_sc h ab c := by
    refine cd_cn_c h (fun i hi => ⟨?_, fun q => Or.inl ⟨hc, by omega, by omega, ?_⟩⟩)
    · rintro (⟨_, _, _, q⟩ | ⟨_, q, _⟩)
      · rw [show 8 + i - 8 = i from by omega] at q; exact q
      · omega
    · rw [show 8 + i - 8 = i from by omega]; exact q
  have e3 : cd_cn (fun i => cd_C w h ab c (8 + (h + i))) (8 - h) = 0 := cd_cn_z (by rintro i hi (⟨_, _, q, _⟩ | ⟨_, q, _⟩) <;> omega)
  rw [e0, cd_cn_split, cd_cn_split (fun i => cd_C w h ab c (8 + i)), e1, e2, e3]
  omega
theorem cd_sw_un (hw : w ≤ 8) (hh : h ≤ 8) (hu : cd_UN w h ab un) {r : Nat} (hr : r < h) : cd_cn (fun i => bt (un (8 + r)) i = true) 16 = cd_sw w ab r := by
  have e0 : cd_cn (fun i => bt (un (8 + r)) i = true) 16 = cd_cn (fun i => cd_C w h ab (8 + r) i) (w + (16 - w)) := by
    rw [show w + (16 - w) = 16 from by omega]
    exact cd_cn_c 16 (fun i hi => hu (8 + r) (by omega) i (by omega))
  have e2 : cd_cn (fun i => cd_C w h ab (8 + r) i) w = cd_sw w ab r := by
    refine cd_cn_c w (fun i hi => ⟨?_, fun q => Or.inr ⟨hi, by omega, by omega, ?_⟩⟩)
    · rintro (⟨q, _⟩ | ⟨_, _, _, q⟩)
      · omega
      · rw [show 8 + r - 8 = r from by omega] at q; exact q
    · rw [show 8 + r - 8 = r from by omega]; exact q
  have e3 : cd_cn (fun i => cd_C w h ab (8 + r) (w + i)) (16 - w) = 0 := cd_cn_z (by rintro i hi (⟨q, _⟩ | ⟨q, _⟩) <;> omega)
  rw [e0, cd_cn_split, e2, e3]
  omega
end
end
section
/-! the constructors, the checks, the loom -/
theorem cd_clp (k : Int32) : ∃ w : Nat, 1 ≤ w ∧ w ≤ 8 ∧ ∀ f : Int32 → Prop, f (nI w) → ((1 ≤ k → ((k ≤ 8 → f k) ∧ (¬ k ≤ 8 → f 8))) ∧ (¬ 1 ≤ k → f 1)) := by
  by_cases a : 1 ≤ k
  · by_cases b : k ≤ 8
    · have h0 : ¬ k < 0 := by
        intro q
        have q1 := Int32.lt_iff_toInt_lt.mp q
        have q2 := Int32.le_iff_toInt_le.mp a
        have e1 : (1 : Int32).toInt = 1 := by decide
        have e0 : (0 : Int32).toInt = 0 := by decide
        omega
      obtain ⟨j, hj, e⟩ := nI_of2 (M := 8) (n := 8) (by decide) h0 b
      have h1 : 1 ≤ j := by
        rcases Nat.eq_zero_or_pos j with z | z
        · rw [e, z] at a
          exact absurd a (by decide)
        · exact z
      exact ⟨j, h1, hj, fun f hf => br_t a (br_t b (by rw [e]; exact hf))⟩
    · exact ⟨8, by omega, by omega, fun f hf => br_t a (br_f b hf)⟩
  · exact ⟨1, by omega, by omega, fun f hf => br_f a hf⟩
theorem cd_ok0 : cd_Ok (fun _ => 0) (fun _ => 0) (fun _ => 0) := ⟨fun _ _ => ⟨0, by omega, rfl⟩, fun _ _ => ⟨0, by omega, rfl⟩, fun _ _ => ⟨0, by omega, rfl⟩⟩
theorem i_vc0 (k0 : Int32) (k1 : Int32) : wpX_init (fun u => wpY_init (fun v => i_Rel 2 u v) k0 k1) k0 k1 := by
  obtain ⟨w, a1, a2, fw⟩ := cd_clp k0
  obtain ⟨h, b1, b2, fh⟩ := cd_clp k1
  have zx : (65536 : Int32).toNatClampNeg = 65536 := by decide
  unfold wpX_init
  refine fw (fun z => wX_init_89 (fun u => wpY_init (fun v => i_Rel 2 u v) k0 k1) k1 z 0 0 0 (fun _ => 0) (fun _ => 0) (fun _ => 0) (fun _ => 0) (fun _ => 0) (fun _ => 0) (fun _ => 0) (fun _ => 0)) ?_
  unfold wX_init_89
  refine fh (fun z => wpY_init (fun v => i_Rel 2 (nI w, z, 0, (fun _ => 0), (fun _ => 0), (fun _ => 0), (fun _ => 0), (fun _ => 0), (fun _ => 0), (fun _ => 0), (fun _ => 0)) v) k0 k1) ?_
  unfold wpY_init
  refine ⟨by decide, nm_r (e' := 65536) zx ⟨Nat.le_refl _, ?_⟩⟩
  refine fw (fun z => wY_init_89 (fun v => i_Rel 2 (nI w, nI h, 0, (fun _ => 0), (fun _ => 0), (fun _ => 0), (fun _ => 0), (fun _ => 0), (fun _ => 0), (fun _ => 0), (fun _ => 0)) v) k1 z 0 0 0 (fun _ => 0) (fun _ => 0) (fun _ => 0) (fun _ => 0) (fun _ => 0) (fun _ => 0) (fun _ => 0) (fun _ => 0) 65536) ?_
  unfold wY_init_89
  exact fh (fun z => i_Rel 2 (nI w, nI h, 0, (fun _ => 0), (fun _ => 0), (fun _ => 0), (fun _ => 0), (fun _ => 0), (fun _ => 0), (fun _ => 0), (fun _ => 0)) (nI w, z, 0, (fun _ => 0), (fun _ => 0), (fun _ => 0), (fun _ => 0), (fun _ => 0), (fun _ => 0), (fun _ => 0), (fun _ => 0), 65536)) (cd_in a1 a2 b1 b2 cd_ok0)
section
variable {w h : Nat} {st : Int32} {sh tr ti un od so sz sp : Nat → Int32} {ct : Int32} {mu pa nd ak wa : Nat → Int32} {nw : Nat}
theorem cd_bw (hw : w ≤ 8) (p : Int32) : (∃ c, c < w ∧ p = nI c ∧ (∀ post : Int32 → Prop, post 0 → wpX_badWarp post (nI w, nI h, st, sh, tr, ti, un, od, so, sz, sp) p) ∧ (∀ post : Int32 → Prop, post 1 → wpY_isWarp post (nI w, nI h, ct, sh, tr, ti, mu, pa, nd, ak, wa, nw) p)) ∨ ((∀ post : Int32 → Prop, post 1 → wpX_badWarp post (nI w, nI h, st, sh, tr, ti, un, od, so, sz, sp) p) ∧ (∀ post : Int32 → Prop, post 0 → wpY_isWarp post (nI w, nI h, ct, sh, tr, ti, mu, pa, nd, ak, wa, nw) p)) := by
  rcases pk_ix p (n := w) (by omega) with a | a | ⟨c, hc, e⟩
  · exact Or.inr ⟨fun _ q => br_t a q, fun _ q => br_t a q⟩
  · have h0 : ¬ p < 0 := by
      intro q
      have q1 := Int32.lt_iff_toInt_lt.mp q
      have q2 := Int32.le_iff_toInt_le.mp a
      rw [nI_toInt (by omega)] at q2
      have e0 : (0 : Int32).toInt = 0 := by decide
      omega
    exact Or.inr ⟨fun _ q => br_f h0 (br_f (Int32.not_lt.mpr a) q), fun _ q => br_f h0 (br_t a q)⟩
  · subst e
    exact Or.inl ⟨c, hc, rfl, fun _ q => br_f (nI_pos (by omega)) (br_t (nI_lt hc (by omega)) q), fun _ q => br_f (nI_pos (by omega)) (br_f (nI_ge hc (by omega)) q)⟩
theorem cd_bh (hh : h ≤ 8) (p : Int32) : (∃ c, c < h ∧ p = nI c ∧ (∀ post : Int32 → Prop, post 0 → wpX_badWeft post (nI w, nI h, st, sh, tr, ti, un, od, so, sz, sp) p) ∧ (∀ post : Int32 → Prop, post 1 → wpY_isWeft post (nI w, nI h, ct, sh, tr, ti, mu, pa, nd, ak, wa, nw) p)) ∨ ((∀ post : Int32 → Prop, post 1 → wpX_badWeft post (nI w, nI h, st, sh, tr, ti, un, od, so, sz, sp) p) ∧ (∀ post : Int32 → Prop, post 0 → wpY_isWeft post (nI w, nI h, ct, sh, tr, ti, mu, pa, nd, ak, wa, nw) p)) := by
  rcases pk_ix p (n := h) (by omega) with a | a | ⟨c, hc, e⟩
  · exact Or.inr ⟨fun _ q => br_t a q, fun _ q => br_t a q⟩
  · have h0 : ¬ p < 0 := by
      intro q
      have q1 := Int32.lt_iff_toInt_lt.mp q
      have q2 := Int32.le_iff_toInt_le.mp a
      rw [nI_toInt (by omega)] at q2
      have e0 : (0 : Int32).toInt = 0 := by decide
      omega
    exact Or.inr ⟨fun _ q => br_f h0 (br_f (Int32.not_lt.mpr a) q), fun _ q => br_f h0 (br_t a q)⟩
  · subst e
    exact Or.inl ⟨c, hc, rfl, fun _ q => br_f (nI_pos (by omega)) (br_t (nI_lt hc (by omega)) q), fun _ q => br_f (nI_pos (by omega)) (br_f (nI_ge hc (by omega)) q)⟩
theorem cd_b4 (p : Int32) : (∃ c, c < 4 ∧ p = nI c ∧ (∀ post : Int32 → Prop, post 0 → wpX_badFour post (nI w, nI h, st, sh, tr, ti, un, od, so, sz, sp) p) ∧ (∀ post : Int32 → Prop, post 1 → wpY_small post (nI w, nI h, ct, sh, tr, ti, mu, pa, nd, ak, wa, nw) p)) ∨ ((∀ post : Int32 → Prop, post 1 → wpX_badFour post (nI w, nI h, st, sh, tr, ti, un, od, so, sz, sp) p) ∧ (∀ post : Int32 → Prop, post 0 → wpY_small post (nI w, nI h, ct, sh, tr, ti, mu, pa, nd, ak, wa, nw) p)) := by
  rcases pk_ix p (n := 4) (by omega) with a | a | ⟨c, hc, e⟩
  · exact Or.inr ⟨fun _ q => br_t a q, fun _ q => br_t a q⟩
  · have a4 : (4 : Int32) ≤ p := a
    have e4 : (4 : Int32).toInt = 4 := by decide
    have e3 : (3 : Int32).toInt = 3 := by decide
    have e0 : (0 : Int32).toInt = 0 := by decide
    have q2 := Int32.le_iff_toInt_le.mp a4
    have h0 : ¬ p < 0 := by
      intro q
      have q1 := Int32.lt_iff_toInt_lt.mp q
      omega
    have h3 : (3 : Int32) < p := Int32.lt_iff_toInt_lt.mpr (by omega)
    exact Or.inr ⟨fun _ q => br_f h0 (br_f (Int32.not_lt.mpr a4) q), fun _ q => br_f h0 (br_t h3 q)⟩
  · subst e
    exact Or.inl ⟨c, hc, rfl, fun _ q => br_f (nI_pos (by omega)) (br_t (nI_lt (b := 4) hc (by omega)) q), fun _ q => br_f (nI_pos (by omega)) (br_f (nI_nlt (b := c) (a := 3) (by omega) (by omega)) q)⟩
end
theorem cd_ok_sh {sh tr ti : Nat → Int32} (hok : cd_Ok sh tr ti) (i : Nat) {s : Nat} (hs : s < 4) : cd_Ok (upd sh i (nI s)) tr ti := by
  refine ⟨fun c hc => ?_, hok.2.1, hok.2.2⟩
  by_cases z : c = i
  · rw [z, pk_us]; exact ⟨s, hs, rfl⟩
  · rw [pk_un z]; exact hok.1 c hc
theorem cd_ok_tr {sh tr ti : Nat → Int32} (hok : cd_Ok sh tr ti) (i : Nat) {s : Nat} (hs : s < 4) : cd_Ok sh (upd tr i (nI s)) ti := by
  refine ⟨hok.1, fun c hc => ?_, hok.2.2⟩
  by_cases z : c = i
  · rw [z, pk_us]; exact ⟨s, hs, rfl⟩
  · rw [pk_un z]; exact hok.2.1 c hc
theorem cd_ok_ti {sh tr ti : Nat → Int32} (hok : cd_Ok sh tr ti) (i : Nat) {s : Nat} (hs : s < 16) : cd_Ok sh tr (upd ti i (nI s)) := by
  refine ⟨hok.1, hok.2.1, fun c hc => ?_⟩
  by_cases z : c = i
  · rw [z, pk_us]; exact ⟨s, hs, rfl⟩
  · rw [pk_un z]; exact hok.2.2 c hc
theorem i_vc_thread {k : Nat} {u : SX} {v : SY} (I : i_Rel k u v) (hk : k + 3 ≤ 1538) (v1 : Int32) (v2 : Int32) : wpX_thread (fun r u' => wpY_thread (fun r' v' => r' = r ∧ i_Rel (k + 3) u' v') v v1 v2) u v1 v2 := by
  refine cd_el (P := fun u v => wpX_thread (fun r u' => wpY_thread (fun r' v' => r' = r ∧ i_Rel (k + 3) u' v') v v1 v2) u v1 v2) I ?_
  intro w h st sh tr ti un od so sz sp ct mu pa nd ak wa h1 h2 h3 h4 hok
  unfold wpX_thread wpY_thread
  dsimp only
  rcases cd_bw (h := h) (st := st) (sh := sh) (tr := tr) (ti := ti) (un := un) (od := od) (so := so) (sz := sz) (sp := sp) (ct := ct) (mu := mu) (pa := pa) (nd := nd) (ak := ak) (wa := wa) (nw := 65536) h2 v1 with ⟨c, hc, e1, X1, Y1⟩ | ⟨X1, Y1⟩
  · subst e1
    rcases cd_b4 (w := w) (h := h) (st := st) (sh := sh) (tr := tr) (ti := ti) (un := un) (od := od) (so := so) (sz := sz) (sp := sp) (ct := ct) (mu := mu) (pa := pa) (nd := nd) (ak := ak) (wa := wa) (nw := 65536) v2 with ⟨s, hs, e2, X2, Y2⟩ | ⟨X2, Y2⟩
    · subst e2
      refine X1 _ (br_t rfl ?_)
      refine X2 _ (br_t rfl ⟨vp_in_nI (by omega) (by omega), nm_e ⟨vp_in_nI (by omega) (by omega), nm_e ?_⟩⟩)
      refine Y1 _ (br_f cd_ne10 ?_)
      refine Y2 _ (br_f cd_ne10 ⟨vp_in_nI (by omega) (by omega), nm_e ⟨vp_in_nI (by omega) (by omega), nm_e ⟨rfl, ?_⟩⟩⟩)
      rw [cd_nar8 (by omega)]
      exact cd_in h1 h2 h3 h4 (cd_ok_sh hok _ hs)
    · refine X1 _ (br_t rfl ?_)
      refine X2 _ (br_f cd_ne10 ?_)
      refine Y1 _ (br_f cd_ne10 ?_)
      exact Y2 _ (br_t rfl ⟨rfl, cd_in h1 h2 h3 h4 hok⟩)
  · refine X1 _ (br_f cd_ne10 ?_)
    exact Y1 _ (br_t rfl ⟨rfl, cd_in h1 h2 h3 h4 hok⟩)
theorem i_vc_treadle {k : Nat} {u : SX} {v : SY} (I : i_Rel k u v) (hk : k + 3 ≤ 1538) (v1 : Int32) (v2 : Int32) : wpX_treadle (fun r u' => wpY_treadle (fun r' v' => r' = r ∧ i_Rel (k + 3) u' v') v v1 v2) u v1 v2 := by
  refine cd_el (P := fun u v => wpX_treadle (fun r u' => wpY_treadle (fun r' v' => r' = r ∧ i_Rel (k + 3) u' v') v v1 v2) u v1 v2) I ?_
  intro w h st sh tr ti un od so sz sp ct mu pa nd ak wa h1 h2 h3 h4 hok
  unfold wpX_treadle wpY_treadle
  dsimp only
  rcases cd_bh (w := w) (st := st) (sh := sh) (tr := tr) (ti := ti) (un := un) (od := od) (so := so) (sz := sz) (sp := sp) (ct := ct) (mu := mu) (pa := pa) (nd := nd) (ak := ak) (wa := wa) (nw := 65536) h4 v1 with ⟨c, hc, e1, X1, Y1⟩ | ⟨X1, Y1⟩
  · subst e1
    rcases cd_b4 (w := w) (h := h) (st := st) (sh := sh) (tr := tr) (ti := ti) (un := un) (od := od) (so := so) (sz := sz) (sp := sp) (ct := ct) (mu := mu) (pa := pa) (nd := nd) (ak := ak) (wa := wa) (nw := 65536) v2 with ⟨s, hs, e2, X2, Y2⟩ | ⟨X2, Y2⟩
    · subst e2
      refine X1 _ (br_t rfl ?_)
      refine X2 _ (br_t rfl ⟨vp_in_nI (by omega) (by omega), nm_e ⟨vp_in_nI (by omega) (by omega), nm_e ?_⟩⟩)
      refine Y1 _ (br_f cd_ne10 ?_)
      refine Y2 _ (br_f cd_ne10 ⟨vp_in_nI (by omega) (by omega), nm_e ⟨vp_in_nI (by omega) (by omega), nm_e ⟨rfl, ?_⟩⟩⟩)
      rw [cd_nar8 (by omega)]
      exact cd_in h1 h2 h3 h4 (cd_ok_tr hok _ hs)
    · refine X1 _ (br_t rfl ?_)
      refine X2 _ (br_f cd_ne10 ?_)
      refine Y1 _ (br_f cd_ne10 ?_)
      exact Y2 _ (br_t rfl ⟨rfl, cd_in h1 h2 h3 h4 hok⟩)
  · refine X1 _ (br_f cd_ne10 ?_)
    exact Y1 _ (br_t rfl ⟨rfl, cd_in h1 h2 h3 h4 hok⟩)
theorem i_vc_tie {k : Nat} {u : SX} {v : SY} (I : i_Rel k u v) (hk : k + 3 ≤ 1538) (v1 : Int32) (v2 : Int32) : wpX_tie (fun r u' => wpY_tie (fun r' v' => r' = r ∧ i_Rel (k + 3) u' v') v v1 v2) u v1 v2 := by
  refine cd_el (P := fun u v => wpX_tie (fun r u' => wpY_tie (fun r' v' => r' = r ∧ i_Rel (k + 3) u' v') v v1 v2) u v1 v2) I ?_
  intro w h st sh tr ti un od so sz sp ct mu pa nd ak wa h1 h2 h3 h4 hok
  unfold wpX_tie wpY_tie
  dsimp only
  rcases cd_b4 (w := w) (h := h) (st := st) (sh := sh) (tr := tr) (ti := ti) (un := un) (od := od) (so := so) (sz := sz) (sp := sp) (ct := ct) (mu := mu) (pa := pa) (nd := nd) (ak := ak) (wa := wa) (nw := 65536) v1 with ⟨c, hc, e1, X1, Y1⟩ | ⟨X1, Y1⟩
  · subst e1
    by_cases a : v2 < 0
    · refine X1 _ (br_t rfl (br_t a ?_))
      exact Y1 _ (br_f cd_ne10 (br_t a ⟨rfl, cd_in h1 h2 h3 h4 hok⟩))
    · by_cases b : v2 ≤ 15
      · obtain ⟨s, hs, e2⟩ := nI_of2 (M := 15) (n := 15) (by decide) a b
        refine X1 _ (br_t rfl (br_f a (br_t b ⟨vp_in_nI (by omega) (by omega), nm_e ⟨vp_in_nI (by omega) (by omega), nm_e ?_⟩⟩)))
        refine Y1 _ (br_f cd_ne10 (br_f a (br_t b ⟨vp_in_nI (by omega) (by omega), nm_e ⟨vp_in_nI (by omega) (by omega), nm_e ⟨rfl, ?_⟩⟩⟩)))
        rw [e2, cd_nar8 (by omega)]
        exact cd_in h1 h2 h3 h4 (cd_ok_ti hok _ (by omega))
      · refine X1 _ (br_t rfl (br_f a (br_f b ?_)))
        exact Y1 _ (br_f cd_ne10 (br_f a (br_f b ⟨rfl, cd_in h1 h2 h3 h4 hok⟩)))
  · refine X1 _ (br_f cd_ne10 ?_)
    exact Y1 _ (br_t rfl ⟨rfl, cd_in h1 h2 h3 h4 hok⟩)
/-! a row filled up to j -/
def cd_fl (g sh : Nat → Int32) (j : Nat) : Nat → Int32 := fun c => if c < j then g c else sh c
theorem cd_fl_0 (g sh : Nat → Int32) : cd_fl g sh 0 = sh := funext (fun c => if_neg (by omega))
theorem cd_fl_s {g sh : Nat → Int32} {j : Nat} : upd (cd_fl g sh j) j (g j) = cd_fl g sh (j + 1) := by
  funext c
  unfold cd_fl upd
  by_cases z : c = j
  · rw [if_pos z, if_pos (by omega), z]
  · rw [if_neg z]
    show (if c < j then g c else sh c) = if c < j + 1 then g c else sh c
    by_cases q : c < j
    · rw [if_pos q, if_pos (by omega)]
    · rw [if_neg q, if_neg (by omega)]
theorem cd_fl_at {g sh : Nat → Int32} {j : Nat} : cd_fl g sh j j = sh j := if_neg (by omega)
section
variable {w h : Nat} {st : Int32} {sh tr ti un od so sz sp : Nat → Int32} {ct : Int32} {mu pa nd ak wa : Nat → Int32} {nw : Nat} {fw fh : Int32}
theorem cd_ta_x {a b j : Nat} (ha : a < 4) (hb : b < 4) (hj : j < 8) : vp_nar .byte (((nI a + (nI b * nI j)) &&& 3).toInt8.toInt32) = nI ((a + b * j) % 4) := by
  have l : b * j ≤ 4 * 8 := Nat.mul_le_mul (by omega) (by omega)
  rw [pk_mul, nI_add, pk_andN (by omega) 2 (by decide), cd_nar8 (by have := Nat.mod_lt (a + b * j) (show 0 < 2 ^ 2 by decide); omega)]
theorem cd_ta_y {a b j : Nat} (ha : a < 4) (hb : b < 4) (hj : j < 8) : (nI a + (nI b * nI j)) - (nI a + (nI b * nI j)) / 4 * 4 = nI ((a + b * j) % 4) := by
  have l : b * j ≤ 4 * 8 := Nat.mul_le_mul (by omega) (by omega)
  rw [pk_mul, nI_add]
  exact pk_rem (d := 4) (by omega) (by omega) (by omega)
theorem cd_ok_fs (hok : cd_Ok sh tr ti) {a b n : Nat} : cd_Ok (cd_fl (fun c => nI ((a + b * c) % 4)) sh n) tr ti := by
  refine ⟨fun c hc => ?_, hok.2.1, hok.2.2⟩
  unfold cd_fl
  by_cases z : c < n
  · rw [if_pos z]; exact ⟨(a + b * c) % 4, Nat.mod_lt _ (by omega), rfl⟩
  · rw [if_neg z]; exact hok.1 c hc
theorem cd_ok_ft (hok : cd_Ok sh tr ti) {a b n : Nat} : cd_Ok sh (cd_fl (fun c => nI ((a + b * c) % 4)) tr n) ti := by
  refine ⟨hok.1, fun c hc => ?_, hok.2.2⟩
  unfold cd_fl
  by_cases z : c < n
  · rw [if_pos z]; exact ⟨(a + b * c) % 4, Nat.mod_lt _ (by omega), rfl⟩
  · rw [if_neg z]; exact hok.2.1 c hc
theorem cd_x_tha {post : Int32 → SX → Prop} {a b : Nat} (ha : a < 4) (hb : b < 4) (hw : w ≤ 8) (hp : post 0 (nI w, fh, st, cd_fl (fun c => nI ((a + b * c) % 4)) sh w, tr, ti, un, od, so, sz, sp)) : ∀ d j : Nat, j + d = w → wX_threadAll_20 post (nI a) (nI b) (nI w) fh st (d + 1) (nI j) (cd_fl (fun c => nI ((a + b * c) % 4)) sh j) tr ti un od so sz sp := by
  intro d
  induction d with
  | zero =>
    intro j hj
    have e : j = w := by omega
    subst e
    exact br_t (nI_le (by omega) (by omega)) hp
  | succ d ih =>
    intro j hj
    refine br_f (nI_ge (by omega) (by omega)) ⟨vp_in_nI (by omega) (by omega), nm_r (e' := cd_fl (fun c => nI ((a + b * c) % 4)) sh (j + 1)) ?_ (nm_r (e' := nI (j + 1)) (nI_1 j) (ih (j + 1) (by omega)))⟩
    rw [nI_clamp (n := j) (by omega), cd_ta_x ha hb (by omega)]
    exact cd_fl_s (g := fun c => nI ((a + b * c) % 4))
theorem cd_y_tha {post : Int32 → SY → Prop} {a b : Nat} (ha : a < 4) (hb : b < 4) (hw : w ≤ 8) (hp : post 0 (nI w, fh, ct, cd_fl (fun c => nI ((a + b * c) % 4)) sh w, tr, ti, mu, pa, nd, ak, wa, nw)) : ∀ d j : Nat, j + d = w → wY_threadAll_20 post (nI a) (nI b) (nI w) fh ct nw (d + 1) (nI j) (cd_fl (fun c => nI ((a + b * c) % 4)) sh j) tr ti mu pa nd ak wa := by
  intro d
  induction d with
  | zero =>
    intro j hj
    have e : j = w := by omega
    subst e
    exact br_t (nI_le (by omega) (by omega)) hp
  | succ d ih =>
    intro j hj
    refine br_f (nI_ge (by omega) (by omega)) ⟨by decide, vp_in_nI (by omega) (by omega), nm_r (e' := cd_fl (fun c => nI ((a + b * c) % 4)) sh (j + 1)) ?_ (nm_r (e' := nI (j + 1)) (nI_1 j) (ih (j + 1) (by omega)))⟩
    rw [nI_clamp (n := j) (by omega), cd_ta_y ha hb (by omega)]
    exact cd_fl_s (g := fun c => nI ((a + b * c) % 4))
theorem cd_x_tra {post : Int32 → SX → Prop} {a b : Nat} (ha : a < 4) (hb : b < 4) (hh : h ≤ 8) (hp : post 0 (fw, nI h, st, sh, cd_fl (fun c => nI ((a + b * c) % 4)) tr h, ti, un, od, so, sz, sp)) : ∀ d j : Nat, j + d = h → wX_treadleAll_20 post (nI a) (nI b) fw (nI h) st (d + 1) (nI j) sh (cd_fl (fun c => nI ((a + b * c) % 4)) tr j) ti un od so sz sp := by
  intro d
  induction d with
  | zero =>
    intro j hj
    have e : j = h := by omega
    subst e
    exact br_t (nI_le (by omega) (by omega)) hp
  | succ d ih =>
    intro j hj
    refine br_f (nI_ge (by omega) (by omega)) ⟨vp_in_nI (by omega) (by omega), nm_r (e' := cd_fl (fun c => nI ((a + b * c) % 4)) tr (j + 1)) ?_ (nm_r (e' := nI (j + 1)) (nI_1 j) (ih (j + 1) (by omega)))⟩
    rw [nI_clamp (n := j) (by omega), cd_ta_x ha hb (by omega)]
    exact cd_fl_s (g := fun c => nI ((a + b * c) % 4))
theorem cd_y_tra {post : Int32 → SY → Prop} {a b : Nat} (ha : a < 4) (hb : b < 4) (hh : h ≤ 8) (hp : post 0 (fw, nI h, ct, sh, cd_fl (fun c => nI ((a + b * c) % 4)) tr h, ti, mu, pa, nd, ak, wa, nw)) : ∀ d j : Nat, j + d = h → wY_treadleAll_20 post (nI a) (nI b) fw (nI h) ct nw (d + 1) (nI j) sh (cd_fl (fun c => nI ((a + b * c) % 4)) tr j) ti mu pa nd ak wa := by
  intro d
  induction d with
  | zero =>
    intro j hj
    have e : j = h := by omega
    subst e
    exact br_t (nI_le (by omega) (by omega)) hp
  | succ d ih =>
    intro j hj
    refine br_f (nI_ge (by omega) (by omega)) ⟨by decide, vp_in_nI (by omega) (by omega), nm_r (e' := cd_fl (fun c => nI ((a + b * c) % 4)) tr (j + 1)) ?_ (nm_r (e' := nI (j + 1)) (nI_1 j) (ih (j + 1) (by omega)))⟩
    rw [nI_clamp (n := j) (by omega), cd_ta_y ha hb (by omega)]
    exact cd_fl_s (g := fun c => nI ((a + b * c) % 4))
theorem cd_x_tha0 {post : Int32 → SX → Prop} {a b : Nat} (ha : a < 4) (hb : b < 4) (hw : w ≤ 8) (hp : post 0 (nI w, fh, st, cd_fl (fun c => nI ((a + b * c) % 4)) sh w, tr, ti, un, od, so, sz, sp)) : wX_threadAll_20 post (nI a) (nI b) (nI w) fh st (w + 1) 0 sh tr ti un od so sz sp := by
  have y := cd_x_tha ha hb hw hp w 0 (by omega)
  rw [cd_fl_0] at y
  exact y
theorem cd_y_tha0 {post : Int32 → SY → Prop} {a b : Nat} (ha : a < 4) (hb : b < 4) (hw : w ≤ 8) (hp : post 0 (nI w, fh, ct, cd_fl (fun c => nI ((a + b * c) % 4)) sh w, tr, ti, mu, pa, nd, ak, wa, nw)) : wY_threadAll_20 post (nI a) (nI b) (nI w) fh ct nw (w + 1) 0 sh tr ti mu pa nd ak wa := by
  have y := cd_y_tha ha hb hw hp w 0 (by omega)
  rw [cd_fl_0] at y
  exact y
theorem cd_x_tra0 {post : Int32 → SX → Prop} {a b : Nat} (ha : a < 4) (hb : b < 4) (hh : h ≤ 8) (hp : post 0 (fw, nI h, st, sh, cd_fl (fun c => nI ((a + b * c) % 4)) tr h, ti, un, od, so, sz, sp)) : wX_treadleAll_20 post (nI a) (nI b) fw (nI h) st (h + 1) 0 sh tr ti un od so sz sp := by
  have y := cd_x_tra ha hb hh hp h 0 (by omega)
  rw [cd_fl_0] at y
  exact y
theorem cd_y_tra0 {post : Int32 → SY → Prop} {a b : Nat} (ha : a < 4) (hb : b < 4) (hh : h ≤ 8) (hp : post 0 (fw, nI h, ct, sh, cd_fl (fun c => nI ((a + b * c) % 4)) tr h, ti, mu, pa, nd, ak, wa, nw)) : wY_treadleAll_20 post (nI a) (nI b) fw (nI h) ct nw (h + 1) 0 sh tr ti mu pa nd ak wa := by
  have y := cd_y_tra ha hb hh hp h 0 (by omega)
  rw [cd_fl_0] at y
  exact y
end
theorem i_vc_threadAll {k : Nat} {u : SX} {v : SY} (I : i_Rel k u v) (hk : k + 3 ≤ 1538) (v1 : Int32) (v2 : Int32) : wpX_threadAll (fun r u' => wpY_threadAll (fun r' v' => r' = r ∧ i_Rel (k + 3) u' v') v v1 v2) u v1 v2 := by
  refine cd_el (P := fun u v => wpX_threadAll (fun r u' => wpY_threadAll (fun r' v' => r' = r ∧ i_Rel (k + 3) u' v') v v1 v2) u v1 v2) I ?_
  intro w h st sh tr ti un od so sz sp ct mu pa nd ak wa h1 h2 h3 h4 hok
  unfold wpX_threadAll wpY_threadAll
  dsimp only
  rcases cd_b4 (w := w) (h := h) (st := st) (sh := sh) (tr := tr) (ti := ti) (un := un) (od := od) (so := so) (sz := sz) (sp := sp) (ct := ct) (mu := mu) (pa := pa) (nd := nd) (ak := ak) (wa := wa) (nw := 65536) v1 with ⟨c, hc, e1, X1, Y1⟩ | ⟨X1, Y1⟩
  · rcases cd_b4 (w := w) (h := h) (st := st) (sh := sh) (tr := tr) (ti := ti) (un := un) (od := od) (so := so) (sz := sz) (sp := sp) (ct := ct) (mu := mu) (pa := pa) (nd := nd) (ak := ak) (wa := wa) (nw := 65536) v2 with ⟨s, hs, e2, X2, Y2⟩ | ⟨X2, Y2⟩
    · subst e1 e2
      refine X1 _ (br_t rfl ?_)
      refine X2 _ (br_t rfl ⟨w + 1, cd_x_tha0 hc hs h2 ?_⟩)
      refine Y1 _ (br_f cd_ne10 ?_)
      exact Y2 _ (br_f cd_ne10 ⟨w + 1, cd_y_tha0 hc hs h2 ⟨rfl, cd_in h1 h2 h3 h4 (cd_ok_fs hok)⟩⟩)
    · refine X1 _ (br_t rfl ?_)
      refine X2 _ (br_f cd_ne10 ?_)
      refine Y1 _ (br_f cd_ne10 ?_)
      exact Y2 _ (br_t rfl ⟨rfl, cd_in h1 h2 h3 h4 hok⟩)
  · refine X1 _ (br_f cd_ne10 ?_)
    exact Y1 _ (br_t rfl ⟨rfl, cd_in h1 h2 h3 h4 hok⟩)
theorem i_vc_treadleAll {k : Nat} {u : SX} {v : SY} (I : i_Rel k u v) (hk : k + 3 ≤ 1538) (v1 : Int32) (v2 : Int32) : wpX_treadleAll (fun r u' => wpY_treadleAll (fun r' v' => r' = r ∧ i_Rel (k + 3) u' v') v v1 v2) u v1 v2 := by
  refine cd_el (P := fun u v => wpX_treadleAll (fun r u' => wpY_treadleAll (fun r' v' => r' = r ∧ i_Rel (k + 3) u' v') v v1 v2) u v1 v2) I ?_
  intro w h st sh tr ti un od so sz sp ct mu pa nd ak wa h1 h2 h3 h4 hok
  unfold wpX_treadleAll wpY_treadleAll
  dsimp only
  rcases cd_b4 (w := w) (h := h) (st := st) (sh := sh) (tr := tr) (ti := ti) (un := un) (od := od) (so := so) (sz := sz) (sp := sp) (ct := ct) (mu := mu) (pa := pa) (nd := nd) (ak := ak) (wa := wa) (nw := 65536) v1 with ⟨c, hc, e1, X1, Y1⟩ | ⟨X1, Y1⟩
  · rcases cd_b4 (w := w) (h := h) (st := st) (sh := sh) (tr := tr) (ti := ti) (un := un) (od := od) (so := so) (sz := sz) (sp := sp) (ct := ct) (mu := mu) (pa := pa) (nd := nd) (ak := ak) (wa := wa) (nw := 65536) v2 with ⟨s, hs, e2, X2, Y2⟩ | ⟨X2, Y2⟩
    · subst e1 e2
      refine X1 _ (br_t rfl ?_)
      refine X2 _ (br_t rfl ⟨h + 1, cd_x_tra0 hc hs h4 ?_⟩)
      refine Y1 _ (br_f cd_ne10 ?_)
      exact Y2 _ (br_f cd_ne10 ⟨h + 1, cd_y_tra0 hc hs h4 ⟨rfl, cd_in h1 h2 h3 h4 (cd_ok_ft hok)⟩⟩)
    · refine X1 _ (br_t rfl ?_)
      refine X2 _ (br_f cd_ne10 ?_)
      refine Y1 _ (br_f cd_ne10 ?_)
      exact Y2 _ (br_t rfl ⟨rfl, cd_in h1 h2 h3 h4 hok⟩)
  · refine X1 _ (br_f cd_ne10 ?_)
    exact Y1 _ (br_t rfl ⟨rfl, cd_in h1 h2 h3 h4 hok⟩)
end
section
/-! invert, above -/
theorem cd_15 {q : Nat} (h : q < 16) : (15 : Int32) - nI q = nI (15 - q) := pk_sub (a := 15) (by omega)
theorem cd_c4 {q : Nat} (h : q < 16) : cd_cn (fun i => bt (nI q) i = true) 16 = cd_cn (fun i => bt (nI q) i = true) 4 := by
  rw [show (16 : Nat) = 4 + 12 from rfl, cd_cn_split, cd_cn_z (n := 12), Nat.add_zero]
  intro i hi e
  have e2 : bt (nI q) (4 + i) = true := e
  rw [cd_btN (by omega), Nat.testBit_lt_two_pow (Nat.lt_of_lt_of_le h (Nat.pow_le_pow_right (n := 2) (i := 4) (by decide) (by omega)))] at e2
  exact absurd e2 (by decide)
noncomputable def cd_iv (ti : Nat → Int32) (j : Nat) : Nat := cd_sm (fun k => cd_cn (fun i => bt (15 - ti k) i = true) 16) j
section
variable {st : Int32} {sh tr ti un od so sz sp : Nat → Int32} {ct : Int32} {mu pa nd ak wa : Nat → Int32} {nw : Nat} {fw fh : Int32}
theorem cd_x_inv {post : Int32 → SX → Prop} (hok : cd_Ok sh tr ti) (hp : post (nI (cd_iv ti 4)) (fw, fh, st, sh, tr, cd_fl (fun c => 15 - ti c) ti 4, un, od, so, sz, sp)) : ∀ d j : Nat, j + d = 4 → wX_invert_4 post fw fh st (d + 1) (nI (cd_iv ti j)) (nI j) sh tr (cd_fl (fun c => 15 - ti c) ti j) un od so sz sp := by
  intro d
  induction d with
  | zero =>
    intro j hj
    have e : j = 4 := by omega
    subst e
    exact br_t (show (4 : Int32) ≤ nI 4 from by decide) hp
  | succ d ih =>
    intro j hj
    obtain ⟨q, hq, eq⟩ := hok.2.2 j (by omega)
    have e1 : vp_nar .byte ((15 - ti j).toInt8.toInt32) = 15 - ti j := by rw [eq, cd_15 hq, cd_nar8 (by omega)]
    refine br_f (nI_ge (b := 4) (by omega) (by omega)) ⟨vp_in_nI (by omega) (by omega), vp_in_nI (by omega) (by omega), nm_r (e' := cd_fl (fun c => 15 - ti c) ti (j + 1)) ?_ ⟨vp_in_nI (by omega) (by omega), cd_x_size _ (nm_r (e' := nI (cd_iv ti (j + 1))) ?_ (nm_r (e' := nI (j + 1)) (nI_1 j) (ih (j + 1) (by omega))))⟩⟩
    · rw [nI_clamp (n := j) (by omega), cd_fl_at, e1]
      exact cd_fl_s (g := fun c => 15 - ti c)
    · rw [nI_clamp (n := j) (by omega), nI_add]
      have e2 : cd_fl (fun c => 15 - ti c) ti (j + 1) j = 15 - ti j := if_pos (by omega)
      rw [e2]
      rfl
theorem cd_y_inv26 {post : Int32 → SY → Prop} {J : Int32 → Int32 → (Nat → Int32) → (Nat → Int32) → (Nat → Int32) → (Nat → Int32) → (Nat → Int32) → (Nat → Int32) → (Nat → Int32) → (Nat → Int32) → Prop} {k N : Nat} (hk : k < 4) (hJ : J (nI (N + cd_cn (fun i => bt (ti k) i = true) 4)) (nI (k + 1)) sh tr ti mu pa nd ak wa) : ∀ d j : Nat, j + d = 4 → wY_invert_26 post J (nI k) fw fh ct sh tr ti mu pa nd ak wa nw (d + 1) (nI (N + cd_cn (fun i => bt (ti k) i = true) j)) (nI j) := by
  intro d
  induction d with
  | zero =>
    intro j hj
    have e : j = 4 := by omega
    subst e
    exact br_t (show (4 : Int32) ≤ nI 4 from by decide) (nm_r (e' := nI (k + 1)) (nI_1 k) hJ)
  | succ d ih =>
    intro j hj
    refine br_f (nI_ge (b := 4) (by omega) (by omega)) ⟨vp_in_nI (by omega) (by omega), nm_r (e' := nI (N + cd_cn (fun i => bt (ti k) i = true) (j + 1))) ?_ (nm_r (e' := nI (j + 1)) (nI_1 j) (ih (j + 1) (by omega)))⟩
    rw [nI_clamp (n := k) (by omega), cd_tstn _ (by omega), nI_add, cd_cn_s, Nat.add_assoc]
theorem cd_y_inv {post : Int32 → SY → Prop} (hok : cd_Ok sh tr ti) (hp : post (nI (cd_iv ti 4)) (fw, fh, ct, sh, tr, cd_fl (fun c => 15 - ti c) ti 4, mu, pa, nd, ak, wa, nw)) : ∀ d j : Nat, j + d = 4 → wY_invert_4 post fw fh ct nw (d + 1) (nI (cd_iv ti j)) (nI j) sh tr (cd_fl (fun c => 15 - ti c) ti j) mu pa nd ak wa := by
  intro d
  induction d with
  | zero =>
    intro j hj
    have e : j = 4 := by omega
    subst e
    exact br_t (show (4 : Int32) ≤ nI 4 from by decide) hp
  | succ d ih =>
    intro j hj
    obtain ⟨q, hq, eq⟩ := hok.2.2 j (by omega)
    have e2 : cd_fl (fun c => 15 - ti c) ti (j + 1) j = 15 - ti j := if_pos (by omega)
    refine br_f (nI_ge (b := 4) (by omega) (by omega)) ⟨vp_in_nI (by omega) (by omega), vp_in_nI (by omega) (by omega), nm_r (e' := cd_fl (fun c => 15 - ti c) ti (j + 1)) ?_ ⟨5, cd_y_inv26 (N := cd_iv ti j) (k := j) (by omega) ?_ 4 0 rfl⟩⟩
    · rw [nI_clamp (n := j) (by omega), cd_fl_at]
      exact cd_fl_s (g := fun c => 15 - ti c)
    · have e3 : cd_iv ti j + cd_cn (fun i => bt (cd_fl (fun c => 15 - ti c) ti (j + 1) j) i = true) 4 = cd_iv ti (j + 1) := by
        rw [e2]
        show _ = cd_iv ti j + cd_cn (fun i => bt (15 - ti j) i = true) 16
        rw [eq, cd_15 hq, cd_c4 (by omega)]
      rw [e3]
      exact ih (j + 1) (by omega)
theorem cd_ok_iv (hok : cd_Ok sh tr ti) {n : Nat} : cd_Ok sh tr (cd_fl (fun c => 15 - ti c) ti n) := by
  refine ⟨hok.1, hok.2.1, fun c hc => ?_⟩
  obtain ⟨q, hq, eq⟩ := hok.2.2 c hc
  unfold cd_fl
  by_cases z : c < n
  · rw [if_pos z]
    refine ⟨15 - q, by omega, ?_⟩
    show 15 - ti c = nI (15 - q)
    rw [eq, cd_15 hq]
  · rw [if_neg z]; exact ⟨q, hq, eq⟩
end
theorem i_vc_invert {k : Nat} {u : SX} {v : SY} (I : i_Rel k u v) (hk : k + 3 ≤ 1538) : wpX_invert (fun r u' => wpY_invert (fun r' v' => r' = r ∧ i_Rel (k + 3) u' v') v) u := by
  refine cd_el (P := fun u v => wpX_invert (fun r u' => wpY_invert (fun r' v' => r' = r ∧ i_Rel (k + 3) u' v') v) u) I ?_
  intro w h st sh tr ti un od so sz sp ct mu pa nd ak wa h1 h2 h3 h4 hok
  unfold wpX_invert wpY_invert
  dsimp only
  refine ⟨5, ?_⟩
  have X := fun (post : Int32 → SX → Prop) hp => cd_x_inv (fw := nI w) (fh := nI h) (st := st) (un := un) (od := od) (so := so) (sz := sz) (sp := sp) (post := post) hok hp 4 0 rfl
  rw [cd_fl_0] at X
  refine X _ ⟨5, ?_⟩
  have Y := fun (post : Int32 → SY → Prop) hp => cd_y_inv (fw := nI w) (fh := nI h) (ct := ct) (mu := mu) (pa := pa) (nd := nd) (ak := ak) (wa := wa) (nw := 65536) (post := post) hok hp 4 0 rfl
  rw [cd_fl_0] at Y
  exact Y _ ⟨rfl, cd_in h1 h2 h3 h4 (cd_ok_iv hok)⟩
theorem i_vc_above {k : Nat} {u : SX} {v : SY} (I : i_Rel k u v) (hk : k + 3 ≤ 1538) (v1 : Int32) (v2 : Int32) : wpX_above (fun r => wpY_above (fun r' => r' = r ∧ i_Rel (k + 3) u v) v v1 v2) u v1 v2 := by
  refine cd_el (P := fun u v => wpX_above (fun r => wpY_above (fun r' => r' = r ∧ i_Rel (k + 3) u v) v v1 v2) u v1 v2) I ?_
  intro w h st sh tr ti un od so sz sp ct mu pa nd ak wa h1 h2 h3 h4 hok
  unfold wpX_above wpY_above
  dsimp only
  rcases cd_bw (h := h) (st := st) (sh := sh) (tr := tr) (ti := ti) (un := un) (od := od) (so := so) (sz := sz) (sp := sp) (ct := ct) (mu := mu) (pa := pa) (nd := nd) (ak := ak) (wa := wa) (nw := 65536) h2 v1 with ⟨c, hc, e1, X1, Y1⟩ | ⟨X1, Y1⟩
  · rcases cd_bh (w := w) (st := st) (sh := sh) (tr := tr) (ti := ti) (un := un) (od := od) (so := so) (sz := sz) (sp := sp) (ct := ct) (mu := mu) (pa := pa) (nd := nd) (ak := ak) (wa := wa) (nw := 65536) h4 v2 with ⟨r, hr, e2, X2, Y2⟩ | ⟨X2, Y2⟩
    · subst e1 e2
      refine X1 _ (br_t rfl ?_)
      refine X2 _ (br_t rfl ?_)
      refine cd_x_ab (by omega) (by omega) hok (fun ha => br_f cd_ne10 ?_) (fun ha => br_t rfl ?_)
      · refine Y1 _ (br_f cd_ne10 ?_)
        refine Y2 _ (br_f cd_ne10 ?_)
        exact cd_y_ab (by omega) (by omega) hok (fun _ => br_f cd_ne10 ⟨rfl, cd_in h1 h2 h3 h4 hok⟩) (fun q => absurd ha q)
      · refine Y1 _ (br_f cd_ne10 ?_)
        refine Y2 _ (br_f cd_ne10 ?_)
        exact cd_y_ab (by omega) (by omega) hok (fun q => absurd q ha) (fun _ => br_t rfl ⟨rfl, cd_in h1 h2 h3 h4 hok⟩)
    · refine X1 _ (br_t rfl ?_)
      refine X2 _ (br_f cd_ne10 ?_)
      refine Y1 _ (br_f cd_ne10 ?_)
      exact Y2 _ (br_t rfl ⟨rfl, cd_in h1 h2 h3 h4 hok⟩)
  · refine X1 _ (br_f cd_ne10 ?_)
    exact Y1 _ (br_t rfl ⟨rfl, cd_in h1 h2 h3 h4 hok⟩)
/-! threads: the check, crossings, shows, covers -/
def cd_cr (w h t : Nat) : Nat := if t < 8 then h else w
def cd_S (ab : Nat → Nat → Prop) (t k : Nat) : Prop := if t < 8 then ab t k else ¬ ab k (t - 8)
def cd_fi (t : Nat) : Nat := if t < 8 then 8 else 0
theorem cd_S_C {w h : Nat} {ab : Nat → Nat → Prop} (hw : w ≤ 8) {t k : Nat} (ht : cd_T w h t) (hk : k < cd_cr w h t) : cd_C w h ab t (cd_fi t + k) ↔ cd_S ab t k := by
  unfold cd_cr at hk
  unfold cd_S cd_fi
  by_cases z : t < 8
  · rw [if_pos z] at hk
    rw [if_pos z, if_pos z]
    constructor
    · rintro (⟨_, _, _, q⟩ | ⟨q, _⟩)
      · rw [show 8 + k - 8 = k from by omega] at q; exact q
      · omega
    · intro q
      refine Or.inl ⟨?_, by omega, by omega, by rw [show 8 + k - 8 = k from by omega]; exact q⟩
      rcases ht with a | a <;> omega
  · rw [if_neg z] at hk
    rw [if_neg z, if_neg z, Nat.zero_add]
    constructor
    · rintro (⟨q, _⟩ | ⟨_, _, _, q⟩)
      · omega
      · exact q
    · intro q
      refine Or.inr ⟨hk, by omega, ?_, q⟩
      rcases ht with a | a <;> omega
section
variable {w h : Nat} {st : Int32} {sh tr ti un od so sz sp : Nat → Int32} {ct : Int32} {mu pa nd ak wa : Nat → Int32} {nw : Nat}
theorem cd_bth (hw : w ≤ 8) (hh : h ≤ 8) (p : Int32) : (∃ c, cd_T w h c ∧ p = nI c ∧ (∀ post : Int32 → Prop, post 0 → wpX_badThread post (nI w, nI h, st, sh, tr, ti, un, od, so, sz, sp) p) ∧ (∀ post : Int32 → Prop, post 1 → wpY_isThread post (nI w, nI h, ct, sh, tr, ti, mu, pa, nd, ak, wa, nw) p)) ∨ ((∀ c, c < 16 → p = nI c → ¬ cd_T w h c) ∧ (∀ post : Int32 → Prop, post 1 → wpX_badThread post (nI w, nI h, st, sh, tr, ti, un, od, so, sz, sp) p) ∧ (∀ post : Int32 → Prop, post 0 → wpY_isThread post (nI w, nI h, ct, sh, tr, ti, mu, pa, nd, ak, wa, nw) p)) := by
  have n0 : narrow .boolean (.int 0) = .int 0 := by decide
  have n1 : narrow .boolean (.int 1) = .int 1 := by decide
  by_cases a : p < 0
  · have b : ¬ (8 : Int32) ≤ p := by
      intro q
      have q1 := Int32.lt_iff_toInt_lt.mp a
      have q2 := Int32.le_iff_toInt_le.mp q
      have e8 : (8 : Int32).toInt = 8 := by decide
      have e0 : (0 : Int32).toInt = 0 := by decide
      omega
    refine Or.inr ⟨fun c hc e => ?_, fun _ q => br_t a q, fun _ q => br_f b (br_t a ⟨n0, q⟩)⟩
    rw [e] at a
    exact absurd a (nI_pos (by omega))
  · obtain ⟨j, hj, e⟩ := nI_of a
    subst e
    have inj : ∀ c, c < 16 → nI j = nI c → c = j := fun c hc e => ((nI_eq hj (by omega)).mp e).symm
    by_cases z : j < 8
    · have b : ¬ (8 : Int32) ≤ nI j := nI_ge (b := 8) z (by omega)
      have b2 : ¬ (8 + nI h) ≤ nI j := by rw [cd_8a]; exact nI_ge (by omega) (by omega)
      by_cases z2 : j < w
      · exact Or.inl ⟨j, Or.inl z2, rfl, fun _ q => br_f a (br_f b2 (br_t (nI_lt z2 (by omega)) q)), fun _ q => br_f b (br_f a (br_f (nI_ge z2 (by omega)) ⟨n1, q⟩))⟩
      · refine Or.inr ⟨fun c hc e => ?_, fun _ q => br_f a (br_f b2 (br_f (nI_nlt (by omega) (by omega)) (br_f b q))), fun _ q => br_f b (br_f a (br_t (nI_le (by omega) (by omega)) ⟨n0, q⟩))⟩
        rw [inj c hc e]
        unfold cd_T
        omega
    · have b : (8 : Int32) ≤ nI j := nI_le (a := 8) (by omega) hj
      have e8 : nI j - 8 = nI (j - 8) := pk_sub (b := 8) (by omega)
      have c0 : ¬ nI (j - 8) < 0 := nI_pos (by omega)
      by_cases z2 : j < 8 + h
      · have b2 : ¬ (8 + nI h) ≤ nI j := by rw [cd_8a]; exact nI_ge z2 (by omega)
        refine Or.inl ⟨j, Or.inr ⟨by omega, z2⟩, rfl, fun _ q => br_f a (br_f b2 (br_f (nI_nlt (by omega) (by omega)) (br_t b q))), fun _ q => br_t b ?_⟩
        rw [e8]
        exact br_f c0 (br_f (nI_ge (by omega) (by omega)) ⟨n1, q⟩)
      · have b2 : (8 + nI h) ≤ nI j := by rw [cd_8a]; exact nI_le (by omega) (by omega)
        refine Or.inr ⟨fun c hc e => ?_, fun _ q => br_f a (br_t b2 q), fun _ q => br_t b ?_⟩
        · rw [inj c hc e]
          unfold cd_T
          omega
        · rw [e8]
          exact br_f c0 (br_t (nI_le (by omega) (by omega)) ⟨n0, q⟩)
theorem cd_y_th {post : Int32 → Prop} (hw : w ≤ 8) (hh : h ≤ 8) {t : Nat} (ht : t < 16) (p1 : cd_T w h t → post 1) (p0 : ¬ cd_T w h t → post 0) : wpY_isThread post (nI w, nI h, ct, sh, tr, ti, mu, pa, nd, ak, wa, nw) (nI t) := by
  rcases cd_bth (st := 0) (sh := sh) (tr := tr) (ti := ti) (un := sh) (od := sh) (so := sh) (sz := sh) (sp := sh) (ct := ct) (mu := mu) (pa := pa) (nd := nd) (ak := ak) (wa := wa) (nw := nw) hw hh (nI t) with ⟨c, hc, e, _, Y⟩ | ⟨n, _, Y⟩
  · have c16 := cd_T16 hw hh hc
    have : t = c := (nI_eq (by omega) (by omega)).mp e
    rw [← this] at hc
    exact Y _ (p1 hc)
  · exact Y _ (p0 (n t ht rfl))
theorem cd_y_cr {post : Int32 → Prop} {t : Nat} (ht : t < 16) (hp : post (nI (cd_cr w h t))) : wpY_crossings post (nI w, nI h, ct, sh, tr, ti, mu, pa, nd, ak, wa, nw) (nI t) := by
  unfold cd_cr at hp
  by_cases z : t < 8
  · rw [if_pos z] at hp
    exact br_f (nI_ge (b := 8) z (by omega)) hp
  · rw [if_neg z] at hp
    exact br_t (nI_le (a := 8) (by omega) (by omega)) hp
theorem cd_y_sh {post : Int32 → Prop} (hw : w ≤ 8) (hh : h ≤ 8) (hok : cd_Ok sh tr ti) {t k : Nat} (ht : cd_T w h t) (hk : k < cd_cr w h t) (p1 : cd_S (cd_ab sh tr ti) t k → post 1) (p0 : ¬ cd_S (cd_ab sh tr ti) t k → post 0) : wpY_shows post (nI w, nI h, ct, sh, tr, ti, mu, pa, nd, ak, wa, nw) (nI t) (nI k) := by
  have n0 : narrow .boolean (.int 0) = .int 0 := by decide
  have n1 : narrow .boolean (.int 1) = .int 1 := by decide
  have t16 := cd_T16 hw hh ht
  unfold cd_S at p1 p0
  unfold cd_cr at hk
  by_cases z : t < 8
  · rw [if_pos z] at p1 p0 hk
    exact br_f (nI_ge (b := 8) z (by omega)) (cd_y_ab z (by omega) hok (fun q => ⟨n1, p1 q⟩) (fun q => ⟨n0, p0 q⟩))
  · rw [if_neg z] at p1 p0 hk
    have e8 : nI t - 8 = nI (t - 8) := pk_sub (b := 8) (by omega)
    refine br_t (nI_le (a := 8) (by omega) (by omega)) ?_
    rw [e8]
    exact cd_y_ab (by omega) (by omega) hok (fun q => br_f cd_ne10 (p0 (fun n => n q))) (fun q => br_t rfl (p1 q))
theorem cd_y_cov {post : Int32 → Prop} (hw : w ≤ 8) (hh : h ≤ 8) (hok : cd_Ok sh tr ti) {u t : Nat} (hu : cd_T w h u) (ht : cd_T w h t) (p1 : cd_C w h (cd_ab sh tr ti) u t → post 1) (p0 : ¬ cd_C w h (cd_ab sh tr ti) u t → post 0) : wpY_covers post (nI w, nI h, ct, sh, tr, ti, mu, pa, nd, ak, wa, nw) (nI u) (nI t) := by
  have n0 : narrow .boolean (.int 0) = .int 0 := by decide
  have n1 : narrow .boolean (.int 1) = .int 1 := by decide
  have u16 := cd_T16 hw hh hu
  have t16 := cd_T16 hw hh ht
  unfold cd_T at ht
  by_cases zu : u < 8
  · have bu : ¬ (8 : Int32) ≤ nI u := nI_ge (b := 8) zu (by omega)
    by_cases zt : t < 8
    · have bt : ¬ (8 : Int32) ≤ nI t := nI_ge (b := 8) zt (by omega)
      refine br_f bu (br_f bt (br_t rfl (p0 (fun q => ?_))))
      exact (cd_C_k hw q).mp zu zt
    · have bt : (8 : Int32) ≤ nI t := nI_le (a := 8) (by omega) (by omega)
      have e8 : nI t - 8 = nI (t - 8) := pk_sub (b := 8) (by omega)
      have hk : t - 8 < cd_cr w h u := by unfold cd_cr; rw [if_pos zu]; omega
      have sc := cd_S_C (ab := cd_ab sh tr ti) hw hu hk
      have ef : cd_fi u + (t - 8) = t := by unfold cd_fi; rw [if_pos zu]; omega
      rw [ef] at sc
      refine br_f bu (br_t bt (br_f cd_ne10 (br_t bt ?_)))
      unfold wY_covers_43
      rw [e8]
      exact cd_y_sh hw hh hok hu hk (fun q => ⟨n1, p1 (sc.mpr q)⟩) (fun q => ⟨n0, p0 (fun c => q (sc.mp c))⟩)
  · have bu : (8 : Int32) ≤ nI u := nI_le (a := 8) (by omega) (by omega)
    by_cases zt : t < 8
    · have bt : ¬ (8 : Int32) ≤ nI t := nI_ge (b := 8) zt (by omega)
      have hk : t < cd_cr w h u := by unfold cd_cr; rw [if_neg zu]; omega
      have sc := cd_S_C (ab := cd_ab sh tr ti) hw hu hk
      have ef : cd_fi u + t = t := by unfold cd_fi; rw [if_neg zu]; omega
      rw [ef] at sc
      refine br_t bu (br_f bt (br_f cd_ne01 (br_f bt ?_)))
      unfold wY_covers_43
      exact cd_y_sh hw hh hok hu hk (fun q => ⟨n1, p1 (sc.mpr q)⟩) (fun q => ⟨n0, p0 (fun c => q (sc.mp c))⟩)
    · have bt : (8 : Int32) ≤ nI t := nI_le (a := 8) (by omega) (by omega)
      refine br_t bu (br_t bt (br_t rfl (p0 (fun q => ?_))))
      exact zu ((cd_C_k hw q).mpr zt)
end
end
section
/-! longest, over -/
theorem cd_bS {w h : Nat} {ab : Nat → Nat → Prop} {un : Nat → Int32} (hw : w ≤ 8) (hh : h ≤ 8) (hu : cd_UN w h ab un) {t k : Nat} (ht : cd_T w h t) (hk : k < cd_cr w h t) : bt (un t) (cd_fi t + k) = true ↔ cd_S ab t k := by
  have t16 := cd_T16 hw hh ht
  have l : cd_fi t + k < 32 := by
    unfold cd_fi
    unfold cd_cr at hk
    by_cases z : t < 8
    · rw [if_pos z] at hk ⊢; omega
    · rw [if_neg z] at hk ⊢; omega
  rw [hu t t16 _ l]
  exact cd_S_C hw ht hk
theorem cd_cr8 {w h t : Nat} (hw : w ≤ 8) (hh : h ≤ 8) : cd_cr w h t ≤ 8 := by
  unfold cd_cr
  by_cases z : t < 8
  · rw [if_pos z]; exact hh
  · rw [if_neg z]; exact hw
theorem cd_fi8 {t : Nat} : cd_fi t ≤ 8 := by
  unfold cd_fi
  by_cases z : t < 8
  · rw [if_pos z]; omega
  · rw [if_neg z]; omega
theorem cd_nb {P Q : Prop} : nI (cd_b P) = nI (cd_b Q) ↔ (P ↔ Q) := by
  have a := cd_ble P
  have b := cd_ble Q
  rw [nI_eq (by omega) (by omega)]
  constructor
  · intro e
    rcases cd_bcase P with ⟨p, ep⟩ | ⟨p, ep⟩
    · exact ⟨fun _ => cd_b1 (by omega), fun _ => p⟩
    · exact ⟨fun q => absurd q p, fun q => absurd q (cd_b0 (by omega))⟩
  · exact cd_bc
section
variable {w h : Nat} {st : Int32} {sh tr ti un od so sz sp : Nat → Int32} {ct : Int32} {mu pa nd ak wa : Nat → Int32} {nw : Nat}
theorem cd_x_119 {post : Int32 → SX → Prop} {J : Int32 → Int32 → Int32 → Prop} {x1 x2 x4 x5 V : Int32} {fw fh : Int32} {i : Nat} (hJ : J (if V ≤ x2 then x2 else V) V (nI (i + 1))) : wX_longest_119 post J x1 x2 x4 x5 (nI i) V fw fh st sh tr ti un od so sz sp := by
  by_cases z : V ≤ x2
  · rw [if_pos z] at hJ
    exact br_t z (nm_r (e' := nI (i + 1)) (nI_1 i) hJ)
  · rw [if_neg z] at hJ
    exact br_f z (nm_r (e' := nI (i + 1)) (nI_1 i) hJ)
theorem cd_y_58 {post : Int32 → Prop} {J : Int32 → Int32 → Int32 → Prop} {x1 x2 V : Int32} {gw gh : Int32} {i : Nat} (hJ : J (if V ≤ x2 then x2 else V) V (nI (i + 1))) : wY_longest_58 post J x1 x2 (nI i) V gw gh ct sh tr ti mu pa nd ak wa nw := by
  by_cases z : V ≤ x2
  · rw [if_pos z] at hJ
    exact br_t z (nm_r (e' := nI (i + 1)) (nI_1 i) hJ)
  · rw [if_neg z] at hJ
    exact br_f z (nm_r (e' := nI (i + 1)) (nI_1 i) hJ)
theorem cd_lg (hw : w ≤ 8) (hh : h ≤ 8) (hok : cd_Ok sh tr ti) (hu : cd_UN w h (cd_ab sh tr ti) un) {t : Nat} (ht : cd_T w h t) : ∀ d i : Nat, i + d = cd_cr w h t → ∀ x2 x3 : Int32, (i = 0 → x3 = 0) → ∃ r : Int32, (∀ post : Int32 → SX → Prop, post r (nI w, nI h, st, sh, tr, ti, un, od, so, sz, sp) → wX_longest_54 post (nI t) (nI (cd_fi t)) (nI (cd_cr w h t)) (nI w) (nI h) st sh tr ti un od so sz sp (d + 1) x2 x3 (nI i)) ∧ (∀ post : Int32 → Prop, post r → wY_longest_17 post (nI t) (nI w) (nI h) ct sh tr ti mu pa nd ak wa nw (d + 1) x2 x3 (nI i)) := by
  have t16 := cd_T16 hw hh ht
  have c8 := cd_cr8 (t := t) hw hh
  have f8 := cd_fi8 (t := t)
  intro d
  induction d with
  | zero =>
    intro i hi x2 x3 _
    exact ⟨x2, fun post hp => br_t (nI_le (by omega) (by omega)) hp, fun post hp => by rw [wY_longest_17]; exact cd_y_cr t16 (br_t (nI_le (by omega) (by omega)) hp)⟩
  | succ d ih =>
    intro i hi x2 x3 h0
    by_cases zi : i = 0
    · obtain ⟨r, X, Y⟩ := ih (i + 1) (by omega) (if (1 : Int32) ≤ x2 then x2 else 1) 1 (by omega)
      have e3 : x3 + 1 = 1 := by rw [h0 zi]; decide
      have i0 : nI i ≤ 0 := by rw [zi]; decide
      refine ⟨r, fun post hp => br_f (nI_ge (by omega) (by omega)) ⟨vp_in_nI t16 (by omega), nm_e (br_t i0 (br_t rfl ?_))⟩, fun post hp => ?_⟩
      · rw [e3]
        exact cd_x_119 (X post hp)
      · rw [wY_longest_17]
        exact cd_y_cr t16 (br_f (nI_ge (by omega) (by omega)) (br_t i0 (cd_y_58 (Y post hp))))
    · have i0 : ¬ nI i ≤ 0 := nI_nle (by omega) (by omega)
      have e1 : nI (cd_fi t) + nI i = nI (cd_fi t + i) := nI_add _ _
      have e2 : nI (cd_fi t + i) - 1 = nI (cd_fi t + (i - 1)) := by
        rw [show cd_fi t + (i - 1) = cd_fi t + i - 1 from by omega]
        exact pk_sub (b := 1) (by omega)
      have e4 : nI i - 1 = nI (i - 1) := pk_sub (b := 1) (by omega)
      have s1 := cd_bS hw hh hu ht (k := i) (by omega)
      have s2 := cd_bS hw hh hu ht (k := i - 1) (by omega)
      by_cases same : cd_S (cd_ab sh tr ti) t i ↔ cd_S (cd_ab sh tr ti) t (i - 1)
      · obtain ⟨r, X, Y⟩ := ih (i + 1) (by omega) (if x3 + 1 ≤ x2 then x2 else x3 + 1) (x3 + 1) (by omega)
        refine ⟨r, fun post hp => br_f (nI_ge (by omega) (by omega)) ⟨vp_in_nI t16 (by omega), nm_e (br_f i0 ⟨vp_in_nI t16 (by omega), br_t ?_ (cd_x_119 (X post hp))⟩)⟩, fun post hp => ?_⟩
        · rw [e1, e2, nI_clamp (n := t) (by omega), cd_tstn _ (by omega), cd_tstn _ (by omega), cd_nb, s1, s2]
          exact same
        · rw [wY_longest_17]
          refine cd_y_cr t16 (br_f (nI_ge (by omega) (by omega)) (br_f i0 ?_))
          rw [e4]
          refine cd_y_sh hw hh hok ht (by omega) (fun a => ?_) (fun a => ?_)
          · exact cd_y_sh hw hh hok ht (by omega) (fun b => br_t rfl (cd_y_58 (Y post hp))) (fun b => absurd (same.mp a) b)
          · exact cd_y_sh hw hh hok ht (by omega) (fun b => absurd (same.mpr b) a) (fun b => br_t rfl (cd_y_58 (Y post hp)))
      · obtain ⟨r, X, Y⟩ := ih (i + 1) (by omega) (if (1 : Int32) ≤ x2 then x2 else 1) 1 (by omega)
        refine ⟨r, fun post hp => br_f (nI_ge (by omega) (by omega)) ⟨vp_in_nI t16 (by omega), nm_e (br_f i0 ⟨vp_in_nI t16 (by omega), br_f ?_ (cd_x_119 (X post hp))⟩)⟩, fun post hp => ?_⟩
        · rw [e1, e2, nI_clamp (n := t) (by omega), cd_tstn _ (by omega), cd_tstn _ (by omega), cd_nb, s1, s2]
          exact same
        · rw [wY_longest_17]
          refine cd_y_cr t16 (br_f (nI_ge (by omega) (by omega)) (br_f i0 ?_))
          rw [e4]
          refine cd_y_sh hw hh hok ht (by omega) (fun a => ?_) (fun a => ?_)
          · exact cd_y_sh hw hh hok ht (by omega) (fun b => absurd ⟨fun _ => b, fun _ => a⟩ same) (fun b => br_f cd_ne10 (cd_y_58 (Y post hp)))
          · exact cd_y_sh hw hh hok ht (by omega) (fun b => br_f cd_ne01 (cd_y_58 (Y post hp))) (fun b => absurd ⟨fun q => absurd q a, fun q => absurd q b⟩ same)
theorem cd_y_ov {post : Int32 → Prop} (hw : w ≤ 8) (hh : h ≤ 8) (hok : cd_Ok sh tr ti) {t : Nat} (ht : cd_T w h t) (hp : post (nI (cd_cn (cd_S (cd_ab sh tr ti) t) (cd_cr w h t)))) : ∀ d j : Nat, j + d = cd_cr w h t → wY_over_14 post (nI t) (nI w) (nI h) ct sh tr ti mu pa nd ak wa nw (d + 1) (nI (cd_cn (cd_S (cd_ab sh tr ti) t) j)) (nI j) := by
  have t16 := cd_T16 hw hh ht
  have c8 := cd_cr8 (t := t) hw hh
  intro d
  induction d with
  | zero =>
    intro j hj
    have e : cd_cr w h t = j := by omega
    rw [e] at hp
    rw [wY_over_14]
    exact cd_y_cr t16 (br_t (nI_le (by omega) (by omega)) hp)
  | succ d ih =>
    intro j hj
    have i := ih (j + 1) (by omega)
    rw [cd_cn_s] at i
    rw [wY_over_14]
    refine cd_y_cr t16 (br_f (nI_ge (by omega) (by omega)) (cd_y_sh hw hh hok ht (by omega) (fun a => ?_) (fun a => ?_)))
    · rw [cd_bt a] at i
      exact br_f cd_ne10 (nm_r (e' := nI (cd_cn (cd_S (cd_ab sh tr ti) t) j + 1)) (nI_1 _) (nm_r (e' := nI (j + 1)) (nI_1 j) i))
    · rw [cd_bf a] at i
      exact br_t rfl (nm_r (e' := nI (j + 1)) (nI_1 j) i)
theorem cd_ov_eq (hw : w ≤ 8) (hh : h ≤ 8) {ab : Nat → Nat → Prop} (hu : cd_UN w h ab un) {t : Nat} (ht : cd_T w h t) : cd_cn (fun i => bt (un t) i = true) 16 = cd_cn (cd_S ab t) (cd_cr w h t) := by
  by_cases z : t < 8
  · have tw : t < w := by rcases ht with a | a <;> omega
    have e : cd_cr w h t = h := if_pos z
    rw [cd_sc_un hw hh hu tw, e]
    refine cd_cn_c h (fun i _ => ?_)
    unfold cd_S
    rw [if_pos z]
  · have tr : 8 ≤ t ∧ t < 8 + h := by rcases ht with a | a <;> omega
    have e : cd_cr w h t = w := if_neg z
    have q := cd_sw_un hw hh hu (r := t - 8) (by omega)
    rw [show 8 + (t - 8) = t from by omega] at q
    rw [q, e]
    refine cd_cn_c w (fun i _ => ?_)
    unfold cd_S
    rw [if_neg z]
end
theorem i_vc_longest {k : Nat} {u : SX} {v : SY} (I : i_Rel k u v) (hk : k + 3 ≤ 1538) (v1 : Int32) : wpX_longest (fun r u' => wpY_longest (fun r' => r' = r ∧ i_Rel (k + 3) u' v) v v1) u v1 := by
  refine cd_el (P := fun u v => wpX_longest (fun r u' => wpY_longest (fun r' => r' = r ∧ i_Rel (k + 3) u' v) v v1) u v1) I ?_
  intro w h st sh tr ti un od so sz sp ct mu pa nd ak wa h1 h2 h3 h4 hok
  unfold wpX_longest wpY_longest
  dsimp only
  rcases cd_bth (st := st) (sh := sh) (tr := tr) (ti := ti) (un := un) (od := od) (so := so) (sz := sz) (sp := sp) (ct := ct) (mu := mu) (pa := pa) (nd := nd) (ak := ak) (wa := wa) (nw := 65536) h2 h4 v1 with ⟨t, ht, e1, X1, Y1⟩ | ⟨_, X1, Y1⟩
  · subst e1
    refine X1 _ (br_t rfl ?_)
    refine cd_x_fu h1 h2 h4 hok (fun un' hu => ?_)
    obtain ⟨r, X, Y⟩ := cd_lg (st := st) (od := od) (so := so) (sz := sz) (sp := sp) (ct := ct) (mu := mu) (pa := pa) (nd := nd) (ak := ak) (wa := wa) (nw := 65536) h2 h4 hok hu ht (cd_cr w h t) 0 (by omega) 0 0 (fun _ => rfl)
    have t16 := cd_T16 h2 h4 ht
    dsimp only
    unfold wX_longest_30
    by_cases z : t < 8
    · have b : ¬ (8 : Int32) ≤ nI t := nI_ge (b := 8) z (by omega)
      have ec : cd_cr w h t = h := if_pos z
      have ef : cd_fi t = 8 := if_pos z
      rw [ec, ef] at X
      refine br_f b (br_f b ⟨_, X _ ?_⟩)
      refine Y1 _ (br_f cd_ne10 ⟨_, Y _ ⟨rfl, cd_in h1 h2 h3 h4 hok⟩⟩)
    · have b : (8 : Int32) ≤ nI t := nI_le (a := 8) (by omega) (by omega)
      have ec : cd_cr w h t = w := if_neg z
      have ef : cd_fi t = 0 := if_neg z
      rw [ec, ef] at X
      refine br_t b (br_t b ⟨_, X _ ?_⟩)
      refine Y1 _ (br_f cd_ne10 ⟨_, Y _ ⟨rfl, cd_in h1 h2 h3 h4 hok⟩⟩)
  · refine X1 _ (br_f cd_ne10 ?_)
    exact Y1 _ (br_t rfl ⟨rfl, cd_in h1 h2 h3 h4 hok⟩)
theorem i_vc_over {k : Nat} {u : SX} {v : SY} (I : i_Rel k u v) (hk : k + 3 ≤ 1538) (v1 : Int32) : wpX_over (fun r u' => wpY_over (fun r' => r' = r ∧ i_Rel (k + 3) u' v) v v1) u v1 := by
  refine cd_el (P := fun u v => wpX_over (fun r u' => wpY_over (fun r' => r' = r ∧ i_Rel (k + 3) u' v) v v1) u v1) I ?_
  intro w h st sh tr ti un od so sz sp ct mu pa nd ak wa h1 h2 h3 h4 hok
  unfold wpX_over wpY_over
  dsimp only
  rcases cd_bth (st := st) (sh := sh) (tr := tr) (ti := ti) (un := un) (od := od) (so := so) (sz := sz) (sp := sp) (ct := ct) (mu := mu) (pa := pa) (nd := nd) (ak := ak) (wa := wa) (nw := 65536) h2 h4 v1 with ⟨t, ht, e1, X1, Y1⟩ | ⟨_, X1, Y1⟩
  · subst e1
    have t16 := cd_T16 h2 h4 ht
    refine X1 _ (br_t rfl ?_)
    refine cd_x_fu h1 h2 h4 hok (fun un' hu => ?_)
    refine ⟨vp_in_nI t16 (by omega), cd_x_size _ ?_⟩
    rw [nI_clamp (n := t) (by omega), cd_ov_eq h2 h4 hu ht]
    refine Y1 _ (br_f cd_ne10 ⟨_, cd_y_ov h2 h4 hok ht ⟨rfl, cd_in h1 h2 h3 h4 hok⟩ (cd_cr w h t) 0 (by omega)⟩)
  · refine X1 _ (br_f cd_ne10 ?_)
    exact Y1 _ (br_t rfl ⟨rfl, cd_in h1 h2 h3 h4 hok⟩)
end
section
/-! different threads; sets that can be lifted -/
theorem cd_C_ix {w h : Nat} {ab : Nat → Nat → Prop} (hw : w ≤ 8) {t i : Nat} (hc : cd_C w h ab t i) : ∃ k, k < cd_cr w h t ∧ i = cd_fi t + k := by
  unfold cd_cr cd_fi
  rcases hc with ⟨a1, a2, a3, a4⟩ | ⟨a1, a2, a3, a4⟩
  · rw [if_pos (by omega), if_pos (by omega)]
    exact ⟨i - 8, by omega, by omega⟩
  · rw [if_neg (by omega), if_neg (by omega)]
    exact ⟨i, by omega, by omega⟩
theorem cd_un_eq {w h : Nat} {ab : Nat → Nat → Prop} {un : Nat → Int32} (hw : w ≤ 8) (hh : h ≤ 8) (hu : cd_UN w h ab un) {t u : Nat} (ht : cd_T w h t) (hu2 : cd_T w h u) (hk : t < 8 ↔ u < 8) : un t = un u ↔ ∀ k, k < cd_cr w h t → (cd_S ab t k ↔ cd_S ab u k) := by
  have t16 := cd_T16 hw hh ht
  have u16 := cd_T16 hw hh hu2
  have ec : cd_cr w h t = cd_cr w h u := by
    unfold cd_cr
    by_cases z : t < 8
    · rw [if_pos z, if_pos (hk.mp z)]
    · rw [if_neg z, if_neg (fun q => z (hk.mpr q))]
  have ef : cd_fi t = cd_fi u := by
    unfold cd_fi
    by_cases z : t < 8
    · rw [if_pos z, if_pos (hk.mp z)]
    · rw [if_neg z, if_neg (fun q => z (hk.mpr q))]
  constructor
  · intro e k hk2
    rw [← cd_bS hw hh hu ht hk2, ← cd_bS hw hh hu hu2 (by rw [← ec]; exact hk2), e, ef]
  · intro g
    apply b_ext
    intro i hi
    have a := hu t t16 i hi
    have b := hu u u16 i hi
    have c : cd_C w h ab t i ↔ cd_C w h ab u i := by
      constructor
      · intro q
        obtain ⟨k, k1, k2⟩ := cd_C_ix hw q
        rw [k2] at q
        have q2 := (g k k1).mp ((cd_S_C hw ht k1).mp q)
        rw [k2, ef]
        exact (cd_S_C hw hu2 (by rw [← ec]; exact k1)).mpr q2
      · intro q
        obtain ⟨k, k1, k2⟩ := cd_C_ix hw q
        rw [k2] at q
        have q2 := (g k (by rw [ec]; exact k1)).mpr ((cd_S_C hw hu2 k1).mp q)
        rw [k2, ← ef]
        exact (cd_S_C hw ht (by rw [ec]; exact k1)).mpr q2
    rw [c, ← b] at a
    cases e1 : bt (un t) i <;> cases e2 : bt (un u) i
    · rfl
    · exact absurd (a.mpr e2) (by rw [e1]; decide)
    · exact absurd (a.mp e1) (by rw [e2]; decide)
    · rfl
section
variable {w h : Nat} {st : Int32} {sh tr ti un od so sz sp : Nat → Int32} {ct : Int32} {mu pa nd ak wa : Nat → Int32} {nw : Nat}
theorem cd_y_al2 {post : Int32 → Prop} (hw : w ≤ 8) (hh : h ≤ 8) (hok : cd_Ok sh tr ti) {t u : Nat} (ht : cd_T w h t) (hu2 : cd_T w h u) (hk : t < 8 ↔ u < 8) (p1 : (∀ k, k < cd_cr w h t → (cd_S (cd_ab sh tr ti) t k ↔ cd_S (cd_ab sh tr ti) u k)) → post 1) (p0 : ¬ (∀ k, k < cd_cr w h t → (cd_S (cd_ab sh tr ti) t k ↔ cd_S (cd_ab sh tr ti) u k)) → post 0) : ∀ d j : Nat, j + d = cd_cr w h t → (∀ k, k < j → (cd_S (cd_ab sh tr ti) t k ↔ cd_S (cd_ab sh tr ti) u k)) → wY_alike_2 post (nI t) (nI u) (nI w) (nI h) ct sh tr ti mu pa nd ak wa nw (d + 1) (nI j) := by
  have t16 := cd_T16 hw hh ht
  have c8 := cd_cr8 (t := t) hw hh
  have ec : cd_cr w h t = cd_cr w h u := by
    unfold cd_cr
    by_cases z : t < 8
    · rw [if_pos z, if_pos (hk.mp z)]
    · rw [if_neg z, if_neg (fun q => z (hk.mpr q))]
  intro d
  induction d with
  | zero =>
    intro j hj g
    rw [wY_alike_2]
    exact cd_y_cr t16 (br_t (nI_le (by omega) (by omega)) (p1 (fun k hk2 => g k (by omega))))
  | succ d ih =>
    intro j hj g
    have go : (cd_S (cd_ab sh tr ti) t j ↔ cd_S (cd_ab sh tr ti) u j) → wY_alike_2 post (nI t) (nI u) (nI w) (nI h) ct sh tr ti mu pa nd ak wa nw (d + 1) (nI (j + 1)) := fun q => ih (j + 1) (by omega) (fun k hk2 => by
      by_cases z : k = j
      · rw [z]; exact q
      · exact g k (by omega))
    have no : ¬ (cd_S (cd_ab sh tr ti) t j ↔ cd_S (cd_ab sh tr ti) u j) → post 0 := fun q => p0 (fun z => q (z j (by omega)))
    rw [wY_alike_2]
    refine cd_y_cr t16 (br_f (nI_ge (by omega) (by omega)) (cd_y_sh hw hh hok ht (by omega) (fun a => ?_) (fun a => ?_)))
    · exact cd_y_sh hw hh hok hu2 (by omega) (fun b => br_t rfl (nm_r (e' := nI (j + 1)) (nI_1 j) (go ⟨fun _ => b, fun _ => a⟩))) (fun b => br_f cd_ne10 (no (fun q => b (q.mp a))))
    · exact cd_y_sh hw hh hok hu2 (by omega) (fun b => br_f cd_ne01 (no (fun q => a (q.mpr b)))) (fun b => br_t rfl (nm_r (e' := nI (j + 1)) (nI_1 j) (go ⟨fun q => absurd q a, fun q => absurd q b⟩)))
theorem cd_y_al {post : Int32 → Prop} (hw : w ≤ 8) (hh : h ≤ 8) (hok : cd_Ok sh tr ti) (hun : cd_UN w h (cd_ab sh tr ti) un) {t u : Nat} (ht : cd_T w h t) (hu2 : cd_T w h u) (hk : t < 8 ↔ u < 8) (p1 : un t = un u → post 1) (p0 : ¬ un t = un u → post 0) : wpY_alike post (nI w, nI h, ct, sh, tr, ti, mu, pa, nd, ak, wa, nw) (nI t) (nI u) := by
  rw [cd_un_eq hw hh hun ht hu2 hk] at p1 p0
  exact ⟨_, cd_y_al2 hw hh hok ht hu2 hk p1 p0 (cd_cr w h t) 0 (by omega) (fun k hk2 => by omega)⟩
theorem cd_d_in (hw : w ≤ 8) (hh : h ≤ 8) (hok : cd_Ok sh tr ti) (hun : cd_UN w h (cd_ab sh tr ti) un) {f m i : Nat} (hf : f ≤ 8) (hT : ∀ j, j < m → cd_T w h (f + j)) (hK : ∀ j j', j < m → j' < m → (f + j < 8 ↔ f + j' < 8)) (hi : i < m) (x3 : Int32) : ∀ d j : Nat, j + d = i → ∀ x5 : Int32, ∃ y3 : Int32, (∀ (post : Int32 → SX → Prop) (J : Int32 → Int32 → Prop), J y3 (nI (i + 1)) → wX_different_21 post J (nI f) (nI m) x3 (nI i) (nI w) (nI h) st sh tr ti un od so sz sp (d + 1) x5 (nI j)) ∧ (∀ (post : Int32 → Prop) (J : Int32 → Int32 → Prop), J y3 (nI (f + i + 1)) → wY_different_19 post J (nI f) (nI m) x3 (nI (f + i)) (nI w) (nI h) ct sh tr ti mu pa nd ak wa nw (d + 1) x5 (nI (f + j))) := by
  have i16 := cd_T16 hw hh (hT i hi)
  intro d
  induction d with
  | zero =>
    intro j hj x5
    by_cases z : x5 = 0
    · exact ⟨x3, fun post J hJ => br_t (nI_le (by omega) (by omega)) (br_t z (nm_r (e' := nI (i + 1)) (nI_1 i) hJ)), fun post J hJ => br_t (nI_le (by omega) (by omega)) (br_t z (nm_r (e' := nI (f + i + 1)) (nI_1 _) hJ))⟩
    · exact ⟨x3 + 1, fun post J hJ => br_t (nI_le (by omega) (by omega)) (br_f z (nm_e (nm_r (e' := nI (i + 1)) (nI_1 i) hJ))), fun post J hJ => br_t (nI_le (by omega) (by omega)) (br_f z (nm_e (nm_r (e' := nI (f + i + 1)) (nI_1 _) hJ)))⟩
  | succ d ih =>
    intro j hj x5
    have e1 : nI f + nI j = nI (f + j) := nI_add _ _
    have e2 : nI f + nI i = nI (f + i) := nI_add _ _
    have en : nI j + 1 = nI (j + 1) := nI_1 j
    have em : nI (f + j) + 1 = nI (f + (j + 1)) := nI_1 (f + j)
    by_cases z : x5 = 0
    · obtain ⟨y3, X, Y⟩ := ih (j + 1) (by omega) 0
      exact ⟨y3, fun post J hJ => br_f (nI_ge (by omega) (by omega)) (br_t z (nm_r (e' := nI (j + 1)) en (X post J hJ))), fun post J hJ => br_f (nI_ge (by omega) (by omega)) (br_t z (nm_r (e' := nI (f + (j + 1))) em (Y post J hJ)))⟩
    · by_cases q : un (f + j) = un (f + i)
      · obtain ⟨y3, X, Y⟩ := ih (j + 1) (by omega) 0
        refine ⟨y3, fun post J hJ => br_f (nI_ge (by omega) (by omega)) (br_f z ?_), fun post J hJ => br_f (nI_ge (by omega) (by omega)) (br_f z ?_)⟩
        · rw [e1, e2, nI_clamp (n := f + j) (by omega), nI_clamp (n := f + i) (by omega)]
          exact ⟨vp_in_nI (by omega) (by omega), vp_in_nI (by omega) (by omega), br_t q (nm_r (e' := nI (j + 1)) en (X post J hJ))⟩
        · exact cd_y_al hw hh hok hun (hT i hi) (hT j (by omega)) (hK i j hi (by omega)) (fun _ => br_f cd_ne10 (nm_r (e' := nI (f + (j + 1))) em (Y post J hJ))) (fun n => absurd q.symm n)
      · obtain ⟨y3, X, Y⟩ := ih (j + 1) (by omega) 1
        refine ⟨y3, fun post J hJ => br_f (nI_ge (by omega) (by omega)) (br_f z ?_), fun post J hJ => br_f (nI_ge (by omega) (by omega)) (br_f z ?_)⟩
        · rw [e1, e2, nI_clamp (n := f + j) (by omega), nI_clamp (n := f + i) (by omega)]
          exact ⟨vp_in_nI (by omega) (by omega), vp_in_nI (by omega) (by omega), br_f q (nm_r (e' := nI (j + 1)) en (X post J hJ))⟩
        · exact cd_y_al hw hh hok hun (hT i hi) (hT j (by omega)) (hK i j hi (by omega)) (fun n => absurd n.symm q) (fun _ => br_t rfl (nm_r (e' := nI (f + (j + 1))) em (Y post J hJ)))
theorem cd_d_out (hw : w ≤ 8) (hh : h ≤ 8) (hok : cd_Ok sh tr ti) (hun : cd_UN w h (cd_ab sh tr ti) un) {f m : Nat} (hf : f ≤ 8) (hm : m ≤ 8) (hT : ∀ j, j < m → cd_T w h (f + j)) (hK : ∀ j j', j < m → j' < m → (f + j < 8 ↔ f + j' < 8)) : ∀ d i : Nat, i + d = m → ∀ x3 : Int32, ∃ r : Int32, (∀ post : Int32 → SX → Prop, post r (nI w, nI h, st, sh, tr, ti, un, od, so, sz, sp) → wX_different_9 post (nI f) (nI m) (nI w) (nI h) st sh tr ti un od so sz sp (d + 1) x3 (nI i)) ∧ (∀ post : Int32 → Prop, post r → wY_different_5 post (nI f) (nI m) (nI w) (nI h) ct sh tr ti mu pa nd ak wa nw (d + 1) x3 (nI (f + i))) := by
  intro d
  induction d with
  | zero =>
    intro i hi x3
    refine ⟨x3, fun post hp => br_t (nI_le (by omega) (by omega)) hp, fun post hp => br_t ?_ hp⟩
    rw [nI_add]
    exact nI_le (by omega) (by omega)
  | succ d ih =>
    intro i hi x3
    obtain ⟨y3, X, Y⟩ := cd_d_in (st := st) (od := od) (so := so) (sz := sz) (sp := sp) (ct := ct) (mu := mu) (pa := pa) (nd := nd) (ak := ak) (wa := wa) (nw := nw) hw hh hok hun hf hT hK (i := i) (by omega) x3 i 0 (by omega) 1
    obtain ⟨r, X2, Y2⟩ := ih (i + 1) (by omega) y3
    refine ⟨r, fun post hp => br_f (nI_ge (by omega) (by omega)) ⟨_, X post _ (X2 post hp)⟩, fun post hp => br_f ?_ ⟨_, Y post _ (Y2 post hp)⟩⟩
    rw [nI_add]
    exact nI_ge (by omega) (by omega)
end
theorem i_vc_shafts {k : Nat} {u : SX} {v : SY} (I : i_Rel k u v) (hk : k + 3 ≤ 1538) : wpX_shafts (fun r u' => wpY_shafts (fun r' => r' = r ∧ i_Rel (k + 3) u' v) v) u := by
  refine cd_el (P := fun u v => wpX_shafts (fun r u' => wpY_shafts (fun r' => r' = r ∧ i_Rel (k + 3) u' v) v) u) I ?_
  intro w h st sh tr ti un od so sz sp ct mu pa nd ak wa h1 h2 h3 h4 hok
  unfold wpX_shafts wpY_shafts wpX_different wpY_different
  dsimp only
  refine cd_x_fu h1 h2 h4 hok (fun un' hu => ?_)
  obtain ⟨r, X, Y⟩ := cd_d_out (st := st) (od := od) (so := so) (sz := sz) (sp := sp) (ct := ct) (mu := mu) (pa := pa) (nd := nd) (ak := ak) (wa := wa) (nw := 65536) h2 h4 hok hu (f := 0) (m := w) (by omega) h2 (fun j hj => Or.inl (by omega)) (fun j j' a b => by omega) w 0 (by omega) 0
  exact ⟨_, X _ ⟨_, Y _ ⟨rfl, cd_in h1 h2 h3 h4 hok⟩⟩⟩
theorem i_vc_treadles {k : Nat} {u : SX} {v : SY} (I : i_Rel k u v) (hk : k + 3 ≤ 1538) : wpX_treadles (fun r u' => wpY_treadles (fun r' => r' = r ∧ i_Rel (k + 3) u' v) v) u := by
  refine cd_el (P := fun u v => wpX_treadles (fun r u' => wpY_treadles (fun r' => r' = r ∧ i_Rel (k + 3) u' v) v) u) I ?_
  intro w h st sh tr ti un od so sz sp ct mu pa nd ak wa h1 h2 h3 h4 hok
  unfold wpX_treadles wpY_treadles wpX_different wpY_different
  dsimp only
  refine cd_x_fu h1 h2 h4 hok (fun un' hu => ?_)
  obtain ⟨r, X, Y⟩ := cd_d_out (st := st) (od := od) (so := so) (sz := sz) (sp := sp) (ct := ct) (mu := mu) (pa := pa) (nd := nd) (ak := ak) (wa := wa) (nw := 65536) h2 h4 hok hu (f := 8) (m := h) (by omega) h4 (fun j hj => Or.inr (by omega)) (fun j j' a b => by omega) h 0 (by omega) 0
  exact ⟨_, X _ ⟨_, Y _ ⟨rfl, cd_in h1 h2 h3 h4 hok⟩⟩⟩
end
section
/-! liftable -/
def cd_evr (w h : Nat) : Int32 := ((((1 : Int32) <<< (nI w &&& 31)) - 1) ||| ((((1 : Int32) <<< (nI h &&& 31)) - 1) <<< ((8 : Int32) &&& 31)))
theorem cd_ev {w h : Nat} (hw : w ≤ 8) (hh : h ≤ 8) {i : Nat} (hi : i < 32) : bt (cd_evr w h) i = true ↔ cd_T w h i := by
  unfold cd_evr cd_T
  rw [b_or, b_shl8 _ hi, cd_mask w (by omega) i hi, cd_mask h (by omega) (i - 8) (by omega), Bool.or_eq_true, Bool.and_eq_true, decide_eq_true_iff, decide_eq_true_iff, decide_eq_true_iff]
  omega
theorem cd_ev8 {w h : Nat} (hw : w ≤ 8) (hh : h ≤ 8) {i : Nat} (hi : i < 32) : bt ((cd_evr w h >>> ((8 : Int32) &&& 31)) <<< ((8 : Int32) &&& 31)) i = true ↔ 8 ≤ i ∧ i < 8 + h := by
  rw [b_shl8 _ hi, b_sshr8 _ (i := i - 8) (by omega), Bool.and_eq_true, decide_eq_true_iff]
  by_cases z : 8 ≤ i
  · rw [if_pos (by omega), show 8 + (i - 8) = i from by omega, cd_ev hw hh hi]
    unfold cd_T
    omega
  · exact ⟨fun q => absurd q.1 z, fun q => absurd q.1 z⟩
theorem cd_C_as {w h : Nat} {ab : Nat → Nat → Prop} (hw : w ≤ 8) {u t : Nat} (a : cd_C w h ab u t) (b : cd_C w h ab t u) : False := by
  rcases a with ⟨a1, a2, a3, a4⟩ | ⟨a1, a2, a3, a4⟩ <;> rcases b with ⟨b1, b2, b3, b4⟩ | ⟨b1, b2, b3, b4⟩
  · omega
  · exact b4 a4
  · exact a4 b4
  · omega
def cd_gd (w h : Nat) (ab : Nat → Nat → Prop) (x2 : Int32) (t : Nat) : Prop := bt x2 t = true → ∀ u, cd_C w h ab u t → bt x2 u = true
theorem cd_cond {w h : Nat} {ab : Nat → Nat → Prop} {un : Nat → Int32} (hw : w ≤ 8) (hh : h ≤ 8) (hu : cd_UN w h ab un) {t : Nat} (ht : cd_T w h t) (x2 x5 : Int32) (h5 : ∀ i, i < 32 → (bt x5 i = true ↔ cd_T w h i ∧ (i < 8 ↔ ¬ t < 8))) : ((x5 &&& (x2 ^^^ (-1))) &&& ((un t) ^^^ (-1))) = 0 ↔ ∀ u, cd_C w h ab u t → bt x2 u = true := by
  have t16 := cd_T16 hw hh ht
  rw [cd_sub]
  constructor
  · intro g u hc
    have hT := (cd_C_T hc).1
    have u16 := cd_T16 hw hh hT
    by_cases z : bt x2 u = true
    · exact z
    · exfalso
      have b5 := (h5 u (by omega)).mpr ⟨hT, cd_C_k hw hc⟩
      have := g u (by omega) (by rw [b_and, b_xor, b_m1 u (by omega), b5, cd_bfl z]; decide)
      exact cd_C_as hw hc ((hu t t16 u (by omega)).mp this)
  · intro g i hi hb
    rw [b_and, b_xor, b_m1 i hi, Bool.and_eq_true] at hb
    have q := (h5 i hi).mp hb.1
    rcases cd_C_tot (ab := ab) hw q.1 ht q.2 with c | c
    · have := g i c
      rw [this] at hb
      exact absurd hb.2 (by decide)
    · exact (hu t t16 i hi).mpr c
section
variable {w h : Nat} {st : Int32} {sh tr ti un od so sz sp : Nat → Int32} {ct : Int32} {mu pa nd ak wa : Nat → Int32} {nw : Nat}
theorem cd_x_l56 {post : Int32 → SX → Prop} {J : Int32 → Int32 → Prop} {fw fh : Int32} {G gd C : Prop} {j : Nat} (hj : j < 16) {x2 x5 : Int32} (hg : gd ↔ (bt x2 j = true → C)) (hc : bt x2 j = true → (((x5 &&& (x2 ^^^ (-1))) &&& ((un j) ^^^ (-1))) = 0 ↔ C)) (hJ : J (nI (cd_b (G ∧ gd))) (nI (j + 1))) : wX_liftable_56 post J x2 (nI (cd_b G)) (nI j) x5 fw fh st sh tr ti un od so sz sp := by
  have e1 := nI_1 j
  by_cases b : bt x2 j = true
  · refine br_t ((cd_tst1 x2 (by omega)).mpr b) ?_
    unfold wX_liftable_73
    by_cases g : G
    · rw [cd_bt g]
      refine br_f cd_ne10 (br_f cd_ne10 ⟨vp_in_nI hj (by omega), ?_⟩)
      rw [nI_clamp (n := j) (by omega)]
      by_cases c : C
      · rw [cd_bt (And.intro g (hg.mpr (fun _ => c)))] at hJ
        exact br_t ((hc b).mpr c) (nm_r (e' := nI (j + 1)) e1 hJ)
      · rw [cd_bf (fun q : G ∧ gd => c (hg.mp q.2 b))] at hJ
        exact br_f (fun q => c ((hc b).mp q)) (nm_r (e' := nI (j + 1)) e1 hJ)
    · rw [cd_bf g]
      rw [cd_bf (fun q : G ∧ gd => g q.1)] at hJ
      exact br_t rfl (nm_r (e' := nI (j + 1)) e1 hJ)
  · refine br_f (fun q => b ((cd_tst1 x2 (by omega)).mp q)) ?_
    unfold wX_liftable_73
    by_cases g : G
    · rw [cd_bt g]
      rw [cd_bt (And.intro g (hg.mpr (fun q => absurd q b)))] at hJ
      exact br_f cd_ne10 (br_t rfl (nm_r (e' := nI (j + 1)) e1 hJ))
    · rw [cd_bf g]
      rw [cd_bf (fun q : G ∧ gd => g q.1)] at hJ
      exact br_t rfl (nm_r (e' := nI (j + 1)) e1 hJ)
theorem cd_x_li {post : Int32 → SX → Prop} {ab : Nat → Nat → Prop} (hw : w ≤ 8) (hh : h ≤ 8) (hu : cd_UN w h ab un) {x2 : Int32} (hx : ∀ i, i < 32 → bt x2 i = true → cd_T w h i) (p1 : (∀ t, t < 8 + h → cd_gd w h ab x2 t) → post 1 (nI w, nI h, st, sh, tr, ti, un, od, so, sz, sp)) (p0 : ¬ (∀ t, t < 8 + h → cd_gd w h ab x2 t) → post 0 (nI w, nI h, st, sh, tr, ti, un, od, so, sz, sp)) : ∀ d j : Nat, j + d = 8 + h → wX_liftable_16 post x2 (nI w) (nI h) st sh tr ti un od so sz sp (d + 1) (nI (cd_b (∀ t, t < j → cd_gd w h ab x2 t))) (nI j) := by
  intro d
  induction d with
  | zero =>
    intro j hj
    have e : j = 8 + h := by omega
    subst e
    refine br_t (by rw [cd_8a]; exact nI_le (by omega) (by omega)) ?_
    by_cases g : ∀ t, t < 8 + h → cd_gd w h ab x2 t
    · rw [cd_bt g]
      exact br_f cd_ne10 (p1 g)
    · rw [cd_bf g]
      exact br_t rfl (p0 g)
  | succ d ih =>
    intro j hj
    have i := ih (j + 1) (by omega)
    rw [cd_bc (Q := (∀ t, t < j → cd_gd w h ab x2 t) ∧ cd_gd w h ab x2 j) ⟨fun q => ⟨fun t ht => q t (by omega), q j (by omega)⟩, fun q t ht => by
      by_cases z : t = j
      · rw [z]; exact q.2
      · exact q.1 t (by omega)⟩] at i
    refine br_f (by rw [cd_8a]; exact nI_ge (by omega) (by omega)) ?_
    by_cases z : j < 8
    · refine br_f (nI_ge (b := 8) z (by omega)) ?_
      show wX_liftable_56 _ _ _ _ _ ((cd_evr w h >>> ((8 : Int32) &&& 31)) <<< ((8 : Int32) &&& 31)) _ _ _ _ _ _ _ _ _ _ _
      refine cd_x_l56 (C := ∀ u, cd_C w h ab u j → bt x2 u = true) (by omega) Iff.rfl (fun b => ?_) i
      refine cd_cond hw hh hu (hx j (by omega) b) x2 _ (fun i hi => ?_)
      rw [cd_ev8 hw hh hi]
      unfold cd_T
      omega
    · refine br_t (nI_le (a := 8) (by omega) (by omega)) ?_
      refine cd_x_l56 (C := ∀ u, cd_C w h ab u j → bt x2 u = true) (by omega) Iff.rfl (fun b => ?_) i
      refine cd_cond hw hh hu (hx j (by omega) b) x2 _ (fun i hi => ?_)
      rw [cd_mask w (by omega) i hi, decide_eq_true_iff]
      unfold cd_T
      omega
def cd_vl (w h : Nat) (ab : Nat → Nat → Prop) (x2 : Int32) (t u : Nat) : Prop := bt x2 t = true ∧ ¬ bt x2 u = true ∧ cd_T w h u ∧ cd_C w h ab u t
theorem cd_y_l18 {post : Int32 → Prop} {J : Int32 → Prop} (hw : w ≤ 8) (hh : h ≤ 8) (hok : cd_Ok sh tr ti) {x2 : Int32} (hx : ∀ i, i < 32 → bt x2 i = true → cd_T w h i) {t : Nat} (ht : t < 16) (pv : (∃ u, u < 16 ∧ cd_vl w h (cd_ab sh tr ti) x2 t u) → post 0) (hJ : (∀ u, u < 16 → ¬ cd_vl w h (cd_ab sh tr ti) x2 t u) → J (nI (t + 1))) : ∀ d j : Nat, j + d = 16 → (∀ u, u < j → ¬ cd_vl w h (cd_ab sh tr ti) x2 t u) → wY_liftable_18 post J x2 (nI t) (nI w) (nI h) ct sh tr ti mu pa nd ak wa nw (d + 1) (nI j) := by
  intro d
  induction d with
  | zero =>
    intro j hj g
    have e : j = 16 := by omega
    subst e
    exact br_t (show (16 : Int32) ≤ nI 16 from by decide) (nm_r (e' := nI (t + 1)) (nI_1 t) (hJ g))
  | succ d ih =>
    intro j hj g
    have h16 : ¬ (16 : Int32) ≤ nI j := nI_ge (b := 16) (by omega) (by omega)
    have N : ¬ cd_vl w h (cd_ab sh tr ti) x2 t j → ∀ x : Int32, x = nI j + 1 → wY_liftable_18 post J x2 (nI t) (nI w) (nI h) ct sh tr ti mu pa nd ak wa nw (d + 1) x := fun nv => nm_r (e' := nI (j + 1)) (nI_1 j) (ih (j + 1) (by omega) (fun u hu => by
      by_cases z : u = j
      · rw [z]; exact nv
      · exact g u (by omega)))
    by_cases a : bt x2 t = true
    · have a1 := (cd_tst1 x2 (j := t) (by omega)).mpr a
      by_cases b : bt x2 j = true
      · have b1 : ¬ ((x2 >>> (nI j &&& 31)) &&& 1) = 0 := fun q => (cd_tst0 x2 (by omega)).mp q b
        exact br_f h16 (br_t a1 (br_f b1 (br_t rfl (N (fun q => q.2.1 b)))))
      · have b1 := (cd_tst0 x2 (j := j) (by omega)).mpr b
        refine br_f h16 (br_t a1 (br_t b1 (cd_y_th hw hh (by omega) (fun T => br_f cd_ne10 ?_) (fun T => br_t rfl (br_t rfl (N (fun q => T q.2.2.1)))))))
        refine br_f cd_ne10 (cd_y_cov hw hh hok T (hx t (by omega) a) (fun c => br_f cd_ne10 (pv ⟨j, by omega, a, b, T, c⟩)) (fun c => br_t rfl (N (fun q => c q.2.2.2))))
    · have a1 : ¬ ((x2 >>> (nI t &&& 31)) &&& 1) = 1 := fun q => a ((cd_tst1 x2 (by omega)).mp q)
      exact br_f h16 (br_f a1 (br_t rfl (N (fun q => a q.1))))
theorem cd_y_l9 {post : Int32 → Prop} (hw : w ≤ 8) (hh : h ≤ 8) (hok : cd_Ok sh tr ti) {x2 : Int32} (hx : ∀ i, i < 32 → bt x2 i = true → cd_T w h i) (pv : (∃ t u, t < 16 ∧ u < 16 ∧ cd_vl w h (cd_ab sh tr ti) x2 t u) → post 0) (pn : (∀ t u, t < 16 → u < 16 → ¬ cd_vl w h (cd_ab sh tr ti) x2 t u) → post 1) : ∀ d j : Nat, j + d = 16 → (∀ t u, t < j → u < 16 → ¬ cd_vl w h (cd_ab sh tr ti) x2 t u) → wY_liftable_9 post x2 (nI w) (nI h) ct sh tr ti mu pa nd ak wa nw (d + 1) (nI j) := by
  intro d
  induction d with
  | zero =>
    intro j hj g
    have e : j = 16 := by omega
    subst e
    exact br_t (show (16 : Int32) ≤ nI 16 from by decide) (pn g)
  | succ d ih =>
    intro j hj g
    refine br_f (nI_ge (b := 16) (by omega) (by omega)) ⟨17, cd_y_l18 hw hh hok hx (t := j) (by omega) (fun ⟨u, a, b⟩ => pv ⟨j, u, by omega, a, b⟩) (fun q => ih (j + 1) (by omega) (fun t u ht hu => ?_)) 16 0 rfl (fun u hu => by omega)⟩
    by_cases z : t = j
    · rw [z]; exact q u hu
    · exact g t u (by omega) hu
end
theorem i_vc_liftable {k : Nat} {u : SX} {v : SY} (I : i_Rel k u v) (hk : k + 3 ≤ 1538) (v1 : Int32) : wpX_liftable (fun r u' => wpY_liftable (fun r' => r' = r ∧ i_Rel (k + 3) u' v) v v1) u v1 := by
  refine cd_el (P := fun u v => wpX_liftable (fun r u' => wpY_liftable (fun r' => r' = r ∧ i_Rel (k + 3) u' v) v v1) u v1) I ?_
  intro w h st sh tr ti un od so sz sp ct mu pa nd ak wa h1 h2 h3 h4 hok
  have hx : ∀ i, i < 32 → bt (v1 &&& cd_evr w h) i = true → cd_T w h i := by
    intro i hi q
    rw [b_and, Bool.and_eq_true] at q
    exact (cd_ev h2 h4 hi).mp q.2
  unfold wpX_liftable
  dsimp only
  refine cd_x_fu h1 h2 h4 hok (fun un' hu => ?_)
  unfold wpX_everyThread
  refine nm_r (e' := v1 &&& cd_evr w h) rfl ⟨8 + h + 1, ?_⟩
  have K := cd_x_li (post := fun r u' => wpY_liftable (fun r' => r' = r ∧ i_Rel (k + 3) u' (nI w, nI h, ct, sh, tr, ti, mu, pa, nd, ak, wa, 65536)) (nI w, nI h, ct, sh, tr, ti, mu, pa, nd, ak, wa, 65536) v1) (st := st) (sh := sh) (tr := tr) (ti := ti) (od := od) (so := so) (sz := sz) (sp := sp) h2 h4 hu hx (fun g => ?_) (fun g => ?_) (8 + h) 0 (by omega)
  · rw [cd_bt (fun t ht => by omega)] at K
    exact K
  · unfold wpY_liftable wpY_everything
    refine nm_r (e' := v1 &&& cd_evr w h) rfl ⟨17, cd_y_l9 h2 h4 hok hx (fun q => ?_) (fun _ => ⟨rfl, cd_in h1 h2 h3 h4 hok⟩) 16 0 rfl (fun t u ht hu => by omega)⟩
    obtain ⟨t, u, t16, u16, a, b, c, d⟩ := q
    have tT := hx t (by omega) a
    refine absurd (g t ?_ a u d) b
    unfold cd_T at tT
    omega
  · unfold wpY_liftable wpY_everything
    refine nm_r (e' := v1 &&& cd_evr w h) rfl ⟨17, cd_y_l9 h2 h4 hok hx (fun _ => ⟨rfl, cd_in h1 h2 h3 h4 hok⟩) (fun q => ?_) 16 0 rfl (fun t u ht hu => by omega)⟩
    refine absurd (fun t ht a u d => ?_) g
    by_cases z : bt (v1 &&& cd_evr w h) u = true
    · exact z
    · have T := (cd_C_T d).1
      exact absurd ⟨a, z, T, d⟩ (q t u (by omega) (cd_T16 h2 h4 T))
end
section
/-! X: the sort -/
def cd_so (key : Nat → Nat) (f i : Nat) (o : Nat → Nat) : Prop := (∀ j, j < i → f ≤ o j ∧ o j < f + i) ∧ (∀ a b, a < i → b < i → o a = o b → a = b) ∧ (∀ a b, a < b → b < i → key (o b) ≤ key (o a))
def cd_ins (o : Nat → Nat) (a t j : Nat) : Nat := if j < a then o j else if j = a then t else o (j - 1)
theorem cd_ins_l {o : Nat → Nat} {a t j : Nat} (h : j < a) : cd_ins o a t j = o j := if_pos h
theorem cd_ins_e {o : Nat → Nat} {a t j : Nat} (h : j = a) : cd_ins o a t j = t := by unfold cd_ins; rw [if_neg (by omega), if_pos h]
theorem cd_ins_g {o : Nat → Nat} {a t j : Nat} (h : a < j) : cd_ins o a t j = o (j - 1) := by unfold cd_ins; rw [if_neg (by omega), if_neg (by omega)]
theorem cd_so_ins {key : Nat → Nat} {f i a : Nat} {o : Nat → Nat} (H : cd_so key f i o) (ha : a ≤ i) (h1 : ∀ j, a ≤ j → j < i → key (o j) < key (f + i)) (h2 : a = 0 ∨ key (f + i) ≤ key (o (a - 1))) : cd_so key f (i + 1) (cd_ins o a (f + i)) := by
  obtain ⟨r, inj, srt⟩ := H
  refine ⟨fun j hj => ?_, fun x y hx hy => ?_, fun x y hx hy => ?_⟩
  · rcases Nat.lt_trichotomy j a with z | z | z
    · rw [cd_ins_l z]; have := r j (by omega); omega
    · rw [cd_ins_e z]; omega
    · rw [cd_ins_g z]; have := r (j - 1) (by omega); omega
  · rcases Nat.lt_trichotomy x a with z | z | z
    · rw [cd_ins_l z]
      have rx := r x (by omega)
      rcases Nat.lt_trichotomy y a with q | q | q
      · rw [cd_ins_l q]; exact inj x y (by omega) (by omega)
      · rw [cd_ins_e q]; intro e; omega
      · rw [cd_ins_g q]; intro e; have := inj x (y - 1) (by omega) (by omega) e; omega
    · rw [cd_ins_e z]
      rcases Nat.lt_trichotomy y a with q | q | q
      · rw [cd_ins_l q]; intro e; have := r y (by omega); omega
      · intro _; omega
      · rw [cd_ins_g q]; intro e; have := r (y - 1) (by omega); omega
    · rw [cd_ins_g z]
      have rx := r (x - 1) (by omega)
      rcases Nat.lt_trichotomy y a with q | q | q
      · rw [cd_ins_l q]; intro e; have := inj (x - 1) y (by omega) (by omega) e; omega
      · rw [cd_ins_e q]; intro e; omega
      · rw [cd_ins_g q]; intro e; have := inj (x - 1) (y - 1) (by omega) (by omega) e; omega
  · rcases Nat.lt_trichotomy y a with q | q | q
    · rw [cd_ins_l q, cd_ins_l (show x < a by omega)]
      exact srt x y hx (by omega)
    · rw [cd_ins_e q, cd_ins_l (show x < a by omega)]
      have k1 : key (f + i) ≤ key (o (a - 1)) := by
        rcases h2 with e | e
        · omega
        · exact e
      by_cases z : x = a - 1
      · rw [z]; exact k1
      · exact Nat.le_trans k1 (srt x (a - 1) (by omega) (by omega))
    · rw [cd_ins_g q]
      rcases Nat.lt_trichotomy x a with z | z | z
      · rw [cd_ins_l z]
        exact srt x (y - 1) (by omega) (by omega)
      · rw [cd_ins_e z]
        have := h1 (y - 1) (by omega) (by omega)
        omega
      · rw [cd_ins_g z]
        exact srt (x - 1) (y - 1) (by omega) (by omega)
section
variable {st fw fh : Int32} {sh tr ti un so sz sp : Nat → Int32}
noncomputable def cd_key (un : Nat → Int32) (t : Nat) : Nat := cd_cn (fun i => bt (un t) i = true) 16
theorem cd_key16 (un : Nat → Int32) (t : Nat) : cd_key un t ≤ 16 := cd_cn_n _ _
theorem cd_x_s108 {post : SX → Prop} {J : Int32 → (Nat → Int32) → (Nat → Int32) → (Nat → Int32) → (Nat → Int32) → (Nat → Int32) → (Nat → Int32) → (Nat → Int32) → (Nat → Int32) → Prop} {f m i a : Nat} {od : Nat → Int32} (h16 : f + m ≤ 16) (hi : i < m) (ha : a ≤ i) (hJ : J (nI (i + 1)) sh tr ti un (upd od (f + a) (nI (f + i))) so sz sp) : wX_sort_108 post J (nI f) (nI m) (nI i) (nI (f + i)) (nI a) fw fh st sh tr ti un od so sz sp := by
  unfold wX_sort_108
  rw [nI_add, nI_clamp (n := f + a) (by omega), cd_nar8 (j := f + i) (by omega)]
  exact ⟨vp_in_nI (by omega) (by omega), nm_e (nm_r (e' := nI (i + 1)) (nI_1 i) hJ)⟩
theorem cd_x_s31 {post : SX → Prop} {J : Int32 → (Nat → Int32) → (Nat → Int32) → (Nat → Int32) → (Nat → Int32) → (Nat → Int32) → (Nat → Int32) → (Nat → Int32) → (Nat → Int32) → Prop} {f m i : Nat} {o : Nat → Nat} {od0 : Nat → Int32} (h16 : f + m ≤ 16) (hi : i < m) (hso : cd_so (cd_key un) f i o) (hJ : ∀ (o' : Nat → Nat) (od' : Nat → Int32), cd_so (cd_key un) f (i + 1) o' → (∀ j, j < i + 1 → od' (f + j) = nI (o' j)) → (∀ j, (j < f ∨ f + m ≤ j) → od' j = od0 j) → J (nI (i + 1)) sh tr ti un od' so sz sp) : ∀ (a n : Nat) (od : Nat → Int32), a ≤ i → a + 2 ≤ n → (∀ j, j < a → od (f + j) = nI (o j)) → (∀ j, a < j → j ≤ i → od (f + j) = nI (o (j - 1))) → (∀ j, a ≤ j → j < i → cd_key un (o j) < cd_key un (f + i)) → (∀ j, (j < f ∨ f + m ≤ j) → od j = od0 j) → wX_sort_31 post J (nI f) (nI m) (nI i) (nI (f + i)) (nI (cd_key un (f + i))) fw fh st n (nI a) 1 sh tr ti un od so sz sp := by
  have fin : ∀ (a : Nat) (od : Nat → Int32), a ≤ i → (∀ j, j < a → od (f + j) = nI (o j)) → (∀ j, a < j → j ≤ i → od (f + j) = nI (o (j - 1))) → (∀ j, a ≤ j → j < i → cd_key un (o j) < cd_key un (f + i)) → (a = 0 ∨ cd_key un (f + i) ≤ cd_key un (o (a - 1))) → (∀ j, (j < f ∨ f + m ≤ j) → od j = od0 j) → wX_sort_108 post J (nI f) (nI m) (nI i) (nI (f + i)) (nI a) fw fh st sh tr ti un od so sz sp := by
    intro a od ha g1 g2 g3 g4 g5
    refine cd_x_s108 h16 hi ha (hJ (cd_ins o a (f + i)) _ (cd_so_ins hso ha g3 g4) (fun j hj => ?_) (fun j hj => ?_))
    · rcases Nat.lt_trichotomy j a with z | z | z
      · rw [pk_un (by omega), cd_ins_l z]; exact g1 j z
      · rw [z, pk_us, cd_ins_e rfl]
      · rw [pk_un (by omega), cd_ins_g z]; exact g2 j z (by omega)
    · rw [pk_un (by omega)]
      exact g5 j hj
  intro a
  induction a with
  | zero =>
    intro n od ha hn g1 g2 g3 g5
    obtain ⟨n', rfl⟩ : ∃ n', n = n' + 1 := ⟨n - 1, by omega⟩
    exact br_t (show nI 0 ≤ 0 from by decide) (fin 0 od ha g1 g2 g3 (Or.inl rfl) g5)
  | succ a ih =>
    intro n od ha hn g1 g2 g3 g5
    obtain ⟨n', rfl⟩ : ∃ n', n = n' + 2 := ⟨n - 2, by omega⟩
    have k1 := cd_key16 un (f + i)
    have k2 := cd_key16 un (o a)
    have ra := hso.1 a (by omega)
    have e1 : nI f + nI (a + 1) = nI (f + (a + 1)) := nI_add _ _
    have e2 : nI (f + (a + 1)) - 1 = nI (f + a) := nI_pred (f + a)
    have ea : od (f + a) = nI (o a) := g1 a (by omega)
    refine br_f (nI_nle (by omega) (by omega)) (br_f cd_ne10 ?_)
    rw [e1, e2, nI_clamp (n := f + a) (by omega), ea, nI_clamp (n := o a) (by omega)]
    refine ⟨vp_in_nI (by omega) (by omega), vp_in_nI (by omega) (by omega), cd_x_size _ ?_⟩
    by_cases z : cd_key un (f + i) ≤ cd_key un (o a)
    · refine br_t (nI_le (b := cd_key un (o a)) z (by omega)) (br_t rfl ?_)
      exact br_f (nI_nle (by omega) (by omega)) (br_t rfl (fin (a + 1) od ha g1 g2 g3 (Or.inr z) g5))
    · refine br_f (nI_ge (a := cd_key un (o a)) (b := cd_key un (f + i)) (by omega) (by omega)) (br_f cd_ne10 ?_)
      rw [e1, e2, nI_clamp (n := f + a) (by omega), nI_clamp (n := f + (a + 1)) (by omega), ea, cd_nar (j := o a) (by omega)]
      refine ⟨vp_in_nI (by omega) (by omega), vp_in_nI (by omega) (by omega), nm_e (nm_r (e' := nI a) (pk_m1 a) (ih (n' + 1) _ (by omega) (by omega) (fun j hj => ?_) (fun j h1 h2 => ?_) (fun j h1 h2 => ?_) (fun j hj => ?_)))⟩
      · rw [pk_un (by omega)]; exact g1 j (by omega)
      · by_cases q : j = a + 1
        · rw [q, pk_us]; rfl
        · rw [pk_un (by omega)]; exact g2 j (by omega) h2
      · by_cases q : j = a
        · rw [q]; omega
        · exact g3 j (by omega) h2
      · rw [pk_un (by omega)]; exact g5 j hj
theorem cd_x_s2 {post : SX → Prop} {f m : Nat} {od0 : Nat → Int32} (h16 : f + m ≤ 16) (hp : ∀ (o : Nat → Nat) (od : Nat → Int32), cd_so (cd_key un) f m o → (∀ j, j < m → od (f + j) = nI (o j)) → (∀ j, (j < f ∨ f + m ≤ j) → od j = od0 j) → post (fw, fh, st, sh, tr, ti, un, od, so, sz, sp)) : ∀ (d i : Nat) (o : Nat → Nat) (od : Nat → Int32), i + d = m → cd_so (cd_key un) f i o → (∀ j, j < i → od (f + j) = nI (o j)) → (∀ j, (j < f ∨ f + m ≤ j) → od j = od0 j) → wX_sort_2 post (nI f) (nI m) fw fh st (d + 1) (nI i) sh tr ti un od so sz sp := by
  intro d
  induction d with
  | zero =>
    intro i o od hi h1 h2 h3
    have e : i = m := by omega
    subst e
    exact br_t (nI_le (by omega) (by omega)) (hp o od h1 h2 h3)
  | succ d ih =>
    intro i o od hi h1 h2 h3
    refine br_f (nI_ge (by omega) (by omega)) (nm_r (e' := nI (f + i)) (nI_add f i) ⟨vp_in_nI (by omega) (by omega), cd_x_size _ ?_⟩)
    rw [nI_clamp (n := f + i) (by omega)]
    exact ⟨i + 2, cd_x_s31 h16 (by omega) h1 (fun o' od' a b c => ih (i + 1) o' od' (by omega) a b c) i (i + 2) od (Nat.le_refl _) (Nat.le_refl _) h2 (fun j a b => by omega) (fun j a b => by omega) h3⟩
theorem cd_x_sort {post : SX → Prop} {f m : Nat} {od : Nat → Int32} (h16 : f + m ≤ 16) (hp : ∀ (o : Nat → Nat) (od' : Nat → Int32), cd_so (cd_key un) f m o → (∀ j, j < m → od' (f + j) = nI (o j)) → (∀ j, (j < f ∨ f + m ≤ j) → od' j = od j) → post (fw, fh, st, sh, tr, ti, un, od', so, sz, sp)) : wpX_sort post (fw, fh, st, sh, tr, ti, un, od, so, sz, sp) (nI f) (nI m) :=
  ⟨m + 1, cd_x_s2 h16 hp m 0 (fun j => j) od (by omega) ⟨fun j hj => by omega, fun a b ha => by omega, fun a b ha hb => by omega⟩ (fun j hj => by omega) (fun j _ => rfl)⟩
end
/-- both sorts give an order -/
theorem cd_O_of {w h : Nat} {ab : Nat → Nat → Prop} {un : Nat → Int32} (hw : w ≤ 8) (hh : h ≤ 8) (hu : cd_UN w h ab un) {o1 o2 : Nat → Nat} (s1 : cd_so (cd_key un) 0 w o1) (s2 : cd_so (cd_key un) 8 h o2) : cd_O w h ab (fun x => if x < 8 then o1 x else o2 (x - 8)) := by
  have a1 : ∀ i, i < w → (fun x => if x < 8 then o1 x else o2 (x - 8)) i = o1 i := fun i hi => if_pos (by omega)
  have a2 : ∀ i, (fun x => if x < 8 then o1 x else o2 (x - 8)) (8 + i) = o2 i := fun i => by
    show (if 8 + i < 8 then o1 (8 + i) else o2 (8 + i - 8)) = o2 i
    rw [if_neg (by omega), show 8 + i - 8 = i from by omega]
  have k1 : ∀ i, i < w → cd_key un (o1 i) = cd_sc h ab (o1 i) := fun i hi => cd_sc_un hw hh hu (by have := s1.1 i hi; omega)
  have k2 : ∀ i, i < h → cd_key un (o2 i) = cd_sw w ab (o2 i - 8) := fun i hi => by
    have r := s2.1 i hi
    have := cd_sw_un hw hh hu (r := o2 i - 8) (by omega)
    rw [show 8 + (o2 i - 8) = o2 i from by omega] at this
    exact this
  refine ⟨fun i hi => ?_, fun i j hi hj => ?_, fun i j hi hj => ?_, fun i hi => ?_, fun i j hi hj => ?_, fun i j hi hj => ?_⟩
  · rw [a1 i hi]; have := s1.1 i hi; omega
  · rw [a1 i hi, a1 j hj]; exact s1.2.1 i j hi hj
  · rw [a1 i (by omega), a1 j hj, ← k1 i (by omega), ← k1 j hj]; exact s1.2.2 i j hi hj
  · rw [a2 i]; exact s2.1 i hi
  · rw [a2 i, a2 j]; exact s2.2.1 i j hi hj
  · rw [a2 i, a2 j, ← k2 i (by omega), ← k2 j hj]; exact s2.2.2 i j hi hj
end
section
/-! X: what a beginning lacks; a step closed; all steps -/
def cd_od (w h : Nat) (o : Nat → Nat) (od : Nat → Int32) : Prop := (∀ i, i < w → od i = nI (o i)) ∧ (∀ i, i < h → od (8 + i) = nI (o (8 + i)))
section
variable {w h : Nat} {st : Int32} {sh tr ti un od so sz sp : Nat → Int32} {ab : Nat → Nat → Prop} {o : Nat → Nat}
theorem cd_x_la39 {post : Int32 → Prop} {fw fh x1 : Int32} {q A : Nat} (hq : q ≤ 8) (ho : ∀ i, i < q → od (8 + i) = nI (o (8 + i)) ∧ o (8 + i) < 16) (hp : post ((((x1 * fh) + (nI q * fw)) - (x1 * nI q)) - nI (A + cd_sm (fun i => cd_key un (o (8 + i))) q))) : ∀ d j : Nat, j + d = q → wX_lacking_39 post x1 (nI q) fw fh st sh tr ti un od so sz sp (d + 1) (nI (A + cd_sm (fun i => cd_key un (o (8 + i))) j)) (nI j) := by
  intro d
  induction d with
  | zero =>
    intro j hj
    have e : j = q := by omega
    subst e
    exact br_t (nI_le (by omega) (by omega)) hp
  | succ d ih =>
    intro j hj
    obtain ⟨e1, e2⟩ := ho j (by omega)
    refine br_f (nI_ge (by omega) (by omega)) ?_
    rw [cd_8a, nI_clamp (n := 8 + j) (by omega), e1, nI_clamp (n := o (8 + j)) (by omega)]
    refine ⟨vp_in_nI (by omega) (by omega), vp_in_nI (by omega) (by omega), cd_x_size _ (nm_r (e' := nI (A + cd_sm (fun i => cd_key un (o (8 + i))) (j + 1))) ?_ (nm_r (e' := nI (j + 1)) (nI_1 j) (ih (j + 1) (by omega))))⟩
    rw [nI_add, cd_sm_s, ← Nat.add_assoc]
    rfl
theorem cd_x_la5 {post : Int32 → Prop} {fw fh x2 : Int32} {p : Nat} (hp8 : p ≤ 8) (ho : ∀ i, i < p → od i = nI (o i) ∧ o i < 16) (K : ∃ n : Nat, wX_lacking_39 post (nI p) x2 fw fh st sh tr ti un od so sz sp n (nI (cd_sm (fun i => cd_key un (o i)) p)) 0) : ∀ d j : Nat, j + d = p → wX_lacking_5 post (nI p) x2 fw fh st sh tr ti un od so sz sp (d + 1) (nI (cd_sm (fun i => cd_key un (o i)) j)) (nI j) := by
  intro d
  induction d with
  | zero =>
    intro j hj
    have e : j = p := by omega
    subst e
    exact br_t (nI_le (by omega) (by omega)) K
  | succ d ih =>
    intro j hj
    obtain ⟨e1, e2⟩ := ho j (by omega)
    refine br_f (nI_ge (by omega) (by omega)) ?_
    rw [nI_clamp (n := j) (by omega), e1, nI_clamp (n := o j) (by omega)]
    refine ⟨vp_in_nI (by omega) (by omega), vp_in_nI (by omega) (by omega), cd_x_size _ (nm_r (e' := nI (cd_sm (fun i => cd_key un (o i)) (j + 1))) ?_ (nm_r (e' := nI (j + 1)) (nI_1 j) (ih (j + 1) (by omega))))⟩
    rw [nI_add, cd_sm_s]
    rfl
theorem cd_x_lack {post : Int32 → Prop} (hw : w ≤ 8) (hh : h ≤ 8) (hu : cd_UN w h ab un) (hO : cd_O w h ab o) (hod : cd_od w h o od) {p q : Nat} (hp : p ≤ w) (hq : q ≤ h) (hpost : post (nI (cd_V w h ab (cd_P o p q)))) : wpX_lacking post (nI w, nI h, st, sh, tr, ti, un, od, so, sz, sp) (nI p) (nI q) := by
  have L := cd_P_lack hw hO hp hq
  have e1 : cd_sm (fun i => cd_key un (o i)) p = cd_sm (fun i => cd_sc h ab (o i)) p := cd_sm_c p (fun i hi => cd_sc_un hw hh hu (hO.1 i (by omega)))
  have e2 : cd_sm (fun i => cd_key un (o (8 + i))) q = cd_sm (fun i => cd_sw w ab (o (8 + i) - 8)) q := cd_sm_c q (fun i hi => by
    have r := hO.2.2.2.1 i (by omega)
    have := cd_sw_un hw hh hu (r := o (8 + i) - 8) (by omega)
    rw [show 8 + (o (8 + i) - 8) = o (8 + i) from by omega] at this
    exact this)
  rw [← e1, ← e2] at L
  refine ⟨p + 1, cd_x_la5 (by omega) (fun i hi => ⟨hod.1 i (by omega), by have := hO.1 i (by omega); omega⟩) ⟨q + 1, cd_x_la39 (A := cd_sm (fun i => cd_key un (o i)) p) (by omega) (fun i hi => ⟨hod.2 i (by omega), by have := hO.2.2.2.1 i (by omega); omega⟩) ?_ q 0 (by omega)⟩ p 0 (by omega)⟩
  rw [pk_mul, pk_mul, pk_mul, nI_add, pk_sub (by omega), pk_sub (by omega)]
  have ev : p * h + q * w - p * q - (cd_sm (fun i => cd_key un (o i)) p + cd_sm (fun i => cd_key un (o (8 + i))) q) = cd_V w h ab (cd_P o p q) := by omega
  rw [ev]
  exact hpost
/-! closeStep -/
def cd_mk (so0 so : Nat → Int32) (Q : Nat → Prop) (s : Nat) : Prop := (∀ t, Q t → so t = nI s) ∧ (∀ t, ¬ Q t → so t = so0 t)
theorem cd_mk_s {so0 so : Nat → Int32} {Q Q' : Nat → Prop} {s x : Nat} (H : cd_mk so0 so Q s) (hq : ∀ t, Q' t ↔ Q t ∨ t = x) : cd_mk so0 (upd so x (nI s)) Q' s := by
  refine ⟨fun t ht => ?_, fun t ht => ?_⟩
  · by_cases z : t = x
    · rw [z, pk_us]
    · rw [pk_un z]; exact H.1 t (((hq t).mp ht).resolve_right z)
  · have z : t ≠ x := fun e => ht ((hq t).mpr (Or.inr e))
    rw [pk_un z]
    exact H.2 t (fun q => ht ((hq t).mpr (Or.inl q)))
theorem cd_mk_c {so0 so : Nat → Int32} {Q Q' : Nat → Prop} {s : Nat} (H : cd_mk so0 so Q s) (hq : ∀ t, Q' t ↔ Q t) : cd_mk so0 so Q' s := ⟨fun t ht => H.1 t ((hq t).mp ht), fun t ht => H.2 t (fun q => ht ((hq t).mpr q))⟩
def cd_nw (o : Nat → Nat) (a b p q t : Nat) : Prop := (∃ i, a ≤ i ∧ i < p ∧ t = o i) ∨ (∃ i, b ≤ i ∧ i < q ∧ t = o (8 + i))
theorem cd_x_cs35 {post : SX → Prop} {fw fh : Int32} {a b p q s : Nat} {so0 : Nat → Int32} (hs : s < 17) (hap : a ≤ p) (hbq : b ≤ q) (hp8 : p ≤ 8) (hq8 : q ≤ 8) (ho : ∀ i, i < q → od (8 + i) = nI (o (8 + i)) ∧ o (8 + i) < 16) (hp : ∀ so', cd_mk so0 so' (cd_nw o a b p q) s → post (fw, fh, nI (s + 1), sh, tr, ti, un, od, so', upd sz s (nI (p - a + q - b)), upd sp s (nI (cd_b (a < p))))) : ∀ (d j : Nat) (so : Nat → Int32), j + d = q → b ≤ j → cd_mk so0 so (cd_nw o a b p j) s → wX_closeStep_35 post (nI a) (nI b) (nI p) (nI q) fw fh (nI s) (d + 1) (nI j) sh tr ti un od so sz sp := by
  intro d
  induction d with
  | zero =>
    intro j so hj hb H
    have e : j = q := by omega
    subst e
    have K := hp so H
    refine br_t (nI_le (by omega) (by omega)) ?_
    rw [pk_sub hap, nI_add, pk_sub (by omega), nI_clamp (n := s) (by omega), cd_nar8 (j := p - a + j - b) (by omega)]
    refine ⟨vp_in_nI hs (by omega), nm_e ?_⟩
    by_cases z : a < p
    · rw [cd_bt z] at K
      refine br_f (nI_ge z (by omega)) ?_
      unfold wX_closeStep_104
      rw [nI_clamp (n := s) (by omega), cd_vb1]
      exact ⟨vp_in_nI hs (by omega), nm_e (nm_r (e' := nI (s + 1)) (nI_1 s) K)⟩
    · rw [cd_bf z] at K
      refine br_t (nI_le (by omega) (by omega)) ?_
      unfold wX_closeStep_104
      rw [nI_clamp (n := s) (by omega), cd_vb0]
      exact ⟨vp_in_nI hs (by omega), nm_e (nm_r (e' := nI (s + 1)) (nI_1 s) K)⟩
  | succ d ih =>
    intro j so hj hb H
    obtain ⟨e1, e2⟩ := ho j (by omega)
    refine br_f (nI_ge (by omega) (by omega)) ?_
    rw [cd_8a, nI_clamp (n := 8 + j) (by omega), e1, nI_clamp (n := o (8 + j)) (by omega), cd_nar8 (j := s) (by omega)]
    refine ⟨vp_in_nI (by omega) (by omega), vp_in_nI (by omega) (by omega), nm_e (nm_r (e' := nI (j + 1)) (nI_1 j) (ih (j + 1) _ (by omega) (by omega) (cd_mk_s H (fun t => ?_))))⟩
    constructor
    · rintro (q1 | ⟨i, i1, i2, i3⟩)
      · exact Or.inl (Or.inl q1)
      · by_cases z : i = j
        · rw [z] at i3; exact Or.inr i3
        · exact Or.inl (Or.inr ⟨i, i1, by omega, i3⟩)
    · rintro ((q1 | ⟨i, i1, i2, i3⟩) | q1)
      · exact Or.inl q1
      · exact Or.inr ⟨i, i1, by omega, i3⟩
      · exact Or.inr ⟨j, hb, by omega, q1⟩
theorem cd_x_cs3 {post : SX → Prop} {fw fh x2 x4 : Int32} {a b p s : Nat} {so0 : Nat → Int32} (hs : s < 17) (hp8 : p ≤ 8) (ho : ∀ i, i < p → od i = nI (o i) ∧ o i < 16) (hap : a ≤ p) (K : ∀ so', cd_mk so0 so' (cd_nw o a b p b) s → ∃ n : Nat, wX_closeStep_35 post (nI a) x2 (nI p) x4 fw fh (nI s) n x2 sh tr ti un od so' sz sp) : ∀ (d j : Nat) (so : Nat → Int32), j + d = p → a ≤ j → cd_mk so0 so (cd_nw o a b j b) s → wX_closeStep_3 post (nI a) x2 (nI p) x4 fw fh (nI s) (d + 1) (nI j) sh tr ti un od so sz sp := by
  intro d
  induction d with
  | zero =>
    intro j so hj ha H
    have e : j = p := by omega
    subst e
    exact br_t (nI_le (by omega) (by omega)) (K so H)
  | succ d ih =>
    intro j so hj ha H
    obtain ⟨e1, e2⟩ := ho j (by omega)
    refine br_f (nI_ge (by omega) (by omega)) ?_
    rw [nI_clamp (n := j) (by omega), e1, nI_clamp (n := o j) (by omega), cd_nar8 (j := s) (by omega)]
    refine ⟨vp_in_nI (by omega) (by omega), vp_in_nI (by omega) (by omega), nm_e (nm_r (e' := nI (j + 1)) (nI_1 j) (ih (j + 1) _ (by omega) (by omega) (cd_mk_s H (fun t => ?_))))⟩
    constructor
    · rintro (⟨i, i1, i2, i3⟩ | q1)
      · by_cases z : i = j
        · rw [z] at i3; exact Or.inr i3
        · exact Or.inl (Or.inl ⟨i, i1, by omega, i3⟩)
      · exact Or.inl (Or.inr q1)
    · rintro ((⟨i, i1, i2, i3⟩ | q1) | q1)
      · exact Or.inl ⟨i, i1, by omega, i3⟩
      · exact Or.inr q1
      · exact Or.inl ⟨j, ha, by omega, q1⟩
theorem cd_x_cs {post : SX → Prop} (hw : w ≤ 8) (hh : h ≤ 8) (hO : cd_O w h ab o) (hod : cd_od w h o od) {a b p q s : Nat} (hs : s < 17) (hap : a ≤ p) (hbq : b ≤ q) (hpw : p ≤ w) (hqh : q ≤ h) (hp : ∀ so', cd_mk so so' (cd_nw o a b p q) s → post (nI w, nI h, nI (s + 1), sh, tr, ti, un, od, so', upd sz s (nI (p - a + q - b)), upd sp s (nI (cd_b (a < p))))) : wpX_closeStep post (nI w, nI h, nI s, sh, tr, ti, un, od, so, sz, sp) (nI a) (nI b) (nI p) (nI q) := by
  refine ⟨p - a + 1, cd_x_cs3 (b := b) hs (by omega) (fun i hi => ⟨hod.1 i (by omega), by have := hO.1 i (by omega); omega⟩) hap (fun so' H => ⟨q - b + 1, cd_x_cs35 hs hap hbq (by omega) (by omega) (fun i hi => ⟨hod.2 i (by omega), by have := hO.2.2.2.1 i (by omega); omega⟩) hp (q - b) b so' (by omega) (Nat.le_refl _) H⟩) (p - a) a so (by omega) (Nat.le_refl _) ⟨fun t ht => ?_, fun t _ => rfl⟩⟩
  rcases ht with ⟨i, i1, i2, _⟩ | ⟨i, i1, i2, _⟩ <;> omega
theorem cd_nw_iff (hw : w ≤ 8) (hO : cd_O w h ab o) {a b p q t : Nat} (hap : a ≤ p) (hbq : b ≤ q) (hpw : p ≤ w) (hqh : q ≤ h) : cd_nw o a b p q t ↔ cd_P o p q t ∧ ¬ cd_P o a b t := by
  constructor
  · rintro (⟨i, i1, i2, i3⟩ | ⟨i, i1, i2, i3⟩)
    · refine ⟨Or.inl ⟨i, i2, i3⟩, ?_⟩
      have r := hO.1 i (by omega)
      rintro (⟨j, j1, j2⟩ | ⟨j, j1, j2⟩)
      · have := hO.2.1 i j (by omega) (by omega) (i3.symm.trans j2)
        omega
      · have := hO.2.2.2.1 j (by omega)
        omega
    · refine ⟨Or.inr ⟨i, i2, i3⟩, ?_⟩
      have r := hO.2.2.2.1 i (by omega)
      rintro (⟨j, j1, j2⟩ | ⟨j, j1, j2⟩)
      · have := hO.1 j (by omega)
        omega
      · have := hO.2.2.2.2.1 i j (by omega) (by omega) (i3.symm.trans j2)
        omega
  · rintro ⟨(⟨i, i1, i2⟩ | ⟨i, i1, i2⟩), n⟩
    · by_cases z : i < a
      · exact absurd (Or.inl ⟨i, z, i2⟩) n
      · exact Or.inl ⟨i, by omega, i1, i2⟩
    · by_cases z : i < b
      · exact absurd (Or.inr ⟨i, z, i2⟩) n
      · exact Or.inr ⟨i, by omega, i1, i2⟩
/-! the loop over the beginnings -/
def cd_IV (w h : Nat) (ab : Nat → Nat → Prop) (o : Nat → Nat) (k a b s : Nat) (so sz sp : Nat → Int32) : Prop := ∃ L : Nat → Nat, cd_Ch w h ab o k a b s L ∧ (∀ t, cd_P o a b t → so t = nI (L t)) ∧ (∀ j, j < s → sz j = nI (cd_cn (fun t => cd_P o a b t ∧ L t = j) 16)) ∧ (∀ j, j < s → sp j = nI (cd_b (∃ t, t < 8 ∧ cd_P o a b t ∧ L t = j)))
theorem cd_IV_close (hw : w ≤ 8) (hh : h ≤ 8) (hO : cd_O w h ab o) {k a b s p q : Nat} {so' : Nat → Int32} (H : cd_IV w h ab o k a b s so sz sp) (hp : p ≤ w) (hq : q ≤ h) (hap : a ≤ p) (hbq : b ≤ q) (hlt : a + b < p + q) (hk : (p + q) * (w + 1) + p = k) (hL : cd_Li (cd_C w h ab) (cd_P o p q)) (hm : cd_mk so so' (cd_nw o a b p q) s) : cd_IV w h ab o (k + 1) p q (s + 1) so' (upd sz s (nI (p - a + q - b))) (upd sp s (nI (cd_b (a < p)))) := by
  obtain ⟨L, C, g1, g2, g3⟩ := H
  have nw : ∀ t, cd_nw o a b p q t ↔ cd_P o p q t ∧ ¬ cd_P o a b t := fun t => cd_nw_iff hw hO hap hbq hp hq
  have l1 : ∀ t, cd_P o a b t → (fun t => @ite Nat (cd_P o a b t) (Classical.propDecidable _) (L t) s) t = L t := fun t ht => if_pos ht
  have l2 : ∀ t, cd_P o p q t → ¬ cd_P o a b t → (fun t => @ite Nat (cd_P o a b t) (Classical.propDecidable _) (L t) s) t = s := fun t _ ht => if_neg ht
  refine ⟨fun t => @ite Nat (cd_P o a b t) (Classical.propDecidable _) (L t) s, cd_Ch_close hw hO C hp hq hap hbq hlt hk hL l1 l2, ?_⟩
  generalize (fun t => @ite Nat (cd_P o a b t) (Classical.propDecidable _) (L t) s) = L' at l1 l2 ⊢
  have old : ∀ t j, j < s → ((cd_P o p q t ∧ L' t = j) ↔ (cd_P o a b t ∧ L t = j)) := by
    intro t j hj
    constructor
    · rintro ⟨x, y⟩
      by_cases z : cd_P o a b t
      · rw [l1 t z] at y; exact ⟨z, y⟩
      · rw [l2 t x z] at y; omega
    · rintro ⟨x, y⟩
      exact ⟨cd_P_mono hap hbq x, by rw [l1 t x]; exact y⟩
  have new : ∀ t, (cd_P o p q t ∧ L' t = s) ↔ (cd_P o p q t ∧ ¬ cd_P o a b t) := by
    intro t
    constructor
    · rintro ⟨x, y⟩
      refine ⟨x, fun z => ?_⟩
      have := C.2.2.1 t z
      rw [l1 t z] at y
      omega
    · rintro ⟨x, y⟩
      exact ⟨x, l2 t x y⟩
  refine ⟨fun t ht => ?_, fun j hj => ?_, fun j hj => ?_⟩
  · by_cases z : cd_P o a b t
    · rw [hm.2 t (fun q1 => ((nw t).mp q1).2 z), l1 t z]
      exact g1 t z
    · rw [hm.1 t ((nw t).mpr ⟨ht, z⟩), l2 t ht z]
  · by_cases z : j = s
    · rw [z, pk_us, cd_cn_c 16 (fun t _ => new t), cd_new_c hw hh hO hp hq hap hbq]
      exact congrArg nI (by omega)
    · rw [pk_un z, cd_cn_c 16 (fun t _ => old t j (by omega))]
      exact g2 j (by omega)
  · by_cases z : j = s
    · rw [z, pk_us]
      congr 1
      refine cd_bc ((cd_new_w hw hO hp hq hap hbq).symm.trans ⟨?_, ?_⟩)
      · rintro ⟨t, t1, t2⟩
        exact ⟨t, t1, (new t).mpr t2⟩
      · rintro ⟨t, t1, t2⟩
        exact ⟨t, t1, (new t).mp t2⟩
    · rw [pk_un z, g3 j (by omega)]
      congr 1
      refine cd_bc ⟨?_, ?_⟩
      · rintro ⟨t, t1, t2⟩
        exact ⟨t, t1, (old t j (by omega)).mpr t2⟩
      · rintro ⟨t, t1, t2⟩
        exact ⟨t, t1, (old t j (by omega)).mp t2⟩
theorem cd_IV_skip {k a b s : Nat} (H : cd_IV w h ab o k a b s so sz sp) (hn : ∀ p q, p ≤ w → q ≤ h → a ≤ p → b ≤ q → a + b < p + q → (p + q) * (w + 1) + p = k → ¬ cd_Li (cd_C w h ab) (cd_P o p q)) : cd_IV w h ab o (k + 1) a b s so sz sp := by
  obtain ⟨L, C, g⟩ := H
  exact ⟨L, cd_Ch_skip C hn, g⟩
/-- what the steps are at the end -/
def cd_FS (w h : Nat) (ab : Nat → Nat → Prop) (m : Nat) (L : Nat → Nat) (so sz sp : Nat → Int32) : Prop := cd_Lv w h ab m L ∧ (∀ t, cd_T w h t → so t = nI (L t)) ∧ (∀ j, j < m → sz j = nI (cd_sz w h L j)) ∧ (∀ j, j < m → sp j = nI (cd_b (cd_wp w h L j)))
theorem cd_IV_end (hw : w ≤ 8) (hh : h ≤ 8) (hO : cd_O w h ab o) {k a b s : Nat} (H : cd_IV w h ab o k a b s so sz sp) (hk : (w + h + 1) * (w + 1) ≤ k) : ∃ L, cd_FS w h ab s L so sz sp := by
  obtain ⟨L, C, g1, g2, g3⟩ := H
  obtain ⟨ea, eb⟩ := cd_Ch_end hO C hk
  subst ea eb
  have PT : cd_P o a b = cd_T a b := funext (fun t => propext ⟨fun q => cd_P_T hO (Nat.le_refl _) (Nat.le_refl _) q, fun q => cd_P_all hO q⟩)
  obtain ⟨⟨_, _, c0⟩, c1, c2, c3, c4, _⟩ := C
  rw [PT] at g1 g2 g3 c1 c2 c3 c4
  exact ⟨L, ⟨by omega, c1, c2, c3, c4⟩, g1, g2, g3⟩
theorem cd_x_fs34 {post : SX → Prop} (h1 : 1 ≤ w) (hw : w ≤ 8) (hh : h ≤ 8) (hu : cd_UN w h ab un) (hO : cd_O w h ab o) (hod : cd_od w h o od) (hp : ∀ (m : Nat) (L : Nat → Nat) (so sz sp : Nat → Int32), cd_FS w h ab m L so sz sp → post (nI w, nI h, nI m, sh, tr, ti, un, od, so, sz, sp)) : ∀ (d k a b s : Nat) (so sz sp : Nat → Int32), k + d = (w + h + 1) * (w + 1) → cd_IV w h ab o k a b s so sz sp → wX_findSteps_34 post (d + 1) (nI a) (nI b) (nI k) (nI w) (nI h) (nI s) sh tr ti un od so sz sp := by
  have hb : (w + h + 1) * (w + 1) ≤ 17 * 9 := Nat.mul_le_mul (by omega) (by omega)
  have e0 : (nI w + nI h + 1) * (nI w + 1) = nI ((w + h + 1) * (w + 1)) := by rw [nI_add, nI_1, nI_1, pk_mul]
  intro d
  induction d with
  | zero =>
    intro k a b s so sz sp hk H
    obtain ⟨L, F⟩ := cd_IV_end hw hh hO H (by omega)
    refine br_t ?_ (hp s L so sz sp F)
    rw [e0]
    exact nI_le (by omega) (by omega)
  | succ d ih =>
    intro k a b s so sz sp hk H
    have hkw : k < (w + 1) * (w + h + 1) := by rw [Nat.mul_comm]; omega
    obtain ⟨p, S, hpw, hS, he, ep, eS⟩ : ∃ p S : Nat, p < w + 1 ∧ S < w + h + 1 ∧ S * (w + 1) + p = k ∧ k % (w + 1) = p ∧ k / (w + 1) = S := ⟨k % (w + 1), k / (w + 1), Nat.mod_lt _ (by omega), Nat.div_lt_of_lt_mul hkw, Nat.div_add_mod' k (w + 1), rfl, rfl⟩
    have uni : ∀ p' q', p' ≤ w → (p' + q') * (w + 1) + p' = k → p' + q' = S ∧ p' = p := fun p' q' a1 a2 => cd_dm (by omega) hpw (a2.trans he.symm)
    obtain ⟨L0, C0, _⟩ := id H
    obtain ⟨⟨ca, cb, cs⟩, _⟩ := C0
    have nx : ∀ so sz sp a b s, cd_IV w h ab o (k + 1) a b s so sz sp → ∀ x : Int32, x = nI k + 1 → wX_findSteps_34 post (d + 1) (nI a) (nI b) x (nI w) (nI h) (nI s) sh tr ti un od so sz sp := fun so sz sp a b s H' => nm_r (e' := nI (k + 1)) (nI_1 k) (ih (k + 1) a b s so sz sp (by omega) H')
    have skip : (∀ p' q', p' = p → p' + q' = S → p' ≤ w → q' ≤ h → a ≤ p' → b ≤ q' → a + b < p' + q' → ¬ cd_Li (cd_C w h ab) (cd_P o p' q')) → ∀ x : Int32, x = nI k + 1 → wX_findSteps_34 post (d + 1) (nI a) (nI b) x (nI w) (nI h) (nI s) sh tr ti un od so sz sp := fun g => nx so sz sp a b s (cd_IV_skip H (fun p' q' a1 a2 a3 a4 a5 a6 => g p' q' (uni p' q' a1 a6).2 (uni p' q' a1 a6).1 a1 a2 a3 a4 a5))
    refine br_f ?_ ?_
    · rw [e0]
      exact nI_ge (by omega) (by omega)
    rw [nI_1]
    refine ⟨nI_ne0 (by omega) (by omega), nm_r (e' := nI p) ((pk_rem (by omega) (by omega) (by omega)).trans (congrArg nI ep)) ⟨nI_ne0 (by omega) (by omega), ?_⟩⟩
    by_cases z1 : S < p
    · refine nm_r (e' := nI S - nI p) (by rw [pk_div (by omega) (by omega) (by omega), eS]) (br_t (pk_sneg (by omega) z1) ?_)
      exact skip (fun p' q' a1 a2 => by omega)
    · obtain ⟨q, hq⟩ : ∃ q, S = p + q := ⟨S - p, by omega⟩
      refine nm_r (e' := nI q) (by rw [pk_div (by omega) (by omega) (by omega), eS, pk_sub (by omega)]; exact congrArg nI (by omega)) (br_f (nI_pos (by omega)) ?_)
      by_cases z2 : h < q
      · refine br_t (nI_lt z2 (by omega)) (skip (fun p' q' a1 a2 => by omega))
      · refine br_f (nI_nlt (by omega) (by omega)) ?_
        by_cases z3 : p < a
        · refine br_t (nI_lt z3 (by omega)) (skip (fun p' q' a1 a2 => by omega))
        · refine br_f (nI_nlt (by omega) (by omega)) ?_
          by_cases z4 : q < b
          · refine br_t (nI_lt z4 (by omega)) (skip (fun p' q' a1 a2 => by omega))
          · refine br_f (nI_nlt (by omega) (by omega)) ?_
            rw [nI_add, nI_add]
            by_cases z5 : p + q ≤ a + b
            · refine br_t (nI_le z5 (by omega)) (skip (fun p' q' a1 a2 => by omega))
            · refine br_f (nI_ge (by omega) (by omega)) (cd_x_lack hw hh hu hO hod (by omega) (by omega) ?_)
              have vb : cd_V w h ab (cd_P o p q) < 2 ^ 31 := by
                have := cd_P_lack hw hO (show p ≤ w by omega) (show q ≤ h by omega)
                have m1 : p * h ≤ 8 * 8 := Nat.mul_le_mul (by omega) (by omega)
                have m2 : q * w ≤ 8 * 8 := Nat.mul_le_mul (by omega) (by omega)
                omega
              by_cases z6 : cd_V w h ab (cd_P o p q) = 0
              · rw [z6]
                have li := (cd_P_li hO (show p ≤ w by omega) (show q ≤ h by omega)).mp z6
                refine br_t rfl (cd_x_cs hw hh hO hod (by omega) (by omega) (by omega) (by omega) (by omega) (fun so' M => ?_))
                exact nx so' _ _ p q (s + 1) (cd_IV_close hw hh hO H (by omega) (by omega) (by omega) (by omega) (by omega) (by rw [← hq]; exact he) li M)
              · refine br_f (nI_ne0 (by omega) vb) (skip (fun p' q' a1 a2 b1 b2 _ _ _ li => z6 ?_))
                have e2 : q' = q := by omega
                rw [a1, e2] at li
                exact (cd_P_li hO (show p ≤ w by omega) (show q ≤ h by omega)).mpr li
end
section
variable {w h : Nat} {st : Int32} {sh tr ti un od so sz sp : Nat → Int32}
theorem cd_x_fs {post : SX → Prop} (h1 : 1 ≤ w) (h2 : w ≤ 8) (h4 : h ≤ 8) (hok : cd_Ok sh tr ti) (hp : ∀ (m : Nat) (L : Nat → Nat) (un od so sz sp : Nat → Int32), cd_FS w h (cd_ab sh tr ti) m L so sz sp → post (nI w, nI h, nI m, sh, tr, ti, un, od, so, sz, sp)) : wpX_findSteps post (nI w, nI h, st, sh, tr, ti, un, od, so, sz, sp) := by
  unfold wpX_findSteps
  dsimp only
  refine cd_x_fu h1 h2 h4 hok (fun un' hu => ?_)
  dsimp only
  refine cd_x_sort (f := 0) (m := w) (by omega) (fun o1 od1 s1 a1 b1 => ?_)
  dsimp only
  refine cd_x_sort (f := 8) (m := h) (by omega) (fun o2 od2 s2 a2 b2 => ?_)
  dsimp only
  have hO := cd_O_of h2 h4 hu s1 s2
  have hod : cd_od w h (fun x => if x < 8 then o1 x else o2 (x - 8)) od2 := by
    refine ⟨fun i hi => ?_, fun i hi => ?_⟩
    · show od2 i = nI (if i < 8 then o1 i else o2 (i - 8))
      rw [if_pos (by omega), b2 i (Or.inl (by omega))]
      have := a1 i hi
      rw [Nat.zero_add] at this
      exact this
    · show od2 (8 + i) = nI (if 8 + i < 8 then o1 (8 + i) else o2 (8 + i - 8))
      rw [if_neg (by omega), show 8 + i - 8 = i from by omega]
      exact a2 i hi
  have pos : 1 ≤ (w + h + 1) * (w + 1) := Nat.mul_pos (by omega) (by omega)
  exact ⟨(w + h + 1) * (w + 1) - 1 + 1, cd_x_fs34 h1 h2 h4 hu hO hod (fun m L so sz sp F => hp m L un' od2 so sz sp F) ((w + h + 1) * (w + 1) - 1) 1 0 0 0 so sz sp (by omega) ⟨fun _ => 0, cd_Ch_0 _, fun t ht => absurd ht cd_P_00, fun j hj => by omega, fun j hj => by omega⟩⟩
end
end
section
/-! X: runs of single steps; lifts, divisions -/
section
variable {w h : Nat} {sh tr ti un od so sz sp : Nat → Int32} {ab : Nat → Nat → Prop} {m : Nat} {L : Nat → Nat} {fw fh : Int32}
theorem cd_x_ff2 {post : Int32 → Prop} (F : cd_FS w h ab m L so sz sp) {s : Nat} (hs : s < m) (hp : ∀ n, 1 ≤ n → s + n ≤ m → (∀ l, s ≤ l → l < s + n → cd_gs (cd_lk w h L) l = s) → (s + n = m ∨ cd_gs (cd_lk w h L) (s + n) = s + n) → post (nI n)) : ∀ d n : Nat, s + n + d = m → 1 ≤ n → (∀ l, s ≤ l → l < s + n → cd_gs (cd_lk w h L) l = s) → wX_freeFrom_2 post (nI s) fw fh (nI m) sh tr ti un od so sz sp (d + 1) (nI n) := by
  obtain ⟨V, f1, f2, f3⟩ := F
  have m16 := V.1
  have sz1 : ∀ j, j < m → (sz j = 1 ↔ cd_sz w h L j = 1) := by
    intro j hj
    rw [f2 j hj]
    have : cd_sz w h L j ≤ 16 := cd_cn_n _ _
    exact nI_eq (b := 1) (by omega) (by omega)
  intro d
  induction d with
  | zero =>
    intro n hn n1 g
    have stop := hp n n1 (by omega) g (Or.inl (by omega))
    refine ⟨vp_in_nI (by omega) (by omega), br_c (fun _ => ?_) (fun _ => stop)⟩
    rw [nI_add]
    exact br_t (nI_le (by omega) (by omega)) stop
  | succ d ih =>
    intro n hn n1 g
    have gl := g (s + n - 1) (by omega) (by omega)
    have e1 : s + n - 1 + 1 = s + n := by omega
    have stop : ¬ cd_lk w h L (s + n - 1) → post (nI n) := fun nl => hp n n1 (by omega) g (Or.inr (by
      have := cd_gs_f (lk := cd_lk w h L) (l := s + n - 1) nl
      rw [e1] at this
      exact this))
    have szs : cd_sz w h L (s + n - 1) = 1 → cd_sz w h L s = 1 := by
      intro q
      by_cases z : n = 1
      · rw [show s + n - 1 = s from by omega] at q; exact q
      · exact cd_run_sz (l := s + n - 1) (by omega) (by omega) (by omega)
    have szl : cd_sz w h L s = 1 → cd_sz w h L (s + n - 1) = 1 := by
      intro q
      by_cases z : n = 1
      · rw [show s + n - 1 = s from by omega]; exact q
      · exact cd_run_sz (l := s + n - 1) (by omega) (by omega) (by omega)
    have wps : cd_wp w h L s ↔ cd_wp w h L (s + n - 1) := cd_run_wp (l := s + n - 1) (n - 1) s (by omega) (by omega)
    refine ⟨vp_in_nI (by omega) (by omega), ?_⟩
    rw [nI_clamp (n := s) (by omega), nI_add, nI_clamp (n := s + n) (by omega)]
    refine br_c (fun q1 => br_f (nI_ge (by omega) (by omega)) ⟨vp_in_nI (by omega) (by omega), br_c (fun q2 => ⟨vp_in_nI (by omega) (by omega), vp_in_nI (by omega) (by omega), br_c (fun q3 => ?_) (fun q3 => ?_)⟩) (fun q2 => ?_)⟩) (fun q1 => ?_)
    · have lk : cd_lk w h L (s + n - 1) := by
        refine ⟨szl ((sz1 s hs).mp q1), ?_, ?_⟩
        · rw [e1]; exact (sz1 (s + n) (by omega)).mp q2
        · rw [e1]
          rw [f3 (s + n) (by omega), f3 s hs, cd_nb] at q3
          exact wps.symm.trans q3.symm
      refine nm_r (e' := nI (n + 1)) (nI_1 n) (ih (n + 1) (by omega) (by omega) (fun l l1 l2 => ?_))
      by_cases z : l = s + n
      · have := cd_gs_t (lk := cd_lk w h L) lk
        rw [e1, gl] at this
        rw [z]
        exact this
      · exact g l l1 (by omega)
    · refine stop (fun lk => q3 ?_)
      have l3 := lk.2.2
      rw [e1] at l3
      rw [f3 (s + n) (by omega), f3 s hs, cd_nb]
      exact (wps.trans l3).symm
    · refine stop (fun lk => q2 ?_)
      have l2 := lk.2.1
      rw [e1] at l2
      exact (sz1 (s + n) (by omega)).mpr l2
    · exact stop (fun lk => q1 ((sz1 s hs).mpr (szs lk.1)))
theorem cd_x_ff {post : Int32 → Prop} (F : cd_FS w h ab m L so sz sp) {s : Nat} (hs : s < m) (hg : cd_gs (cd_lk w h L) s = s) (hp : ∀ n, 1 ≤ n → s + n ≤ m → (∀ l, s ≤ l → l < s + n → cd_gs (cd_lk w h L) l = s) → (s + n = m ∨ cd_gs (cd_lk w h L) (s + n) = s + n) → post (nI n)) : wpX_freeFrom post (fw, fh, nI m, sh, tr, ti, un, od, so, sz, sp) (nI s) :=
  ⟨m - (s + 1) + 1, cd_x_ff2 F hs hp (m - (s + 1)) 1 (by omega) (Nat.le_refl _) (fun l a b => by rw [show l = s from by omega]; exact hg)⟩
theorem cd_lsum (gs : Nat → Nat) (s : Nat) : ∀ n : Nat, (∀ l, s ≤ l → l < s + n → gs l = s) → cd_sm (fun l => 2 ^ (l - gs l)) (s + n) + 1 = cd_sm (fun l => 2 ^ (l - gs l)) s + 2 ^ n := by
  intro n
  induction n with
  | zero => intro _; rfl
  | succ n ih =>
    intro g
    have i := ih (fun l a b => g l a (by omega))
    rw [← Nat.add_assoc, cd_sm_s, g (s + n) (by omega) (by omega), show s + n - s = n from by omega, Nat.pow_succ]
    omega
theorem cd_1shn {n : Nat} (hn : n ≤ 16) : (1 : Int32) <<< (nI n &&& 31) = nI (2 ^ n) := by
  have b : 2 ^ n ≤ 2 ^ 16 := Nat.pow_le_pow_right (by decide) hn
  have e := pk_shlN (n := 1) (nI n &&& 31) n (s_l n (by omega)) (by rw [Nat.one_mul]; omega)
  rw [Nat.one_mul] at e
  exact e
theorem cd_x_li8 {post : Int32 → SX → Prop} (F : cd_FS w h ab m L so sz sp) (hp : post (nI (cd_sm (fun l => 2 ^ (l - cd_gs (cd_lk w h L) l)) m) - 1) (fw, fh, nI m, sh, tr, ti, un, od, so, sz, sp)) : ∀ n s : Nat, m - s < n → s ≤ m → (s = m ∨ cd_gs (cd_lk w h L) s = s) → wX_lifts_8 post fw fh (nI m) sh tr ti un od so sz sp n (nI (cd_sm (fun l => 2 ^ (l - cd_gs (cd_lk w h L) l)) s)) (nI s) := by
  have m16 := F.1.1
  intro n
  induction n with
  | zero => intro s a; omega
  | succ n ih =>
    intro s a b c
    by_cases z : s = m
    · subst z
      exact br_t (nI_le (by omega) (by omega)) hp
    · refine br_f (nI_ge (by omega) (by omega)) (cd_x_ff F (by omega) (c.resolve_left z) (fun r r1 r2 r3 r4 => nm_r (e' := nI (cd_sm (fun l => 2 ^ (l - cd_gs (cd_lk w h L) l)) (s + r))) ?_ (nm_r (e' := nI (s + r)) (nI_add s r) (ih (s + r) (by omega) r2 r4))))
      have e := cd_lsum (cd_gs (cd_lk w h L)) s r r3
      rw [cd_1shn (by omega), nI_add, ← e]
      exact nI_pred _
theorem cd_x_dv25 {post : Int32 → SX → Prop} {J : Int32 → Int32 → Prop} {st : Int32} {s r : Nat} {gs : Nat → Nat} (hr : s + r ≤ 16) (g : ∀ l, s ≤ l → l < s + r → gs l = s) (hJ : J (nI (cd_F gs (s + r))) (nI (s + r))) : ∀ d i : Nat, i + d = r → wX_divisions_25 post J (nI s) (nI r) fw fh st sh tr ti un od so sz sp (d + 1) (nI (cd_F gs (s + i))) (nI (i + 1)) := by
  intro d
  induction d with
  | zero =>
    intro i hi
    have e : i = r := by omega
    subst e
    exact br_t (nI_lt (by omega) (by omega)) (nm_r (e' := nI (s + i)) (nI_add s i) hJ)
  | succ d ih =>
    intro i hi
    refine br_f (nI_nlt (by omega) (by omega)) (nm_r (e' := nI (cd_F gs (s + (i + 1)))) ?_ (nm_r (e' := nI (i + 1 + 1)) (nI_1 (i + 1)) (ih (i + 1) (by omega))))
    rw [pk_mul, ← Nat.add_assoc, cd_F, g (s + i) (by omega) (by omega), show s + i - s = i from by omega]
theorem cd_x_dv8 {post : Int32 → SX → Prop} (F : cd_FS w h ab m L so sz sp) (hp : post (nI (cd_F (cd_gs (cd_lk w h L)) m)) (fw, fh, nI m, sh, tr, ti, un, od, so, sz, sp)) : ∀ n s : Nat, m - s < n → s ≤ m → (s = m ∨ cd_gs (cd_lk w h L) s = s) → wX_divisions_8 post fw fh (nI m) sh tr ti un od so sz sp n (nI (cd_F (cd_gs (cd_lk w h L)) s)) (nI s) := by
  have m16 := F.1.1
  intro n
  induction n with
  | zero => intro s a; omega
  | succ n ih =>
    intro s a b c
    by_cases z : s = m
    · subst z
      exact br_t (nI_le (by omega) (by omega)) hp
    · refine br_f (nI_ge (by omega) (by omega)) (cd_x_ff F (by omega) (c.resolve_left z) (fun r r1 r2 r3 r4 => ⟨r - 1 + 1, ?_⟩))
      have K := cd_x_dv25 (post := post) (J := wX_divisions_8 post fw fh (nI m) sh tr ti un od so sz sp n) (st := nI m) (sh := sh) (tr := tr) (ti := ti) (un := un) (od := od) (so := so) (sz := sz) (sp := sp) (fw := fw) (fh := fh) (gs := cd_gs (cd_lk w h L)) (show s + r ≤ 16 by omega) r3 (ih (s + r) (by omega) r2 r4) (r - 1) 1 (by omega)
      have e : cd_F (cd_gs (cd_lk w h L)) (s + 1) = cd_F (cd_gs (cd_lk w h L)) s := by
        rw [cd_F, c.resolve_left z, Nat.sub_self, Nat.zero_add, Nat.mul_one]
      rw [e] at K
      exact K
end
end
section
/-! Y: for each thread those that must be lifted with it -/
def cd_MI (C : Nat → Nat → Prop) (mu : Nat → Int32) : Prop := (∀ t, t < 16 → bt (mu t) t = true) ∧ (∀ t, t < 16 → ∀ i, i < 32 → bt (mu t) i = true → i < 16 ∧ cd_R C t i)
noncomputable def cd_ms (mu : Nat → Int32) : Nat := cd_sm (fun t => cd_cn (fun i => ¬ bt (mu t) i = true) 32) 16
def cd_cl (w h : Nat) (C : Nat → Nat → Prop) (mu : Nat → Int32) (t u : Nat) : Prop := cd_T w h t → cd_T w h u → C u t → ∀ i, i < 32 → bt (mu u) i = true → bt (mu t) i = true
def cd_MU (C : Nat → Nat → Prop) (mu : Nat → Int32) : Prop := ∀ t, t < 16 → ∀ i, i < 32 → (bt (mu t) i = true ↔ i < 16 ∧ cd_R C t i)
def cd_WI (w h : Nat) (C : Nat → Nat → Prop) (mu0 : Nat → Int32) (x1 : Int32) (mu : Nat → Int32) (t u : Nat) : Prop := cd_MI C mu ∧ ((x1 = 0 ∧ mu = mu0 ∧ (∀ t' u', t' < 16 → u' < 16 → (t' < t ∨ (t' = t ∧ u' < u)) → cd_cl w h C mu0 t' u')) ∨ (x1 = 1 ∧ cd_ms mu < cd_ms mu0))
theorem cd_MI_or {C : Nat → Nat → Prop} {mu : Nat → Int32} (H : cd_MI C mu) {t u : Nat} (hu : u < 16) (hc : C u t) : cd_MI C (upd mu t (mu t ||| mu u)) := by
  refine ⟨fun x hx => ?_, fun x hx i hi => ?_⟩
  · by_cases z : x = t
    · rw [z, pk_us, b_or, H.1 t (by omega), Bool.true_or]
    · rw [pk_un z]; exact H.1 x hx
  · by_cases z : x = t
    · rw [z, pk_us, b_or, Bool.or_eq_true]
      rintro (q | q)
      · exact H.2 t (by omega) i hi q
      · have := H.2 u hu i hi q
        exact ⟨this.1, cd_R_t (cd_R_c hc) this.2⟩
    · rw [pk_un z]; exact H.2 x hx i hi
theorem cd_ms_or {mu : Nat → Int32} {t u : Nat} (ht : t < 16) (hn : ¬ ∀ i, i < 32 → bt (mu u) i = true → bt (mu t) i = true) : cd_ms (upd mu t (mu t ||| mu u)) < cd_ms mu := by
  obtain ⟨i, hi⟩ := Classical.not_forall.mp hn
  obtain ⟨h1, h2⟩ := Classical.not_imp.mp hi
  obtain ⟨h3, h4⟩ := Classical.not_imp.mp h2
  refine cd_sm_lt 16 t ht (fun x _ => ?_) ?_
  · by_cases z : x = t
    · rw [z, pk_us]
      refine cd_cn_le 32 (fun j _ q => ?_)
      rw [b_or, Bool.or_eq_true] at q
      exact fun e => q (Or.inl e)
    · rw [pk_un z]; exact Nat.le_refl _
  · rw [pk_us]
    refine cd_cn_lt 32 i h1 (fun j _ q => ?_) ?_ h4
    · rw [b_or, Bool.or_eq_true] at q
      exact fun e => q (Or.inl e)
    · rw [b_or, Bool.or_eq_true]
      exact fun q => q (Or.inr h3)
theorem cd_MU_of {w h : Nat} {ab : Nat → Nat → Prop} {mu : Nat → Int32} (hw : w ≤ 8) (hh : h ≤ 8) (H : cd_MI (cd_C w h ab) mu) (hc : ∀ t u, t < 16 → u < 16 → cd_cl w h (cd_C w h ab) mu t u) : cd_MU (cd_C w h ab) mu := by
  intro t ht i hi
  refine ⟨H.2 t ht i hi, fun q => ?_⟩
  have S := q.2 (fun x => x < 16 ∧ ∀ y, y < 32 → bt (mu x) y = true → bt (mu t) y = true) (by
    rintro a b ⟨a1, a2⟩ hb
    have T := cd_C_T hb
    have b16 := cd_T16 hw hh T.1
    exact ⟨b16, fun y hy e => a2 y hy (hc a b a1 b16 T.2 T.1 hb y hy e)⟩) ⟨ht, fun y _ e => e⟩
  exact S.2 i hi (H.1 i q.1)
section
variable {w h : Nat} {ct : Int32} {sh tr ti pa nd ak wa : Nat → Int32} {nw : Nat}
theorem cd_y_w41 {post : SY → Prop} {J25 : Int32 → (Nat → Int32) → (Nat → Int32) → (Nat → Int32) → (Nat → Int32) → (Nat → Int32) → (Nat → Int32) → (Nat → Int32) → (Nat → Int32) → Prop} {J33 : Int32 → Int32 → (Nat → Int32) → (Nat → Int32) → (Nat → Int32) → (Nat → Int32) → (Nat → Int32) → (Nat → Int32) → (Nat → Int32) → (Nat → Int32) → Prop} (hw : w ≤ 8) (hh : h ≤ 8) (hok : cd_Ok sh tr ti) {t : Nat} (ht : t < 16) {mu0 : Nat → Int32} (K : ∀ (x1 : Int32) (mu : Nat → Int32), cd_WI w h (cd_C w h (cd_ab sh tr ti)) mu0 x1 mu (t + 1) 0 → J33 x1 (nI (t + 1)) sh tr ti mu pa nd ak wa) : ∀ (d u : Nat) (x1 : Int32) (mu : Nat → Int32), u + d = 16 → cd_WI w h (cd_C w h (cd_ab sh tr ti)) mu0 x1 mu t u → wY_work_41 post J25 J33 (nI t) (nI w) (nI h) ct nw (d + 1) x1 (nI u) sh tr ti mu pa nd ak wa := by
  intro d
  induction d with
  | zero =>
    intro u x1 mu hu H
    have e : u = 16 := by omega
    subst e
    refine br_t (show (16 : Int32) ≤ nI 16 from by decide) (nm_r (e' := nI (t + 1)) (nI_1 t) (K x1 mu ⟨H.1, ?_⟩))
    rcases H.2 with ⟨a, b, c⟩ | a
    · exact Or.inl ⟨a, b, fun t' u' h1 h2 h3 => c t' u' h1 h2 (by omega)⟩
    · exact Or.inr a
  | succ d ih =>
    intro u x1 mu hu H
    have skip : cd_cl w h (cd_C w h (cd_ab sh tr ti)) mu t u → ∀ x : Int32, x = nI u + 1 → wY_work_41 post J25 J33 (nI t) (nI w) (nI h) ct nw (d + 1) x1 x sh tr ti mu pa nd ak wa := fun g => nm_r (e' := nI (u + 1)) (nI_1 u) (ih (u + 1) x1 mu (by omega) ⟨H.1, by
      rcases H.2 with ⟨a, b, c⟩ | a
      · refine Or.inl ⟨a, b, fun t' u' h1 h2 h3 => ?_⟩
        by_cases z : t' = t ∧ u' = u
        · rw [z.1, z.2, ← b]; exact g
        · exact c t' u' h1 h2 (by omega)
      · exact Or.inr a⟩)
    refine br_f (nI_ge (b := 16) (by omega) (by omega)) ?_
    refine cd_y_th hw hh ht (fun Tt => br_f cd_ne10 ?_) (fun Tt => br_t rfl (br_t rfl (skip (fun q => absurd q Tt))))
    refine cd_y_th hw hh (by omega) (fun Tu => br_f cd_ne10 ?_) (fun Tu => br_t rfl (br_t rfl (skip (fun _ q => absurd q Tu))))
    refine cd_y_cov hw hh hok Tu Tt (fun c => br_f cd_ne10 ?_) (fun c => br_t rfl (br_t rfl (skip (fun _ _ q => absurd q c))))
    unfold wY_work_77
    rw [nI_clamp (n := u) (by omega), nI_clamp (n := t) (by omega)]
    refine br_f cd_ne10 ⟨vp_in_nI (by omega) (by omega), vp_in_nI (by omega) (by omega), br_c (fun q => skip (fun _ _ _ => (cd_sub _ _).mp q)) (fun q => ⟨vp_in_nI (by omega) (by omega), vp_in_nI (by omega) (by omega), vp_in_nI (by omega) (by omega), nm_e (nm_r (e' := nI (u + 1)) (nI_1 u) (ih (u + 1) 1 _ (by omega) ⟨cd_MI_or H.1 (by omega) c, Or.inr ⟨rfl, ?_⟩⟩))⟩)⟩
    have l := cd_ms_or (mu := mu) (t := t) (u := u) ht (fun g => q ((cd_sub _ _).mpr g))
    rcases H.2 with ⟨_, b, _⟩ | ⟨_, b⟩
    · rw [← b]; exact l
    · omega
theorem cd_y_w33 {post : SY → Prop} {J25 : Int32 → (Nat → Int32) → (Nat → Int32) → (Nat → Int32) → (Nat → Int32) → (Nat → Int32) → (Nat → Int32) → (Nat → Int32) → (Nat → Int32) → Prop} (hw : w ≤ 8) (hh : h ≤ 8) (hok : cd_Ok sh tr ti) {mu0 : Nat → Int32} (K : ∀ (x1 : Int32) (mu : Nat → Int32), cd_WI w h (cd_C w h (cd_ab sh tr ti)) mu0 x1 mu 16 0 → J25 x1 sh tr ti mu pa nd ak wa) : ∀ (d t : Nat) (x1 : Int32) (mu : Nat → Int32), t + d = 16 → cd_WI w h (cd_C w h (cd_ab sh tr ti)) mu0 x1 mu t 0 → wY_work_33 post J25 (nI w) (nI h) ct nw (d + 1) x1 (nI t) sh tr ti mu pa nd ak wa := by
  intro d
  induction d with
  | zero =>
    intro t x1 mu ht H
    have e : t = 16 := by omega
    subst e
    exact br_t (show (16 : Int32) ≤ nI 16 from by decide) (K x1 mu H)
  | succ d ih =>
    intro t x1 mu ht H
    exact br_f (nI_ge (b := 16) (by omega) (by omega)) ⟨17, cd_y_w41 hw hh hok (by omega) (fun x1' mu' H' => ih (t + 1) x1' mu' (by omega) H') 16 0 x1 mu rfl H⟩
theorem cd_y_w25 {post : SY → Prop} (hw : w ≤ 8) (hh : h ≤ 8) (hok : cd_Ok sh tr ti) (hp : ∀ mu, cd_MU (cd_C w h (cd_ab sh tr ti)) mu → wpY_split post (nI w, nI h, ct, sh, tr, ti, mu, pa, nd, ak, wa, nw)) : ∀ (n : Nat) (mu : Nat → Int32), cd_ms mu + 2 ≤ n → cd_MI (cd_C w h (cd_ab sh tr ti)) mu → wY_work_25 post (nI w) (nI h) ct nw n 1 sh tr ti mu pa nd ak wa := by
  intro n
  induction n with
  | zero => intro mu a; omega
  | succ n ih =>
    intro mu a H
    refine br_f cd_ne10 ⟨17, cd_y_w33 (mu0 := mu) hw hh hok (fun x1 mu' H' => ?_) 16 0 0 mu rfl ⟨H, Or.inl ⟨rfl, rfl, fun t' u' _ _ q => by omega⟩⟩⟩
    rcases H'.2 with ⟨e1, e2, g⟩ | ⟨e1, l⟩
    · subst e1 e2
      obtain ⟨n', rfl⟩ : ∃ n', n = n' + 1 := ⟨n - 1, by omega⟩
      exact br_t rfl (hp _ (cd_MU_of hw hh H'.1 (fun t u h1 h2 => g t u h1 h2 (Or.inl h1))))
    · subst e1
      exact ih mu' (by omega) H'.1
theorem cd_y_w2 {post : SY → Prop} {gw gh : Int32} (K : ∀ mu : Nat → Int32, (∀ t, t < 16 → mu t = (1 : Int32) <<< (nI t &&& 31)) → ∃ n : Nat, wY_work_25 post gw gh ct nw n 1 sh tr ti mu pa nd ak wa) : ∀ (d j : Nat) (mu : Nat → Int32), j + d = 16 → (∀ t, t < j → mu t = (1 : Int32) <<< (nI t &&& 31)) → wY_work_2 post gw gh ct nw (d + 1) (nI j) sh tr ti mu pa nd ak wa := by
  intro d
  induction d with
  | zero =>
    intro j mu hj g
    have e : j = 16 := by omega
    subst e
    exact br_t (show (16 : Int32) ≤ nI 16 from by decide) (K mu g)
  | succ d ih =>
    intro j mu hj g
    refine br_f (nI_ge (b := 16) (by omega) (by omega)) ⟨vp_in_nI (by omega) (by omega), nm_e (nm_r (e' := nI (j + 1)) (nI_1 j) (ih (j + 1) _ (by omega) (fun t ht => ?_)))⟩
    rw [nI_clamp (n := j) (by omega)]
    by_cases z : t = j
    · rw [z, pk_us]
    · rw [pk_un z]; exact g t (by omega)
theorem cd_y_wk {post : SY → Prop} {mu : Nat → Int32} (hw : w ≤ 8) (hh : h ≤ 8) (hok : cd_Ok sh tr ti) (hp : ∀ mu, cd_MU (cd_C w h (cd_ab sh tr ti)) mu → wpY_split post (nI w, nI h, ct, sh, tr, ti, mu, pa, nd, ak, wa, nw)) : wpY_work post (nI w, nI h, ct, sh, tr, ti, mu, pa, nd, ak, wa, nw) := by
  refine ⟨17, cd_y_w2 (fun mu' g => ⟨cd_ms mu' + 2, cd_y_w25 hw hh hok hp _ mu' (Nat.le_refl _) ⟨fun t ht => ?_, fun t ht i hi q => ?_⟩⟩) 16 0 mu rfl (fun t ht => by omega)⟩
  · rw [g t ht]
    exact (cd_1sh (by omega) (by omega)).mpr rfl
  · rw [g t ht] at q
    have e := (cd_1sh (by omega) hi).mp q
    rw [e]
    exact ⟨ht, cd_R_r _ t⟩
end
end
section
/-! Y: what is held together -/
def cd_E (C : Nat → Nat → Prop) (t i : Nat) : Prop := cd_R C t i ∧ cd_R C i t
def cd_ls (w h : Nat) (C : Nat → Nat → Prop) (x : Nat) : Prop := ∀ i, i < x → ¬ (cd_T w h i ∧ cd_E C x i)
def cd_SI (w h : Nat) (C : Nat → Nat → Prop) (mu : Nat → Int32) (t k : Nat) (rep : Nat → Nat) (pa nd : Nat → Int32) : Prop :=
  k ≤ t ∧ (∀ j, j < k → rep j < t ∧ cd_T w h (rep j) ∧ cd_ls w h C (rep j)) ∧ (∀ i j, i < j → j < k → rep i < rep j) ∧ (∀ x, x < t → cd_T w h x → cd_ls w h C x → ∃ j, j < k ∧ rep j = x) ∧ (∀ j, j < k → ∀ i, i < 32 → (bt (pa j) i = true ↔ cd_T w h i ∧ cd_E C (rep j) i)) ∧ (∀ j, j < k → nd j = mu (rep j))
theorem cd_SI_0 {w h : Nat} {C : Nat → Nat → Prop} {mu pa nd : Nat → Int32} {rep : Nat → Nat} : cd_SI w h C mu 0 0 rep pa nd := ⟨Nat.le_refl _, fun j hj => by omega, fun i j _ hj => by omega, fun x hx => by omega, fun j hj => by omega, fun j hj => by omega⟩
theorem cd_SI_n {w h : Nat} {C : Nat → Nat → Prop} {mu pa nd : Nat → Int32} {t k : Nat} {rep : Nat → Nat} (H : cd_SI w h C mu t k rep pa nd) (hn : ¬ (cd_T w h t ∧ cd_ls w h C t)) : cd_SI w h C mu (t + 1) k rep pa nd := by
  obtain ⟨a, b, c, d, e, f⟩ := H
  refine ⟨by omega, fun j hj => ⟨by have := (b j hj).1; omega, (b j hj).2⟩, c, fun x hx h1 h2 => ?_, e, f⟩
  by_cases z : x = t
  · rw [z] at h1 h2; exact absurd ⟨h1, h2⟩ hn
  · exact d x (by omega) h1 h2
theorem cd_SI_y {w h : Nat} {C : Nat → Nat → Prop} {mu pa nd : Nat → Int32} {t k : Nat} {rep : Nat → Nat} (H : cd_SI w h C mu t k rep pa nd) (hT : cd_T w h t) (hl : cd_ls w h C t) {x2 : Int32} (hx : ∀ i, i < 32 → (bt x2 i = true ↔ cd_T w h i ∧ cd_E C t i)) : cd_SI w h C mu (t + 1) (k + 1) (fun j => if j = k then t else rep j) (upd pa k x2) (upd nd k (mu t)) := by
  obtain ⟨a, b, c, d, e, f⟩ := H
  have r1 : ∀ j, j = k → (fun j => if j = k then t else rep j) j = t := fun j hj => if_pos hj
  have r2 : ∀ j, j ≠ k → (fun j => if j = k then t else rep j) j = rep j := fun j hj => if_neg hj
  generalize (fun j => if j = k then t else rep j) = rep' at r1 r2 ⊢
  refine ⟨by omega, fun j hj => ?_, fun i j h1 h2 => ?_, fun x hx h1 h2 => ?_, fun j hj i hi => ?_, fun j hj => ?_⟩
  · by_cases z : j = k
    · rw [r1 j z]; exact ⟨by omega, hT, hl⟩
    · rw [r2 j z]; exact ⟨by have := (b j (by omega)).1; omega, (b j (by omega)).2⟩
  · rw [r2 i (by omega)]
    by_cases z : j = k
    · rw [r1 j z]; exact (b i (by omega)).1
    · rw [r2 j z]; exact c i j h1 (by omega)
  · by_cases z : x = t
    · exact ⟨k, by omega, by rw [r1 k rfl, z]⟩
    · obtain ⟨j, j1, j2⟩ := d x (by omega) h1 h2
      exact ⟨j, by omega, by rw [r2 j (by omega)]; exact j2⟩
  · by_cases z : j = k
    · rw [r1 j z, z, pk_us]; exact hx i hi
    · rw [r2 j z, pk_un z]; exact e j (by omega) i hi
  · by_cases z : j = k
    · rw [r1 j z, z, pk_us]
    · rw [r2 j z, pk_un z]; exact f j (by omega)
section
variable {w h : Nat} {ct : Int32} {sh tr ti mu pa nd ak wa : Nat → Int32} {nw : Nat} {C : Nat → Nat → Prop}
theorem cd_y_hd {post : Int32 → Prop} {gw gh : Int32} (M : cd_MU C mu) {t u : Nat} (ht : t < 16) (hu : u < 16) (p1 : cd_E C t u → post 1) (p0 : ¬ cd_E C t u → post 0) : wpY_held post (gw, gh, ct, sh, tr, ti, mu, pa, nd, ak, wa, nw) (nI t) (nI u) := by
  have a := M t ht u (by omega)
  have b := M u hu t (by omega)
  unfold wpY_held
  dsimp only
  rw [nI_clamp (n := t) (by omega), nI_clamp (n := u) (by omega)]
  refine ⟨vp_in_nI ht (by omega), ?_⟩
  by_cases q1 : cd_R C t u
  · refine br_t ((cd_tst1 _ (by omega)).mpr (a.mpr ⟨hu, q1⟩)) ⟨vp_in_nI hu (by omega), ?_⟩
    by_cases q2 : cd_R C u t
    · exact br_t ((cd_tst1 _ (by omega)).mpr (b.mpr ⟨ht, q2⟩)) (p1 ⟨q1, q2⟩)
    · exact br_f (fun q => q2 (b.mp ((cd_tst1 _ (by omega)).mp q)).2) (p0 (fun q => q2 q.2))
  · exact br_f (fun q => q1 (a.mp ((cd_tst1 _ (by omega)).mp q)).2) (p0 (fun q => q1 q.1))
theorem cd_y_s22 {post : SY → Prop} {J : Int32 → Int32 → (Nat → Int32) → (Nat → Int32) → (Nat → Int32) → (Nat → Int32) → (Nat → Int32) → (Nat → Int32) → (Nat → Int32) → (Nat → Int32) → Prop} (hw : w ≤ 8) (hh : h ≤ 8) (M : cd_MU C mu) {t k : Nat} (ht : t < 16) (hk : k ≤ t) (K1 : cd_T w h t → cd_ls w h C t → ∀ x2 : Int32, (∀ i, i < 32 → (bt x2 i = true ↔ cd_T w h i ∧ cd_E C t i)) → J (nI (t + 1)) (nI (k + 1)) sh tr ti mu (upd pa k x2) (upd nd k (mu t)) ak wa) (K0 : ¬ (cd_T w h t ∧ cd_ls w h C t) → J (nI (t + 1)) (nI k) sh tr ti mu pa nd ak wa) : ∀ (j : Nat) (x2 : Int32) (l : Nat), j ≤ 16 → l ≤ 16 → (∀ i, i < 32 → (bt x2 i = true ↔ j ≤ i ∧ cd_T w h t ∧ cd_T w h i ∧ cd_E C t i)) → (∀ i, j ≤ i → i < l → ¬ (cd_T w h t ∧ cd_T w h i ∧ cd_E C t i)) → (l < 16 → j ≤ l ∧ cd_T w h t ∧ cd_T w h l ∧ cd_E C t l) → wY_split_22 post J (nI t) (nI w) (nI h) (nI k) sh tr ti mu pa nd ak wa nw (j + 1) x2 (nI l) (nI j + (-1)) := by
  intro j
  induction j with
  | zero =>
    intro x2 l hj hl g1 g2 g3
    have neg : nI 0 + (-1) < 0 := by decide
    have e1 := nI_clamp (n := k) (by omega)
    have e2 := nI_clamp (n := t) (by omega)
    by_cases z : l = t
    · subst z
      have q := g3 ht
      refine br_t neg (br_t rfl ?_)
      rw [e1, e2]
      refine ⟨vp_in_nI (by omega) (by omega), nm_e ⟨vp_in_nI (by omega) (by omega), vp_in_nI (by omega) (by omega), nm_e (nm_r (e' := nI (k + 1)) (nI_1 k) (nm_r (e' := nI (l + 1)) (nI_1 l) (K1 q.2.1 (fun i hi r => g2 i (by omega) hi ⟨q.2.1, r.1, r.2⟩) x2 (fun i hi => ?_))))⟩⟩
      rw [g1 i hi]
      exact ⟨fun r => r.2.2, fun r => ⟨by omega, q.2.1, r⟩⟩
    · refine br_t neg (br_f (fun q => z ((nI_eq (by omega) (by omega)).mp q)) (nm_r (e' := nI (t + 1)) (nI_1 t) (K0 (fun q => ?_))))
      have Qt : cd_T w h t ∧ cd_T w h t ∧ cd_E C t t := ⟨q.1, q.1, cd_R_r C t, cd_R_r C t⟩
      rcases Nat.lt_trichotomy l t with y | y | y
      · exact q.2 l y (g3 (by omega)).2.2
      · exact z y
      · exact g2 t (by omega) y Qt
  | succ j ih =>
    intro x2 l hj hl g1 g2 g3
    rw [pk_m1]
    have skip : ¬ (cd_T w h t ∧ cd_T w h j ∧ cd_E C t j) → ∀ x : Int32, x = nI j + (-1) → wY_split_22 post J (nI t) (nI w) (nI h) (nI k) sh tr ti mu pa nd ak wa nw (j + 1) x2 (nI l) x := fun nq => nm_e (ih x2 l (by omega) hl (fun i hi => by
        rw [g1 i hi]
        refine ⟨fun q => ⟨by omega, q.2⟩, fun q => ⟨?_, q.2⟩⟩
        by_cases z : i = j
        · rw [z] at q; exact absurd q.2 nq
        · have := q.1; omega) (fun i h1 h2 => by
        by_cases z : i = j
        · rw [z]; exact nq
        · exact g2 i (by omega) h2) (fun h1 => ⟨by have := (g3 h1).1; omega, (g3 h1).2⟩))
    refine br_f (nI_pos (by omega)) ?_
    refine cd_y_th hw hh ht (fun Tt => br_f cd_ne10 ?_) (fun Tt => br_t rfl (skip (fun q => Tt q.1)))
    refine cd_y_th hw hh (by omega) (fun Tj => br_f cd_ne10 ?_) (fun Tj => br_t rfl (skip (fun q => Tj q.2.1)))
    refine cd_y_hd M ht (by omega) (fun E => br_f cd_ne10 ?_) (fun E => br_t rfl (skip (fun q => E q.2.2)))
    refine nm_e (nm_e (ih _ j (by omega) (by omega) (fun i hi => ?_) (fun i h1 h2 => by omega) (fun _ => ⟨by omega, Tt, Tj, E⟩)))
    rw [cd_orb _ (by omega) hi, g1 i hi]
    constructor
    · rintro (q | q)
      · exact ⟨by omega, q.2⟩
      · rw [q]; exact ⟨Nat.le_refl _, Tt, Tj, E⟩
    · intro q
      by_cases z : i = j
      · exact Or.inr z
      · exact Or.inl ⟨by have := q.1; omega, q.2⟩
theorem cd_y_s7 {post : SY → Prop} (hw : w ≤ 8) (hh : h ≤ 8) (M : cd_MU C mu) (hp : ∀ (k : Nat) (rep : Nat → Nat) (pa nd : Nat → Int32), cd_SI w h C mu 16 k rep pa nd → post (nI w, nI h, nI k, sh, tr, ti, mu, pa, nd, ak, wa, nw)) : ∀ (d t k : Nat) (rep : Nat → Nat) (pa nd : Nat → Int32), t + d = 16 → cd_SI w h C mu t k rep pa nd → wY_split_7 post (nI w) (nI h) nw (d + 1) (nI t) (nI k) sh tr ti mu pa nd ak wa := by
  intro d
  induction d with
  | zero =>
    intro t k rep pa nd ht H
    have e : t = 16 := by omega
    subst e
    exact br_t (show (16 : Int32) ≤ nI 16 from by decide) (hp k rep pa nd H)
  | succ d ih =>
    intro t k rep pa nd ht H
    refine br_f (nI_ge (b := 16) (by omega) (by omega)) ⟨17, ?_⟩
    refine cd_y_s22 hw hh M (by omega) H.1 (fun hT hl x2 hx => ih (t + 1) (k + 1) _ _ _ (by omega) (cd_SI_y H hT hl hx)) (fun hn => ih (t + 1) k rep pa nd (by omega) (cd_SI_n H hn)) 16 0 16 (Nat.le_refl _) (Nat.le_refl _) (fun i hi => ?_) (fun i h1 h2 => by omega) (fun q => by omega)
    rw [b_0]
    refine ⟨fun q => absurd q (by decide), fun q => ?_⟩
    have := cd_T16 hw hh q.2.2.1
    have := q.1
    omega
theorem cd_y_sp {post : SY → Prop} (hw : w ≤ 8) (hh : h ≤ 8) (M : cd_MU C mu) (hp : ∀ (k : Nat) (rep : Nat → Nat) (pa nd : Nat → Int32), cd_SI w h C mu 16 k rep pa nd → post (nI w, nI h, nI k, sh, tr, ti, mu, pa, nd, ak, wa, nw)) : wpY_split post (nI w, nI h, ct, sh, tr, ti, mu, pa, nd, ak, wa, nw) :=
  ⟨17, cd_y_s7 hw hh M hp 16 0 0 (fun _ => 0) pa nd rfl cd_SI_0⟩
end
section
variable {w h : Nat} {ct : Int32} {sh tr ti mu pa nd ak wa : Nat → Int32} {nw : Nat}
theorem cd_y_work {post : SY → Prop} (hw : w ≤ 8) (hh : h ≤ 8) (hok : cd_Ok sh tr ti) (hp : ∀ (mu : Nat → Int32) (k : Nat) (rep : Nat → Nat) (pa nd : Nat → Int32), cd_MU (cd_C w h (cd_ab sh tr ti)) mu → cd_SI w h (cd_C w h (cd_ab sh tr ti)) mu 16 k rep pa nd → post (nI w, nI h, nI k, sh, tr, ti, mu, pa, nd, ak, wa, nw)) : wpY_work post (nI w, nI h, ct, sh, tr, ti, mu, pa, nd, ak, wa, nw) :=
  cd_y_wk hw hh hok (fun mu' M => cd_y_sp hw hh M (fun k rep pa' nd' S => hp mu' k rep pa' nd' M S))
end
/-! X's levels and Y's parts -/
section
variable {w h : Nat} {ab : Nat → Nat → Prop} {m k : Nat} {L : Nat → Nat} {mu pa nd : Nat → Int32} {rep : Nat → Nat}
theorem cd_sg_lt (V : cd_Lv w h ab m L) (S : cd_SI w h (cd_C w h ab) mu 16 k rep pa nd) : ∀ j, j < k → (fun j => L (rep j)) j < m := fun j hj => V.2.2.1 (rep j) (S.2.1 j hj).2.1
theorem cd_sg_inj (V : cd_Lv w h ab m L) (S : cd_SI w h (cd_C w h ab) mu 16 k rep pa nd) : ∀ i j, i < k → j < k → (fun j => L (rep j)) i = (fun j => L (rep j)) j → i = j := by
  have one : ∀ i j, i < j → j < k → L (rep i) = L (rep j) → False := by
    intro i j hi hj e
    have a := S.2.1 i (by omega)
    have b := S.2.1 j hj
    exact b.2.2 (rep i) (S.2.2.1 i j hi hj) ⟨a.2.1, (cd_Lv_eq V b.2.1 a.2.1).mpr e.symm⟩
  intro i j hi hj e
  have e' : L (rep i) = L (rep j) := e
  rcases Nat.lt_trichotomy i j with z | z | z
  · exact absurd e' (one i j z hj)
  · exact z
  · exact absurd e'.symm (one j i z hi)
theorem cd_count (hw : w ≤ 8) (hh : h ≤ 8) (V : cd_Lv w h ab m L) (S : cd_SI w h (cd_C w h ab) mu 16 k rep pa nd) : k = m := by
  have a := cd_im_cn (cd_sg_lt V S) (cd_sg_inj V S)
  rw [cd_cn_all] at a
  · exact a.symm
  · intro l hl
    obtain ⟨t, t1, t2⟩ := V.2.2.2.1 l hl
    obtain ⟨x, ⟨x1, x2⟩, x3⟩ := pk_least (fun x => cd_T w h x ∧ L x = l) ⟨t, t1, t2⟩
    have lx : cd_ls w h (cd_C w h ab) x := by
      intro i hi q
      have e := (cd_Lv_eq V x1 q.1).mp q.2
      exact x3 i hi ⟨q.1, by omega⟩
    obtain ⟨j, j1, j2⟩ := S.2.2.2.1 x (cd_T16 hw hh x1) x1 lx
    exact ⟨j, j1, by show l = L (rep j); rw [j2]; exact x2.symm⟩
theorem cd_asks (hw : w ≤ 8) (hh : h ≤ 8) (V : cd_Lv w h ab m L) (M : cd_MU (cd_C w h ab) mu) (S : cd_SI w h (cd_C w h ab) mu 16 k rep pa nd) {i x : Nat} (hi : i < k) (hx : x < k) : (i ≠ x ∧ ¬ (pa i &&& nd x) = 0) ↔ L (rep i) < cd_gs (cd_lk w h L) (L (rep x)) := by
  have si := S.2.1 i hi
  have sx := S.2.1 x hx
  have D : ¬ (pa i &&& nd x) = 0 ↔ cd_R (cd_C w h ab) (rep x) (rep i) := by
    rw [cd_dis, Classical.not_not, S.2.2.2.2.2 x hx]
    constructor
    · rintro ⟨u, u1, u2, u3⟩
      have a := (S.2.2.2.2.1 i hi u u1).mp u2
      have b := (M (rep x) (by omega) u u1).mp u3
      exact cd_R_t b.2 a.2.2
    · intro r
      refine ⟨rep i, by omega, (S.2.2.2.2.1 i hi (rep i) (by omega)).mpr ⟨si.2.1, cd_R_r _ _, cd_R_r _ _⟩, (M (rep x) (by omega) (rep i) (by omega)).mpr ⟨by omega, r⟩⟩
  have gle := cd_gs_le (lk := cd_lk w h L) (L (rep x))
  rw [D]
  constructor
  · rintro ⟨ne, r⟩
    have l1 := cd_Lv_mono V sx.2.1 r
    have l2 : L (rep i) ≠ L (rep x) := fun e => ne (cd_sg_inj V S i x hi hx e)
    exact (cd_weak hw hh V sx.2.1 si.2.1 (by omega)).mp r
  · intro l
    refine ⟨fun e => ?_, (cd_weak hw hh V sx.2.1 si.2.1 (by omega)).mpr l⟩
    rw [e] at l
    omega
end
end
section
/-! Y: the sweep over the sets of parts -/
def cd_pd (T k : Nat) : Nat := T ^^^ 2 ^ k
theorem cd_pd_tb {T k : Nat} (h : T.testBit k = true) (j : Nat) : (cd_pd T k).testBit j = true ↔ T.testBit j = true ∧ j ≠ k := by
  unfold cd_pd
  rw [Nat.testBit_xor, Nat.testBit_two_pow]
  by_cases z : k = j
  · subst z
    rw [h, decide_eq_true rfl]
    exact ⟨fun q => absurd q (by decide), fun q => absurd rfl q.2⟩
  · rw [decide_eq_false z, Bool.xor_false]
    exact ⟨fun q => ⟨q, fun e => z e.symm⟩, fun q => q.1⟩
theorem cd_tb_ext {x y : Nat} (h : ∀ i, x.testBit i = true ↔ y.testBit i = true) : x = y := Nat.eq_of_testBit_eq (fun i => by
  have := h i
  cases a : x.testBit i <;> cases b : y.testBit i
  · rfl
  · exact absurd (this.mpr b) (by rw [a]; decide)
  · exact absurd (this.mp a) (by rw [b]; decide)
  · rfl)
theorem cd_or_tb (S k j : Nat) : (S ||| 2 ^ k).testBit j = true ↔ S.testBit j = true ∨ j = k := by
  rw [Nat.testBit_or, Nat.testBit_two_pow, Bool.or_eq_true, decide_eq_true_iff]
  exact ⟨fun q => q.imp id Eq.symm, fun q => q.imp id Eq.symm⟩
theorem cd_pd_lt {T k : Nat} (h : T.testBit k = true) : cd_pd T k < T := by
  have e : cd_pd T k ||| 2 ^ k = T := cd_tb_ext (fun i => by
    rw [cd_or_tb, cd_pd_tb h]
    constructor
    · rintro (q | q)
      · exact q.1
      · rw [q]; exact h
    · intro q
      by_cases z : i = k
      · exact Or.inr z
      · exact Or.inl ⟨q, z⟩)
  have l : cd_pd T k ≤ cd_pd T k ||| 2 ^ k := Nat.left_le_or
  rw [e] at l
  have ne : cd_pd T k ≠ T := fun q => by
    have := (cd_pd_tb h k).mp (by rw [q]; exact h)
    exact this.2 rfl
  omega
theorem cd_pd_iff {S T k : Nat} : (T.testBit k = true ∧ cd_pd T k = S) ↔ (¬ S.testBit k = true ∧ T = S ||| 2 ^ k) := by
  constructor
  · rintro ⟨h, e⟩
    subst e
    refine ⟨fun q => ((cd_pd_tb h k).mp q).2 rfl, cd_tb_ext (fun i => ?_)⟩
    rw [cd_or_tb, cd_pd_tb h]
    constructor
    · intro q
      by_cases z : i = k
      · exact Or.inr z
      · exact Or.inl ⟨q, z⟩
    · rintro (q | q)
      · exact q.1
      · rw [q]; exact h
  · rintro ⟨h, e⟩
    subst e
    have b : (S ||| 2 ^ k).testBit k = true := (cd_or_tb S k k).mpr (Or.inr rfl)
    refine ⟨b, cd_tb_ext (fun i => ?_)⟩
    rw [cd_pd_tb b, cd_or_tb]
    constructor
    · rintro ⟨q1 | q1, q2⟩
      · exact q1
      · exact absurd q1 q2
    · intro q
      exact ⟨Or.inl q, fun e => h (e ▸ q)⟩
def cd_ok1 (m : Nat) (sg g : Nat → Nat) (T k : Nat) : Prop := T.testBit k = true ∧ ∀ j, j < m → sg j < g (sg k) → T.testBit j = true ∧ j ≠ k
noncomputable def cd_Wn (m : Nat) (sg g : Nat → Nat) (T : Nat) : Nat := cd_W m sg g (fun j => T.testBit j = true)
noncomputable def cd_PS (m : Nat) (sg g : Nat → Nat) (S k T : Nat) : Nat := cd_sm (fun x => cd_b (cd_ok1 m sg g T x ∧ (cd_pd T x < S ∨ (cd_pd T x = S ∧ x < k))) * cd_Wn m sg g (cd_pd T x)) m + cd_b (T = 0)
section
variable {m : Nat} {sg : Nat → Nat} {lk : Nat → Prop} {g : Nat → Nat}
theorem cd_tb_m {T k : Nat} (hT : T < 2 ^ m) (h : T.testBit k = true) : k < m := by
  by_cases q : k < m
  · exact q
  · have : T < 2 ^ k := Nat.lt_of_lt_of_le hT (Nat.pow_le_pow_right (by decide) (by omega))
    rw [Nat.testBit_lt_two_pow this] at h
    exact absurd h (by decide)
theorem cd_PS_full (h1 : ∀ i, i < m → sg i < m) (h2 : ∀ i j, i < m → j < m → sg i = sg j → i = j) {S T : Nat} (k : Nat) (hT : T < 2 ^ m) (hS : T ≤ S) : cd_PS m sg (cd_gs lk) S k T = cd_Wn m sg (cd_gs lk) T := by
  unfold cd_PS
  by_cases z : T = 0
  · subst z
    have e : cd_Wn m sg (cd_gs lk) 0 = 1 := cd_W_0 (fun k _ q => by rw [Nat.zero_testBit] at q; exact absurd q (by decide))
    rw [e, cd_bt rfl, cd_sm_zz m, Nat.zero_add]
    intro x _
    rw [cd_bf, Nat.zero_mul]
    intro q
    have q1 := q.1.1
    rw [Nat.zero_testBit] at q1
    exact absurd q1 (by decide)
  · rw [cd_bf z, Nat.add_zero]
    obtain ⟨k0, hk0⟩ := Nat.exists_testBit_of_ne_zero z
    have e := cd_W_rec (lk := lk) h1 h2 (fun j => T.testBit j = true) ⟨k0, cd_tb_m hT hk0, hk0⟩
    unfold cd_Wn
    rw [e]
    refine cd_sm_c m (fun x hx => ?_)
    by_cases o : cd_ok1 m sg (cd_gs lk) T x
    · have l := cd_pd_lt o.1
      have w2 : cd_W m sg (cd_gs lk) (fun j => (cd_pd T x).testBit j = true) = cd_W m sg (cd_gs lk) (fun j => T.testBit j = true ∧ j ≠ x) := cd_W_c (fun j _ => cd_pd_tb o.1 j)
      have o2 : T.testBit x = true ∧ ∀ j, j < m → sg j < cd_gs lk (sg x) → T.testBit j = true ∧ j ≠ x := o
      rw [w2, cd_bt (And.intro o (Or.inl (by omega))), cd_bt o2]
    · have o2 : ¬ (T.testBit x = true ∧ ∀ j, j < m → sg j < cd_gs lk (sg x) → T.testBit j = true ∧ j ≠ x) := o
      rw [cd_bf (fun q : cd_ok1 m sg (cd_gs lk) T x ∧ (cd_pd T x < S ∨ (cd_pd T x = S ∧ x < k)) => o q.1), cd_bf o2]
      rw [Nat.zero_mul, Nat.zero_mul]
theorem cd_PS_s {S T k : Nat} (hk : k < m) : cd_PS m sg g S (k + 1) T = cd_PS m sg g S k T + cd_b (cd_ok1 m sg g T k ∧ cd_pd T k = S) * cd_Wn m sg g S := by
  unfold cd_PS
  have e := cd_sm_one (f := fun x => cd_b (x = k ∧ cd_ok1 m sg g T x ∧ cd_pd T x = S) * cd_Wn m sg g S) k hk (fun i _ hne => by rw [cd_bf (fun q => hne q.1), Nat.zero_mul])
  have e2 : cd_b (k = k ∧ cd_ok1 m sg g T k ∧ cd_pd T k = S) = cd_b (cd_ok1 m sg g T k ∧ cd_pd T k = S) := cd_bc ⟨fun q => q.2, fun q => ⟨rfl, q⟩⟩
  rw [e2] at e
  rw [← e, Nat.add_right_comm, ← cd_sm_add]
  congr 1
  refine cd_sm_c m (fun x hx => ?_)
  show cd_b (cd_ok1 m sg g T x ∧ (cd_pd T x < S ∨ (cd_pd T x = S ∧ x < k + 1))) * cd_Wn m sg g (cd_pd T x) = cd_b (cd_ok1 m sg g T x ∧ (cd_pd T x < S ∨ (cd_pd T x = S ∧ x < k))) * cd_Wn m sg g (cd_pd T x) + cd_b (x = k ∧ cd_ok1 m sg g T x ∧ cd_pd T x = S) * cd_Wn m sg g S
  by_cases o : cd_ok1 m sg g T x
  · by_cases p : x = k ∧ cd_pd T x = S
    · rw [cd_bt (And.intro o (Or.inr ⟨p.2, by omega⟩)), cd_bf (fun q : cd_ok1 m sg g T x ∧ (cd_pd T x < S ∨ (cd_pd T x = S ∧ x < k)) => by have := q.2; omega), cd_bt (And.intro p.1 (And.intro o p.2)), p.2, Nat.zero_mul, Nat.zero_add]
    · rw [cd_bf (fun q : x = k ∧ cd_ok1 m sg g T x ∧ cd_pd T x = S => p ⟨q.1, q.2.2⟩), Nat.zero_mul, Nat.add_zero]
      congr 1
      refine cd_bc ⟨fun q => ⟨o, ?_⟩, fun q => ⟨o, ?_⟩⟩
      · have := q.2; omega
      · have := q.2; omega
  · rw [cd_bf (fun q : cd_ok1 m sg g T x ∧ (cd_pd T x < S ∨ (cd_pd T x = S ∧ x < k + 1)) => o q.1), cd_bf (fun q : cd_ok1 m sg g T x ∧ (cd_pd T x < S ∨ (cd_pd T x = S ∧ x < k)) => o q.1), cd_bf (fun q : x = k ∧ cd_ok1 m sg g T x ∧ cd_pd T x = S => o q.2.1)]
    simp only [Nat.zero_mul]
theorem cd_PS_m {S T : Nat} : cd_PS m sg g S m T = cd_PS m sg g (S + 1) 0 T := by
  unfold cd_PS
  congr 1
  refine cd_sm_c m (fun x hx => ?_)
  congr 1
  refine cd_bc ⟨fun q => ⟨q.1, ?_⟩, fun q => ⟨q.1, ?_⟩⟩
  · have := q.2; omega
  · have := q.2; omega
theorem cd_PS_z {S T : Nat} (h : cd_Wn m sg g S = 0) : cd_PS m sg g (S + 1) 0 T = cd_PS m sg g S 0 T := by
  unfold cd_PS
  congr 1
  refine cd_sm_c m (fun x hx => ?_)
  by_cases e : cd_pd T x = S
  · rw [e, h, Nat.mul_zero, Nat.mul_zero]
  · congr 1
    refine cd_bc ⟨fun q => ⟨q.1, ?_⟩, fun q => ⟨q.1, ?_⟩⟩
    · have := q.2; omega
    · have := q.2; omega
theorem cd_PS_0 {T : Nat} : cd_PS m sg g 0 0 T = cd_b (T = 0) := by
  unfold cd_PS
  rw [cd_sm_zz m, Nat.zero_add]
  intro x _
  rw [cd_bf (fun q : cd_ok1 m sg g T x ∧ (cd_pd T x < 0 ∨ (cd_pd T x = 0 ∧ x < 0)) => by have := q.2; omega), Nat.zero_mul]
theorem cd_more {S T k : Nat} : (cd_ok1 m sg g T k ∧ cd_pd T k = S) ↔ (T = S ||| 2 ^ k ∧ ¬ S.testBit k = true ∧ ∀ j, j < m → sg j < g (sg k) → S.testBit j = true) := by
  constructor
  · rintro ⟨o, e⟩
    have q := cd_pd_iff.mp ⟨o.1, e⟩
    refine ⟨q.2, q.1, fun j hj hl => ?_⟩
    rw [← e]
    exact (cd_pd_tb o.1 j).mpr (o.2 j hj hl)
  · rintro ⟨e, n, a⟩
    have q := cd_pd_iff.mpr ⟨n, e⟩
    refine ⟨⟨q.1, fun j hj hl => ?_⟩, q.2⟩
    refine (cd_pd_tb q.1 j).mp ?_
    rw [q.2]
    exact a j hj hl
end
theorem cd_nor (a b : Nat) : nI a ||| nI b = nI (a ||| b) := by
  apply Int32.toBitVec_inj.1
  show BitVec.ofNat 32 a ||| BitVec.ofNat 32 b = BitVec.ofNat 32 (a ||| b)
  apply BitVec.eq_of_getLsbD_eq
  intro i hi
  simp [hi]
section
variable {gw gh : Int32} {sh tr ti mu pa nd ak wa : Nat → Int32} {m : Nat} {sg : Nat → Nat} {lk : Nat → Prop}
theorem cd_y_sw132 {post : Int32 → SY → Prop} {J : Int32 → Int32 → (Nat → Int32) → (Nat → Int32) → (Nat → Int32) → (Nat → Int32) → (Nat → Int32) → (Nat → Int32) → (Nat → Int32) → (Nat → Int32) → Prop} (hm : m ≤ 16) (h1 : ∀ i, i < m → sg i < m) (h2 : ∀ i j, i < m → j < m → sg i = sg j → i = j) (hak : ∀ k, k < m → ∀ i, i < 32 → (bt (ak k) i = true ↔ i < m ∧ sg i < cd_gs lk (sg k))) {S : Nat} (hS : S < 2 ^ m) {x1 : Int32} (K : ∀ wa : Nat → Int32, (∀ T, T < 2 ^ m → wa T = nI (cd_PS m sg (cd_gs lk) (S + 1) 0 T)) → J x1 (nI (S + 1)) sh tr ti mu pa nd ak wa) : ∀ (d k : Nat) (wa : Nat → Int32), k + d = m → (∀ T, T < 2 ^ m → wa T = nI (cd_PS m sg (cd_gs lk) S k T)) → wY_sweep_132 post J x1 (nI S) gw gh (nI m) 65536 (d + 1) (nI k) sh tr ti mu pa nd ak wa := by
  have m16 : 2 ^ m ≤ 2 ^ 16 := Nat.pow_le_pow_right (by decide) hm
  intro d
  induction d with
  | zero =>
    intro k wa hk H
    have e : k = m := by omega
    subst e
    refine br_t (nI_le (by omega) (by omega)) (nm_r (e' := nI (S + 1)) (nI_1 S) (K wa (fun T hT => ?_)))
    rw [← cd_PS_m]
    exact H T hT
  | succ d ih =>
    intro k wa hk H
    have no : ¬ (¬ S.testBit k = true ∧ ∀ j, j < m → sg j < cd_gs lk (sg k) → S.testBit j = true) → ∀ x : Int32, x = nI k + 1 → wY_sweep_132 post J x1 (nI S) gw gh (nI m) 65536 (d + 1) x sh tr ti mu pa nd ak wa := fun n => nm_r (e' := nI (k + 1)) (nI_1 k) (ih (k + 1) wa (by omega) (fun T hT => by
      rw [cd_PS_s (by omega), cd_bf (fun q => n (cd_more.mp q).2), Nat.zero_mul, Nat.add_zero]
      exact H T hT))
    have kk : k < m := by omega
    have bS : bt (nI S) k = true ↔ S.testBit k = true := by rw [cd_btN (by omega)]
    have sub : ((ak k) &&& ((nI S) ^^^ (-1))) = 0 ↔ ∀ j, j < m → sg j < cd_gs lk (sg k) → S.testBit j = true := by
      rw [cd_sub]
      constructor
      · intro q j hj hl
        have := q j (by omega) ((hak k kk j (by omega)).mpr ⟨hj, hl⟩)
        rw [cd_btN (by omega)] at this
        exact this
      · intro q i hi hb
        have := (hak k kk i hi).mp hb
        rw [cd_btN hi]
        exact q i this.1 this.2
    refine br_f (nI_ge (by omega) (by omega)) ?_
    rw [nI_clamp (n := k) (by omega)]
    by_cases c1 : S.testBit k = true
    · exact br_f (fun q => (cd_tst0 _ (by omega)).mp q (bS.mpr c1)) (br_t rfl (no (fun q => q.1 c1)))
    · refine br_t ((cd_tst0 _ (by omega)).mpr (fun q => c1 (bS.mp q))) ⟨vp_in_nI (by omega) (by omega), ?_⟩
      by_cases c2 : ∀ j, j < m → sg j < cd_gs lk (sg k) → S.testBit j = true
      · refine br_t (sub.mpr c2) ?_
        have hT0 : S ||| 2 ^ k < 2 ^ m := Nat.or_lt_two_pow hS (Nat.pow_lt_pow_right (by decide) kk)
        unfold wY_sweep_166
        rw [cd_1shn (by omega), cd_nor, nI_clamp (n := S ||| 2 ^ k) (by omega), nI_clamp (n := S) (by omega)]
        refine br_f cd_ne10 ⟨vp_in_nI (by omega) (by omega), vp_in_nI (by omega) (by omega), vp_in_nI (by omega) (by omega), nm_e (nm_r (e' := nI (k + 1)) (nI_1 k) (ih (k + 1) _ (by omega) (fun T hT => ?_)))⟩
        rw [cd_PS_s kk]
        by_cases z : T = S ||| 2 ^ k
        · rw [cd_bt (cd_more.mpr ⟨z, c1, c2⟩), z, pk_us, H _ hT0, H S hS, cd_PS_full (lk := lk) h1 h2 k hS (Nat.le_refl _), nI_add, Nat.one_mul]
        · rw [pk_un z, cd_bf (fun q => z (cd_more.mp q).1), Nat.zero_mul, Nat.add_zero]
          exact H T hT
      · exact br_f (fun q => c2 (sub.mp q)) (br_t rfl (no (fun q => c2 q.2)))
theorem cd_y_sw108 {post : Int32 → SY → Prop} (hm : m ≤ 16) (h1 : ∀ i, i < m → sg i < m) (h2 : ∀ i j, i < m → j < m → sg i = sg j → i = j) (hF : cd_F (cd_gs lk) m < 2 ^ 31) (hak : ∀ k, k < m → ∀ i, i < 32 → (bt (ak k) i = true ↔ i < m ∧ sg i < cd_gs lk (sg k))) (hp : ∀ wa : Nat → Int32, (∀ T, T < 2 ^ m → wa T = nI (cd_PS m sg (cd_gs lk) (2 ^ m) 0 T)) → post (nI (cd_sm (fun S => cd_b (cd_Up m sg (cd_gs lk) (fun k => S.testBit k = true))) (2 ^ m))) (gw, gh, nI m, sh, tr, ti, mu, pa, nd, ak, wa, 65536)) : ∀ (d S : Nat) (wa : Nat → Int32), S + d = 2 ^ m → (∀ T, T < 2 ^ m → wa T = nI (cd_PS m sg (cd_gs lk) S 0 T)) → wY_sweep_108 post gw gh (nI m) 65536 (d + 1) (nI (cd_sm (fun S => cd_b (cd_Up m sg (cd_gs lk) (fun k => S.testBit k = true))) S)) (nI S) sh tr ti mu pa nd ak wa := by
  have m16 : 2 ^ m ≤ 2 ^ 16 := Nat.pow_le_pow_right (by decide) hm
  intro d
  induction d with
  | zero =>
    intro S wa hS H
    have e : S = 2 ^ m := by omega
    rw [e] at H ⊢
    refine br_t ?_ (hp wa H)
    rw [cd_1shn hm]
    exact nI_le (Nat.le_refl _) (by omega)
  | succ d ih =>
    intro S wa hS H
    have lS : S < 2 ^ m := by omega
    have eS : wa S = nI (cd_Wn m sg (cd_gs lk) S) := by rw [H S lS, cd_PS_full (lk := lk) h1 h2 0 lS (Nat.le_refl _)]
    have wb : cd_Wn m sg (cd_gs lk) S < 2 ^ 31 := Nat.lt_of_le_of_lt cd_W_le hF
    refine br_f ?_ ⟨vp_in_nI (by omega) (by omega), ?_⟩
    · rw [cd_1shn hm]
      exact nI_ge (by omega) (by omega)
    rw [nI_clamp (n := S) (by omega), eS]
    by_cases z : cd_Wn m sg (cd_gs lk) S = 0
    · have nu : ¬ cd_Up m sg (cd_gs lk) (fun k => S.testBit k = true) := fun q => by
        have := cd_W_pos.mpr q
        unfold cd_Wn at z
        omega
      have i := ih (S + 1) wa (by omega) (fun T hT => by rw [cd_PS_z z]; exact H T hT)
      rw [cd_sm_s, cd_bf nu, Nat.add_zero] at i
      rw [z]
      exact br_t (show nI 0 ≤ 0 from by decide) (nm_r (e' := nI (S + 1)) (nI_1 S) i)
    · have u : cd_Up m sg (cd_gs lk) (fun k => S.testBit k = true) := cd_W_pos.mp (by unfold cd_Wn at z; omega)
      refine br_f (nI_nle (by omega) wb) (nm_r (e' := nI (cd_sm (fun S => cd_b (cd_Up m sg (cd_gs lk) (fun k => S.testBit k = true))) (S + 1))) ?_ ⟨m + 1, cd_y_sw132 hm h1 h2 hak lS (fun wa' H' => ih (S + 1) wa' (by omega) H') m 0 wa (by omega) H⟩)
      rw [nI_1, cd_sm_s, cd_bt u]
theorem cd_y_sw74 {post : Int32 → SY → Prop} (hm : m ≤ 16) (K : ∀ wa : Nat → Int32, (∀ T, T < 2 ^ m → wa T = nI (cd_b (T = 0))) → ∃ n : Nat, wY_sweep_108 post gw gh (nI m) 65536 n 0 0 sh tr ti mu pa nd ak wa) : ∀ (d j : Nat) (wa : Nat → Int32), j + d = 2 ^ m → (∀ T, 1 ≤ T → T < j → wa T = 0) → wY_sweep_74 post gw gh (nI m) 65536 (d + 1) (nI j) sh tr ti mu pa nd ak wa := by
  have m16 : 2 ^ m ≤ 2 ^ 16 := Nat.pow_le_pow_right (by decide) hm
  have c0 : (0 : Int32).toNatClampNeg = 0 := by decide
  intro d
  induction d with
  | zero =>
    intro j wa hj H
    have e : j = 2 ^ m := by omega
    rw [e] at H ⊢
    refine br_t ?_ ⟨vp_in_nI (n := 0) (by omega) (by omega), nm_e (K _ (fun T hT => ?_))⟩
    · rw [cd_1shn hm]
      exact nI_le (Nat.le_refl _) (by omega)
    · rw [c0]
      by_cases z : T = 0
      · rw [z, pk_us, cd_bt rfl]; rfl
      · rw [pk_un z, cd_bf z, H T (by omega) hT]; rfl
  | succ d ih =>
    intro j wa hj H
    refine br_f ?_ ⟨vp_in_nI (by omega) (by omega), nm_e (nm_r (e' := nI (j + 1)) (nI_1 j) (ih (j + 1) _ (by omega) (fun T t1 t2 => ?_)))⟩
    · rw [cd_1shn hm]
      exact nI_ge (by omega) (by omega)
    · rw [nI_clamp (n := j) (by omega)]
      by_cases z : T = j
      · rw [z, pk_us]
      · rw [pk_un z]; exact H T t1 (by omega)
theorem cd_y_sw19 {post : Int32 → SY → Prop} {J : Int32 → (Nat → Int32) → (Nat → Int32) → (Nat → Int32) → (Nat → Int32) → (Nat → Int32) → (Nat → Int32) → (Nat → Int32) → (Nat → Int32) → Prop} {nw : Nat} (hm : m ≤ 16) {k : Nat} (hk : k < m) {ak0 : Nat → Int32} (K : ∀ ak : Nat → Int32, (∀ i, i < 32 → (bt (ak k) i = true ↔ i < m ∧ i ≠ k ∧ ¬ (pa i &&& nd k) = 0)) → (∀ x, x ≠ k → ak x = ak0 x) → J (nI (k + 1)) sh tr ti mu pa nd ak wa) : ∀ (d j : Nat) (ak : Nat → Int32), j + d = m → (∀ i, i < 32 → (bt (ak k) i = true ↔ i < j ∧ i ≠ k ∧ ¬ (pa i &&& nd k) = 0)) → (∀ x, x ≠ k → ak x = ak0 x) → wY_sweep_19 post J (nI k) gw gh (nI m) nw (d + 1) (nI j) sh tr ti mu pa nd ak wa := by
  intro d
  induction d with
  | zero =>
    intro j ak hj H1 H2
    have e : j = m := by omega
    subst e
    exact br_t (nI_le (by omega) (by omega)) (nm_r (e' := nI (k + 1)) (nI_1 k) (K ak H1 H2))
  | succ d ih =>
    intro j ak hj H1 H2
    have no : ¬ (j ≠ k ∧ ¬ (pa j &&& nd k) = 0) → ∀ x : Int32, x = nI j + 1 → wY_sweep_19 post J (nI k) gw gh (nI m) nw (d + 1) x sh tr ti mu pa nd ak wa := fun n => nm_r (e' := nI (j + 1)) (nI_1 j) (ih (j + 1) ak (by omega) (fun i hi => by
      rw [H1 i hi]
      refine ⟨fun q => ⟨by omega, q.2⟩, fun q => ⟨?_, q.2⟩⟩
      by_cases z : i = j
      · rw [z] at q; exact absurd q.2 n
      · have := q.1; omega) H2)
    refine br_f (nI_ge (by omega) (by omega)) ?_
    by_cases z : j = k
    · exact br_t (congrArg nI z) (no (fun q => q.1 z))
    · refine br_f (fun q => z ((nI_eq (by omega) (by omega)).mp q)) ⟨vp_in_nI (by omega) (by omega), vp_in_nI (by omega) (by omega), ?_⟩
      rw [nI_clamp (n := j) (by omega), nI_clamp (n := k) (by omega)]
      refine br_c (fun q => no (fun q2 => q2.2 q)) (fun q => ⟨vp_in_nI (by omega) (by omega), vp_in_nI (by omega) (by omega), nm_e (nm_r (e' := nI (j + 1)) (nI_1 j) (ih (j + 1) _ (by omega) (fun i hi => ?_) (fun x hx => ?_)))⟩)
      · rw [pk_us, cd_orb _ (by omega) hi, H1 i hi]
        constructor
        · rintro (q2 | q2)
          · exact ⟨by omega, q2.2⟩
          · rw [q2]; exact ⟨by omega, z, q⟩
        · intro q2
          by_cases y : i = j
          · exact Or.inr y
          · exact Or.inl ⟨by have := q2.1; omega, q2.2⟩
      · rw [pk_un hx]; exact H2 x hx
theorem cd_y_sw2 {post : Int32 → SY → Prop} {nw : Nat} (hm : m ≤ 16) (K : ∀ ak : Nat → Int32, (∀ k, k < m → ∀ i, i < 32 → (bt (ak k) i = true ↔ i < m ∧ i ≠ k ∧ ¬ (pa i &&& nd k) = 0)) → ∃ n : Nat, wY_sweep_74 post gw gh (nI m) nw n 1 sh tr ti mu pa nd ak wa) : ∀ (d k : Nat) (ak : Nat → Int32), k + d = m → (∀ x, x < k → ∀ i, i < 32 → (bt (ak x) i = true ↔ i < m ∧ i ≠ x ∧ ¬ (pa i &&& nd x) = 0)) → wY_sweep_2 post gw gh (nI m) nw (d + 1) (nI k) sh tr ti mu pa nd ak wa := by
  intro d
  induction d with
  | zero =>
    intro k ak hk H
    have e : k = m := by omega
    subst e
    exact br_t (nI_le (by omega) (by omega)) (K ak H)
  | succ d ih =>
    intro k ak hk H
    refine br_f (nI_ge (by omega) (by omega)) ⟨vp_in_nI (by omega) (by omega), nm_e ⟨m + 1, ?_⟩⟩
    rw [nI_clamp (n := k) (by omega)]
    refine cd_y_sw19 (ak0 := ak) hm (by omega) (fun ak' a b => ih (k + 1) ak' (by omega) (fun x hx i hi => ?_)) m 0 _ (by omega) (fun i hi => ?_) (fun x hx => pk_un hx)
    · by_cases z : x = k
      · rw [z]; exact a i hi
      · rw [b x z]; exact H x (by omega) i hi
    · rw [pk_us, b_0]
      exact ⟨fun q => absurd q (by decide), fun q => absurd q.1 (by omega)⟩
theorem cd_y_sweep {post : Int32 → SY → Prop} (hm : m ≤ 16) (h1 : ∀ i, i < m → sg i < m) (h2 : ∀ i j, i < m → j < m → sg i = sg j → i = j) (hF : cd_F (cd_gs lk) m < 2 ^ 31) (hD : ∀ i x, i < m → x < m → ((i ≠ x ∧ ¬ (pa i &&& nd x) = 0) ↔ sg i < cd_gs lk (sg x))) (hp : ∀ ak wa : Nat → Int32, wa (2 ^ m - 1) = nI (cd_F (cd_gs lk) m) → post (nI (1 + cd_sm (fun l => 2 ^ (l - cd_gs lk l)) m)) (gw, gh, nI m, sh, tr, ti, mu, pa, nd, ak, wa, 65536)) : wpY_sweep post (gw, gh, nI m, sh, tr, ti, mu, pa, nd, ak, wa, 65536) := by
  have tp := Nat.two_pow_pos m
  refine ⟨m + 1, cd_y_sw2 hm (fun ak' hak => ⟨2 ^ m - 1 + 1, cd_y_sw74 hm (fun wa' hw => ⟨2 ^ m + 1, ?_⟩) (2 ^ m - 1) 1 wa (by omega) (fun T a b => by omega)⟩) m 0 ak (by omega) (fun x hx => by omega)⟩
  refine cd_y_sw108 (lk := lk) hm h1 h2 hF (fun k hk i hi => ?_) (fun wa2 H => ?_) (2 ^ m) 0 wa' (by omega) (fun T hT => by rw [cd_PS_0]; exact hw T hT)
  · rw [hak k hk i hi]
    refine ⟨fun q => ⟨q.1, (hD i k q.1 hk).mp q.2⟩, fun q => ⟨q.1, (hD i k q.1 hk).mpr q.2⟩⟩
  · rw [cd_ups h1 h2]
    refine hp ak' wa2 ?_
    rw [H (2 ^ m - 1) (by omega), cd_PS_full (lk := lk) h1 h2 0 (by omega) (by omega)]
    congr 1
    refine cd_W_all (fun k hk => ?_)
    show (2 ^ m - 1).testBit k = true
    rw [Nat.testBit_two_pow_sub_one]
    exact decide_eq_true hk
end
end
section
/-! hangs, layers, together, lifts, divisions -/
theorem i_vc_hangs {k : Nat} {u : SX} {v : SY} (I : i_Rel k u v) (hk : k + 3 ≤ 1538) : wpX_hangs (fun r u' => wpY_hangs (fun r' v' => r' = r ∧ i_Rel (k + 3) u' v') v) u := by
  refine cd_el (P := fun u v => wpX_hangs (fun r u' => wpY_hangs (fun r' v' => r' = r ∧ i_Rel (k + 3) u' v') v) u) I ?_
  intro w h st sh tr ti un od so sz sp ct mu pa nd ak wa h1 h2 h3 h4 hok
  unfold wpX_hangs wpY_hangs
  dsimp only
  refine cd_x_fs h1 h2 h4 hok (fun m L un' od' so' sz' sp' F => ?_)
  dsimp only
  refine br_c (fun q => ?_) (fun q => ?_)
  · refine cd_y_work h2 h4 hok (fun mu' n rep pa' nd' M S => ?_)
    dsimp only
    rw [cd_count h2 h4 F.1 S]
    exact br_t q ⟨rfl, cd_in h1 h2 h3 h4 hok⟩
  · refine cd_y_work h2 h4 hok (fun mu' n rep pa' nd' M S => ?_)
    dsimp only
    rw [cd_count h2 h4 F.1 S]
    exact br_f q ⟨rfl, cd_in h1 h2 h3 h4 hok⟩
theorem i_vc_layers {k : Nat} {u : SX} {v : SY} (I : i_Rel k u v) (hk : k + 3 ≤ 1538) : wpX_layers (fun r u' => wpY_layers (fun r' v' => r' = r ∧ i_Rel (k + 3) u' v') v) u := by
  refine cd_el (P := fun u v => wpX_layers (fun r u' => wpY_layers (fun r' v' => r' = r ∧ i_Rel (k + 3) u' v') v) u) I ?_
  intro w h st sh tr ti un od so sz sp ct mu pa nd ak wa h1 h2 h3 h4 hok
  unfold wpX_layers wpY_layers
  dsimp only
  refine cd_x_fs h1 h2 h4 hok (fun m L un' od' so' sz' sp' F => ?_)
  dsimp only
  refine cd_y_work h2 h4 hok (fun mu' n rep pa' nd' M S => ?_)
  dsimp only
  rw [cd_count h2 h4 F.1 S]
  exact ⟨rfl, cd_in h1 h2 h3 h4 hok⟩
theorem i_vc_together {k : Nat} {u : SX} {v : SY} (I : i_Rel k u v) (hk : k + 3 ≤ 1538) (v1 : Int32) (v2 : Int32) : wpX_together (fun r u' => wpY_together (fun r' v' => r' = r ∧ i_Rel (k + 3) u' v') v v1 v2) u v1 v2 := by
  refine cd_el (P := fun u v => wpX_together (fun r u' => wpY_together (fun r' v' => r' = r ∧ i_Rel (k + 3) u' v') v v1 v2) u v1 v2) I ?_
  intro w h st sh tr ti un od so sz sp ct mu pa nd ak wa h1 h2 h3 h4 hok
  unfold wpX_together wpY_together
  dsimp only
  rcases cd_bth (st := st) (sh := sh) (tr := tr) (ti := ti) (un := un) (od := od) (so := so) (sz := sz) (sp := sp) (ct := ct) (mu := mu) (pa := pa) (nd := nd) (ak := ak) (wa := wa) (nw := 65536) h2 h4 v1 with ⟨t, ht, e1, X1, Y1⟩ | ⟨_, X1, Y1⟩
  · rcases cd_bth (st := st) (sh := sh) (tr := tr) (ti := ti) (un := un) (od := od) (so := so) (sz := sz) (sp := sp) (ct := ct) (mu := mu) (pa := pa) (nd := nd) (ak := ak) (wa := wa) (nw := 65536) h2 h4 v2 with ⟨s, hs, e2, X2, Y2⟩ | ⟨_, X2, Y2⟩
    · subst e1 e2
      have t16 := cd_T16 h2 h4 ht
      have s16 := cd_T16 h2 h4 hs
      refine X1 _ (br_t rfl ?_)
      refine X2 _ (br_t rfl ?_)
      refine cd_x_fs h1 h2 h4 hok (fun m L un' od' so' sz' sp' F => ?_)
      dsimp only
      have m16 := F.1.1
      have lt := F.1.2.2.1 t ht
      have ls := F.1.2.2.1 s hs
      rw [nI_clamp (n := t) (by omega), nI_clamp (n := s) (by omega), F.2.1 t ht, F.2.1 s hs]
      refine ⟨vp_in_nI t16 (by omega), vp_in_nI s16 (by omega), ?_⟩
      by_cases z : L t = L s
      · refine br_t (congrArg nI z) ?_
        refine Y1 _ (br_f cd_ne10 ?_)
        refine Y2 _ (br_f cd_ne10 ?_)
        refine cd_y_work h2 h4 hok (fun mu' n rep pa' nd' M S => ?_)
        dsimp only
        exact cd_y_hd M t16 s16 (fun _ => br_f cd_ne10 ⟨rfl, cd_in h1 h2 h3 h4 hok⟩) (fun q => absurd ((cd_Lv_eq F.1 ht hs).mpr z) q)
      · refine br_f (fun q => z ((nI_eq (by omega) (by omega)).mp q)) ?_
        refine Y1 _ (br_f cd_ne10 ?_)
        refine Y2 _ (br_f cd_ne10 ?_)
        refine cd_y_work h2 h4 hok (fun mu' n rep pa' nd' M S => ?_)
        dsimp only
        exact cd_y_hd M t16 s16 (fun q => absurd ((cd_Lv_eq F.1 ht hs).mp q) z) (fun _ => br_t rfl ⟨rfl, cd_in h1 h2 h3 h4 hok⟩)
    · refine X1 _ (br_t rfl ?_)
      refine X2 _ (br_f cd_ne10 ?_)
      refine Y1 _ (br_f cd_ne10 ?_)
      exact Y2 _ (br_t rfl ⟨rfl, cd_in h1 h2 h3 h4 hok⟩)
  · refine X1 _ (br_f cd_ne10 ?_)
    exact Y1 _ (br_t rfl ⟨rfl, cd_in h1 h2 h3 h4 hok⟩)
theorem cd_y_ws {post : Int32 → SY → Prop} {w h : Nat} {gw gh : Int32} {sh tr ti mu pa nd ak wa : Nat → Int32} {ab : Nat → Nat → Prop} {m k : Nat} {L : Nat → Nat} {rep : Nat → Nat} (hw : w ≤ 8) (hh : h ≤ 8) (V : cd_Lv w h ab m L) (M : cd_MU (cd_C w h ab) mu) (S : cd_SI w h (cd_C w h ab) mu 16 k rep pa nd) (hp : ∀ ak wa : Nat → Int32, wa (2 ^ m - 1) = nI (cd_F (cd_gs (cd_lk w h L)) m) → post (nI (1 + cd_sm (fun l => 2 ^ (l - cd_gs (cd_lk w h L) l)) m)) (gw, gh, nI m, sh, tr, ti, mu, pa, nd, ak, wa, 65536)) : wpY_sweep post (gw, gh, nI k, sh, tr, ti, mu, pa, nd, ak, wa, 65536) := by
  have e := cd_count hw hh V S
  subst e
  exact cd_y_sweep (lk := cd_lk w h L) V.1 (cd_sg_lt V S) (cd_sg_inj V S) (cd_F_31 hw hh V (Nat.le_refl _)) (fun i x hi hx => cd_asks hw hh V M S hi hx) hp
theorem cd_Lv_pos {w h : Nat} {ab : Nat → Nat → Prop} {m : Nat} {L : Nat → Nat} (h1 : 1 ≤ w) (V : cd_Lv w h ab m L) : 1 ≤ m := by
  have := V.2.2.1 0 (Or.inl (by omega))
  omega
theorem i_vc_lifts {k : Nat} {u : SX} {v : SY} (I : i_Rel k u v) (hk : k + 3 ≤ 1538) : wpX_lifts (fun r u' => wpY_lifts (fun r' v' => r' = r ∧ i_Rel (k + 3) u' v') v) u := by
  refine cd_el (P := fun u v => wpX_lifts (fun r u' => wpY_lifts (fun r' v' => r' = r ∧ i_Rel (k + 3) u' v') v) u) I ?_
  intro w h st sh tr ti un od so sz sp ct mu pa nd ak wa h1 h2 h3 h4 hok
  unfold wpX_lifts wpY_lifts
  dsimp only
  refine cd_x_fs h1 h2 h4 hok (fun m L un' od' so' sz' sp' F => ?_)
  dsimp only
  refine ⟨m + 1, cd_x_li8 F ?_ (m + 1) 0 (by omega) (by omega) (Or.inr cd_gs_0)⟩
  refine cd_y_work h2 h4 hok (fun mu' n rep pa' nd' M S => ?_)
  dsimp only
  refine cd_y_ws h2 h4 F.1 M S (fun ak' wa' _ => ?_)
  dsimp only
  refine ⟨?_, cd_in h1 h2 h3 h4 hok⟩
  have mp := cd_Lv_pos h1 F.1
  have p1 : 1 ≤ cd_sm (fun l => 2 ^ (l - cd_gs (cd_lk w h L) l)) m := Nat.le_trans (Nat.le_refl 1) (cd_sm_mono (fun l => 2 ^ (l - cd_gs (cd_lk w h L) l)) mp)
  have a : nI (1 + cd_sm (fun l => 2 ^ (l - cd_gs (cd_lk w h L) l)) m) - 2 = nI (1 + cd_sm (fun l => 2 ^ (l - cd_gs (cd_lk w h L) l)) m - 2) := pk_sub (b := 2) (by omega)
  have b : nI (cd_sm (fun l => 2 ^ (l - cd_gs (cd_lk w h L) l)) m) - 1 = nI (cd_sm (fun l => 2 ^ (l - cd_gs (cd_lk w h L) l)) m - 1) := pk_sub (b := 1) p1
  rw [a, b]
  exact congrArg nI (by omega)
theorem i_vc_divisions {k : Nat} {u : SX} {v : SY} (I : i_Rel k u v) (hk : k + 3 ≤ 1538) : wpX_divisions (fun r u' => wpY_divisions (fun r' v' => r' = r ∧ i_Rel (k + 3) u' v') v) u := by
  refine cd_el (P := fun u v => wpX_divisions (fun r u' => wpY_divisions (fun r' v' => r' = r ∧ i_Rel (k + 3) u' v') v) u) I ?_
  intro w h st sh tr ti un od so sz sp ct mu pa nd ak wa h1 h2 h3 h4 hok
  unfold wpX_divisions wpY_divisions
  dsimp only
  refine cd_x_fs h1 h2 h4 hok (fun m L un' od' so' sz' sp' F => ?_)
  dsimp only
  refine ⟨m + 1, cd_x_dv8 F ?_ (m + 1) 0 (by omega) (by omega) (Or.inr cd_gs_0)⟩
  refine cd_y_work h2 h4 hok (fun mu' n rep pa' nd' M S => ?_)
  dsimp only
  refine cd_y_ws h2 h4 F.1 M S (fun ak' wa' e => ?_)
  dsimp only
  have m16 := F.1.1
  have tp := Nat.two_pow_pos m
  have b16 : 2 ^ m ≤ 2 ^ 16 := Nat.pow_le_pow_right (by decide) m16
  have e1 : nI (2 ^ m) - 1 = nI (2 ^ m - 1) := pk_sub (b := 1) (by omega)
  rw [cd_1shn m16, e1, nI_clamp (n := 2 ^ m - 1) (by omega), e]
  exact ⟨vp_in_nI (by omega) (by omega), rfl, cd_in h1 h2 h3 h4 hok⟩
end

section
/-! pure rows to paste: stores, nI and lN arithmetic, masks, shifts, narrowing, branches by naturals (pk_le, pk_lt, pk_eq), loops (lp1 .. lp16: the measure of the state; rp1 ..: recursion), negatives. Take what you need -/
theorem pk_us {f : Nat → Int32} {k : Nat} {x : Int32} : upd f k x k = x := if_pos rfl
theorem pk_un {f : Nat → Int32} {k j : Nat} {x : Int32} (h : j ≠ k) : upd f k x j = f j := if_neg h
theorem pk_uLs {f : Nat → Int64} {k : Nat} {x : Int64} : vp_updL f k x k = x := if_pos rfl
theorem pk_uLn {f : Nat → Int64} {k j : Nat} {x : Int64} (h : j ≠ k) : vp_updL f k x j = f j := if_neg h
theorem pk_sub {a b : Nat} (h : b ≤ a) : nI a - nI b = nI (a - b) := by
  obtain ⟨c, rfl⟩ : ∃ c, a = c + b := ⟨a - b, by omega⟩
  rw [← nI_add, Int32.add_sub_cancel, Nat.add_sub_cancel]
theorem pk_m1 (n : Nat) : nI (n + 1) + (-1) = nI n := by
  rw [← nI_1, Int32.add_assoc, show (1 : Int32) + (-1) = 0 from rfl, Int32.add_zero]
theorem pk_mul (a b : Nat) : nI a * nI b = nI (a * b) := (Int32.ofNat_mul a b).symm
theorem pk_div {a d : Nat} (ha : a < 2 ^ 31) (h0 : 0 < d) (hd : d < 2 ^ 31) : nI a / nI d = nI (a / d) := by
  apply Int32.toInt_inj.mp
  rw [lg_idiv_nonneg (by rw [nI_toInt ha]; omega) (by rw [nI_toInt hd]; omega), nI_toInt ha, nI_toInt hd, nI_toInt (Nat.lt_of_le_of_lt (Nat.div_le_self a d) ha)]
  first | rfl | exact (Int.natCast_ediv _ _).symm
theorem pk_rem {a d : Nat} (ha : a < 2 ^ 31) (h0 : 0 < d) (hd : d < 2 ^ 31) : nI a - nI a / nI d * nI d = nI (a % d) := by
  rw [pk_div ha h0 hd, pk_mul, pk_sub (Nat.div_mul_le_self a d)]
  exact congrArg nI (by have := Nat.div_add_mod' a d; omega)
theorem pk_sub_toInt {a b : Nat} (ha : a < 2 ^ 30) (hb : b < 2 ^ 30) : (nI a - nI b).toInt = (a : Int) - b := by
  rw [Int32.toInt_sub, nI_toInt (by omega), nI_toInt (by omega)]
  exact Int.bmod_eq_of_le (by omega) (by omega)
theorem pk_sneg {a b : Nat} (hb : b < 2 ^ 30) (h : a < b) : nI a - nI b < 0 := by
  rw [Int32.lt_iff_toInt_lt, pk_sub_toInt (by omega) hb, show (0 : Int32).toInt = 0 from by decide]
  omega
theorem pk_ix (x : Int32) {n : Nat} (hn : n < 2 ^ 31) : x < 0 ∨ nI n ≤ x ∨ ∃ j : Nat, j < n ∧ x = nI j := by
  by_cases h : x < 0
  · exact Or.inl h
  · obtain ⟨j, hj, rfl⟩ := nI_of h
    by_cases h2 : j < n
    · exact Or.inr (Or.inr ⟨j, h2, rfl⟩)
    · exact Or.inr (Or.inl (nI_le (by omega) hj))
theorem pk_le {x y : Int32} {A B : Prop} (a b : Nat) (f : a ≤ b → A) (g : b < a → B) (hx : x = nI a := by rfl) (hy : y = nI b := by rfl) (ha : a < 2 ^ 31 := by omega) (hb : b < 2 ^ 31 := by omega) : (x ≤ y → A) ∧ (¬ x ≤ y → B) := by
  subst hx hy
  rw [nI_leI ha hb]
  exact ⟨f, fun z => g (by omega)⟩
theorem pk_lt {x y : Int32} {A B : Prop} (a b : Nat) (f : a < b → A) (g : b ≤ a → B) (hx : x = nI a := by rfl) (hy : y = nI b := by rfl) (ha : a < 2 ^ 31 := by omega) (hb : b < 2 ^ 31 := by omega) : (x < y → A) ∧ (¬ x < y → B) := by
  subst hx hy
  rw [nI_ltI ha hb]
  exact ⟨f, fun z => g (by omega)⟩
theorem pk_eq {x y : Int32} {A B : Prop} (a b : Nat) (f : a = b → A) (g : a ≠ b → B) (hx : x = nI a := by rfl) (hy : y = nI b := by rfl) (ha : a < 2 ^ 31 := by omega) (hb : b < 2 ^ 31 := by omega) : (x = y → A) ∧ (¬ x = y → B) := by
  subst hx hy
  rw [nI_eq ha hb]
  exact ⟨f, g⟩
theorem pk_in {x : Int32} (n N : Nat) (h : n < N) (hx : x = nI n := by rfl) (hN : N < 2 ^ 31 := by omega) : vp_in x N := by
  subst hx
  exact vp_in_nI h hN
theorem pk_cl {x : Int32} (n : Nat) (hx : x = nI n := by rfl) (h : n < 2 ^ 31 := by omega) : x.toNatClampNeg = n := by
  subst hx
  exact nI_clamp h
theorem pk_tn {n : Nat} (h : n < 2 ^ 32) : (nI n).toBitVec.toNat = n := Nat.mod_eq_of_lt h
theorem pk_and (x : Int32) {m : Int32} (k : Nat) (hm : m.toBitVec.toNat = 2 ^ k - 1) : x &&& m = nI (x.toBitVec.toNat % 2 ^ k) := by
  apply Int32.toBitVec_inj.mp
  apply BitVec.eq_of_toNat_eq
  rw [Int32.toBitVec_and, BitVec.toNat_and, hm, Nat.and_two_pow_sub_one_eq_mod]
  show _ = (BitVec.ofNat 32 _).toNat
  rw [BitVec.toNat_ofNat]
  exact (Nat.mod_eq_of_lt (Nat.lt_of_le_of_lt (Nat.mod_le _ _) x.toBitVec.isLt)).symm
theorem pk_andN {n : Nat} (h : n < 2 ^ 32) {m : Int32} (k : Nat) (hm : m.toBitVec.toNat = 2 ^ k - 1) : nI n &&& m = nI (n % 2 ^ k) := by
  rw [pk_and _ k hm, pk_tn h]
theorem pk_andE (x : Int32) {m : Int32} (k : Nat) (hm : m.toBitVec.toNat = 2 ^ k - 1) : ∃ j : Nat, j < 2 ^ k ∧ x &&& m = nI j := ⟨_, Nat.mod_lt _ (Nat.two_pow_pos k), pk_and x k hm⟩
theorem pk_andIn (x : Int32) {m : Int32} (k : Nat) (hm : m.toBitVec.toNat = 2 ^ k - 1) (hk : k ≤ 30) : vp_in (x &&& m) (2 ^ k) := by
  obtain ⟨j, hj, e⟩ := pk_andE x k hm
  rw [e]
  exact vp_in_nI hj (Nat.lt_of_le_of_lt (Nat.pow_le_pow_right (by decide) hk) (by decide))
theorem pk_shl (a s : Int32) (k : Nat) (hs : (s.toBitVec.smod 32).toNat = k) : (a <<< s).toBitVec.toNat = a.toBitVec.toNat * 2 ^ k % 2 ^ 32 := by
  show (a.toBitVec <<< (s.toBitVec.smod 32).toNat).toNat = _
  rw [hs, BitVec.toNat_shiftLeft, Nat.shiftLeft_eq]
theorem pk_shlN {n : Nat} (s : Int32) (k : Nat) (hs : (s.toBitVec.smod 32).toNat = k) (h : n * 2 ^ k < 2 ^ 32) : nI n <<< s = nI (n * 2 ^ k) := by
  apply Int32.toBitVec_inj.mp
  apply BitVec.eq_of_toNat_eq
  have hn : n < 2 ^ 32 := Nat.lt_of_le_of_lt (Nat.le_mul_of_pos_right n (Nat.two_pow_pos k)) h
  rw [pk_shl _ _ k hs, pk_tn hn, pk_tn h, Nat.mod_eq_of_lt h]
theorem pk_shr (a s : Int32) (k : Nat) (hs : (s.toBitVec.smod 32).toNat = k) : (a >>> s).toInt = a.toInt >>> k := by
  show (a.toBitVec.sshiftRight (s.toBitVec.smod 32).toNat).toInt = _
  rw [hs, BitVec.toInt_sshiftRight]
  rfl
theorem pk_shrN {n : Nat} (h : n < 2 ^ 31) (s : Int32) (k : Nat) (hs : (s.toBitVec.smod 32).toNat = k) : nI n >>> s = nI (n / 2 ^ k) := by
  apply Int32.toInt_inj.mp
  have h2 : n / 2 ^ k ≤ n := Nat.div_le_self _ _
  rw [pk_shr _ _ k hs, nI_toInt h, nI_toInt (by omega), Int.shiftRight_eq_div_pow]
  rfl
theorem pk_ushr (x s : Int32) (k : Nat) (hs : ((s.toUInt32 &&& Int32.toUInt32 31).toBitVec % 32).toNat = k) : (x.toUInt32 >>> (s.toUInt32 &&& Int32.toUInt32 31)).toInt32.toBitVec.toNat = x.toBitVec.toNat / 2 ^ k := by
  have e : (x.toUInt32 >>> (s.toUInt32 &&& Int32.toUInt32 31)).toInt32.toBitVec = x.toBitVec >>> k := by
    rw [← hs]
    exact UInt32.toBitVec_shiftRight _ _
  rw [e, BitVec.toNat_ushiftRight, Nat.shiftRight_eq_div_pow]
theorem pk_ushrN {n : Nat} (hn : n < 2 ^ 32) (s : Int32) (k : Nat) (hs : ((s.toUInt32 &&& Int32.toUInt32 31).toBitVec % 32).toNat = k) : ((nI n).toUInt32 >>> (s.toUInt32 &&& Int32.toUInt32 31)).toInt32 = nI (n / 2 ^ k) := by
  apply Int32.toBitVec_inj.mp
  apply BitVec.eq_of_toNat_eq
  rw [pk_ushr _ s k hs, pk_tn hn, pk_tn (Nat.lt_of_le_of_lt (Nat.div_le_self _ _) hn)]
theorem pk_nb (z : Int32) : narrow .byte (.int z.toInt8.toInt32) = .int z.toInt8.toInt32 := congrArg Value.int (by simp)
theorem pk_ns (z : Int32) : narrow .short (.int z.toInt16.toInt32) = .int z.toInt16.toInt32 := congrArg Value.int (by simp)
theorem pk_fb (r : Int32) : fits .byte (.int r.toInt8.toInt32) = true := by
  have ⟨a, b⟩ := lg_i2b_range r
  have h1 : (-128 : Int32).toInt = -128 := by decide
  have h2 : (127 : Int32).toInt = 127 := by decide
  simp only [fits, Bool.and_eq_true, decide_eq_true_eq, Int32.le_iff_toInt_le, h1, h2]
  omega
theorem pk_fs (r : Int32) : fits .short (.int r.toInt16.toInt32) = true := by
  have ⟨a, b⟩ := lg_i2s_range r
  have h1 : (-32768 : Int32).toInt = -32768 := by decide
  have h2 : (32767 : Int32).toInt = 32767 := by decide
  simp only [fits, Bool.and_eq_true, decide_eq_true_eq, Int32.le_iff_toInt_le, h1, h2]
  omega
theorem pk_charN {q : Nat} (hq : q < 65536) : narrow .char (.int (nI q)) = .int (nI q) ∧ fits .char (.int (nI q)) = true := by
  constructor
  · have e : (nI q).toUInt32.toUInt16.toUInt32.toInt32 = nI q := by
      apply Int32.toBitVec_inj.mp
      apply BitVec.eq_of_toNat_eq
      show (nI q).toUInt32.toUInt16.toUInt32.toNat = q % 2 ^ 32
      rw [UInt16.toNat_toUInt32, UInt32.toNat_toUInt16, show (nI q).toUInt32.toNat = q % 2 ^ 32 from rfl]
      omega
    exact congrArg Value.int e
  · have a : (0 : Int32) ≤ nI q := nI_pos' (by omega)
    have b : nI q ≤ 65535 := nI_le (b := 65535) (by omega) (by decide)
    show (decide ((0 : Int32) ≤ nI q) && decide (nI q ≤ 65535)) = true
    rw [decide_eq_true a, decide_eq_true b]
    rfl
theorem pk_char (x : Int32) : (x.toUInt32 % 65536).toInt32 = nI (x.toBitVec.toNat % 65536) := by
  apply Int32.toBitVec_inj.mp
  apply BitVec.eq_of_toNat_eq
  rw [pk_tn (by omega)]
  show (x.toUInt32 % 65536).toNat = _
  rw [UInt32.toNat_mod]
  rfl
theorem pk_nc (x : Int32) : narrow .char (.int (x.toUInt32 % 65536).toInt32) = .int (x.toUInt32 % 65536).toInt32 := by
  rw [pk_char]
  exact (pk_charN (Nat.mod_lt _ (by decide))).1
theorem pk_fc (x : Int32) : fits .char (.int (x.toUInt32 % 65536).toInt32) = true := by
  rw [pk_char]
  exact (pk_charN (Nat.mod_lt _ (by decide))).2
theorem pk_vb (z : Int32) : vp_nar .byte z.toInt8.toInt32 = z.toInt8.toInt32 := by rw [vp_nar_byte]; simp
theorem pk_vs (z : Int32) : vp_nar .short z.toInt16.toInt32 = z.toInt16.toInt32 := by rw [vp_nar_short]; simp
theorem pk_vc (z : Int32) : vp_nar .char (z.toUInt32 % 65536).toInt32 = (z.toUInt32 % 65536).toInt32 := Value.int.inj (pk_nc z)
theorem pk_lT {n : Nat} (h : n < 2 ^ 63) : (lN n).toInt = (n : Int) := lg_ofNat_toInt h
theorem pk_lLT {a b : Nat} (ha : a < 2 ^ 63) (hb : b < 2 ^ 63) : lN a < lN b ↔ a < b := by
  rw [Int64.lt_iff_toInt_lt, pk_lT ha, pk_lT hb]; omega
theorem pk_lLE {a b : Nat} (ha : a < 2 ^ 63) (hb : b < 2 ^ 63) : lN a ≤ lN b ↔ a ≤ b := by
  rw [Int64.le_iff_toInt_le, pk_lT ha, pk_lT hb]; omega
theorem pk_lEQ {a b : Nat} (ha : a < 2 ^ 63) (hb : b < 2 ^ 63) : lN a = lN b ↔ a = b := by
  rw [← Int64.toInt_inj, pk_lT ha, pk_lT hb]; omega
theorem pk_lOf {x : Int64} (h : ¬ x < 0) : ∃ k : Nat, k < 2 ^ 63 ∧ x = lN k := by
  rw [Int64.lt_iff_toInt_lt] at h
  have h0 : (0 : Int64).toInt = 0 := by decide
  have hx := Int64.toInt_lt x
  refine ⟨x.toInt.toNat, by omega, Int64.toInt_inj.mp ?_⟩
  rw [pk_lT (by omega)]
  omega
theorem pk_lDiv {a b : Nat} (ha : a < 2 ^ 63) (h0 : 0 < b) (hb : b < 2 ^ 63) : lN a / lN b = lN (a / b) := by
  apply Int64.toInt_inj.mp
  rw [lg_ldiv_nonneg (by rw [pk_lT ha]; omega) (by rw [pk_lT hb]; omega), pk_lT ha, pk_lT hb, pk_lT (Nat.lt_of_le_of_lt (Nat.div_le_self a b) ha)]
  rfl
theorem pk_lRem {a b : Nat} (ha : a < 2 ^ 63) (h0 : 0 < b) (hb : b < 2 ^ 63) : lN a - lN a / lN b * lN b = lN (a % b) := by
  rw [pk_lDiv ha h0 hb, lN_mul, lN_sub (Nat.div_mul_le_self a b)]
  exact congrArg lN (by have := Nat.div_add_mod' a b; omega)
theorem pk_loop {σ : Type} (W : Nat → Nat → σ → Prop) (I : Nat → σ → Prop) (e i0 : Nat) (s : σ) (hi : i0 ≤ e) (h0 : I i0 s) (hx : ∀ n s, I e s → W (n + 1) e s)
    (hs : ∀ n i s, i < e → I i s → (∀ s', I (i + 1) s' → W n (i + 1) s') → W (n + 1) i s) : ∃ n, W n i0 s :=
  ⟨e + 1, loop_i W I e hx hs (e + 1) i0 s hi (by omega) h0⟩
theorem pk_loopD {σ : Type} (W : Nat → Nat → σ → Prop) (I : Nat → σ → Prop) (hx : ∀ n s, I 0 s → W (n + 1) 0 s)
    (hs : ∀ n i s, I (i + 1) s → (∀ s', I i s' → W n i s') → W (n + 1) (i + 1) s) : ∀ (e : Nat) (s : σ), I e s → W (e + 1) e s := by
  intro e
  induction e with
  | zero => exact fun s h => hx 0 s h
  | succ e ih => exact fun s h => hs (e + 1) e s h (fun s' h' => ih s' h')
theorem lp1 {A1 : Type} (W : Nat → A1 → Prop) (I : A1 → Prop) (μ : A1 → Nat) (hs : ∀ (n : Nat) (a1 : A1), I a1 → (∀ (b1 : A1), I b1 → μ b1 < μ a1 → W n b1) → W (n + 1) a1) (a1 : A1) (h : I a1) : ∃ n, W n a1 :=
  loop_m (σ := A1) (fun n s => W n s) (fun s => I s) (fun s => μ s) (fun n s hI hk => hs n s hI (fun b1 h9 hm => hk b1 h9 hm)) a1 h
theorem lp2 {A1 A2 : Type} (W : Nat → A1 → A2 → Prop) (I : A1 → A2 → Prop) (μ : A1 → A2 → Nat) (hs : ∀ (n : Nat) (a1 : A1) (a2 : A2), I a1 a2 → (∀ (b1 : A1) (b2 : A2), I b1 b2 → μ b1 b2 < μ a1 a2 → W n b1 b2) → W (n + 1) a1 a2) (a1 : A1) (a2 : A2) (h : I a1 a2) : ∃ n, W n a1 a2 :=
  loop_m (σ := A1 × A2) (fun n s => W n s.1 s.2) (fun s => I s.1 s.2) (fun s => μ s.1 s.2) (fun n s hI hk => hs n s.1 s.2 hI (fun b1 b2 h9 hm => hk (b1, b2) h9 hm)) (a1, a2) h
theorem lp3 {A1 A2 A3 : Type} (W : Nat → A1 → A2 → A3 → Prop) (I : A1 → A2 → A3 → Prop) (μ : A1 → A2 → A3 → Nat) (hs : ∀ (n : Nat) (a1 : A1) (a2 : A2) (a3 : A3), I a1 a2 a3 → (∀ (b1 : A1) (b2 : A2) (b3 : A3), I b1 b2 b3 → μ b1 b2 b3 < μ a1 a2 a3 → W n b1 b2 b3) → W (n + 1) a1 a2 a3) (a1 : A1) (a2 : A2) (a3 : A3) (h : I a1 a2 a3) : ∃ n, W n a1 a2 a3 :=
  loop_m (σ := A1 × A2 × A3) (fun n s => W n s.1 s.2.1 s.2.2) (fun s => I s.1 s.2.1 s.2.2) (fun s => μ s.1 s.2.1 s.2.2) (fun n s hI hk => hs n s.1 s.2.1 s.2.2 hI (fun b1 b2 b3 h9 hm => hk (b1, b2, b3) h9 hm)) (a1, a2, a3) h
theorem lp4 {A1 A2 A3 A4 : Type} (W : Nat → A1 → A2 → A3 → A4 → Prop) (I : A1 → A2 → A3 → A4 → Prop) (μ : A1 → A2 → A3 → A4 → Nat) (hs : ∀ (n : Nat) (a1 : A1) (a2 : A2) (a3 : A3) (a4 : A4), I a1 a2 a3 a4 → (∀ (b1 : A1) (b2 : A2) (b3 : A3) (b4 : A4), I b1 b2 b3 b4 → μ b1 b2 b3 b4 < μ a1 a2 a3 a4 → W n b1 b2 b3 b4) → W (n + 1) a1 a2 a3 a4) (a1 : A1) (a2 : A2) (a3 : A3) (a4 : A4) (h : I a1 a2 a3 a4) : ∃ n, W n a1 a2 a3 a4 :=
  loop_m (σ := A1 × A2 × A3 × A4) (fun n s => W n s.1 s.2.1 s.2.2.1 s.2.2.2) (fun s => I s.1 s.2.1 s.2.2.1 s.2.2.2) (fun s => μ s.1 s.2.1 s.2.2.1 s.2.2.2) (fun n s hI hk => hs n s.1 s.2.1 s.2.2.1 s.2.2.2 hI (fun b1 b2 b3 b4 h9 hm => hk (b1, b2, b3, b4) h9 hm)) (a1, a2, a3, a4) h
theorem lp5 {A1 A2 A3 A4 A5 : Type} (W : Nat → A1 → A2 → A3 → A4 → A5 → Prop) (I : A1 → A2 → A3 → A4 → A5 → Prop) (μ : A1 → A2 → A3 → A4 → A5 → Nat) (hs : ∀ (n : Nat) (a1 : A1) (a2 : A2) (a3 : A3) (a4 : A4) (a5 : A5), I a1 a2 a3 a4 a5 → (∀ (b1 : A1) (b2 : A2) (b3 : A3) (b4 : A4) (b5 : A5), I b1 b2 b3 b4 b5 → μ b1 b2 b3 b4 b5 < μ a1 a2 a3 a4 a5 → W n b1 b2 b3 b4 b5) → W (n + 1) a1 a2 a3 a4 a5) (a1 : A1) (a2 : A2) (a3 : A3) (a4 : A4) (a5 : A5) (h : I a1 a2 a3 a4 a5) : ∃ n, W n a1 a2 a3 a4 a5 :=
  loop_m (σ := A1 × A2 × A3 × A4 × A5) (fun n s => W n s.1 s.2.1 s.2.2.1 s.2.2.2.1 s.2.2.2.2) (fun s => I s.1 s.2.1 s.2.2.1 s.2.2.2.1 s.2.2.2.2) (fun s => μ s.1 s.2.1 s.2.2.1 s.2.2.2.1 s.2.2.2.2) (fun n s hI hk => hs n s.1 s.2.1 s.2.2.1 s.2.2.2.1 s.2.2.2.2 hI (fun b1 b2 b3 b4 b5 h9 hm => hk (b1, b2, b3, b4, b5) h9 hm)) (a1, a2, a3, a4, a5) h
theorem lp6 {A1 A2 A3 A4 A5 A6 : Type} (W : Nat → A1 → A2 → A3 → A4 → A5 → A6 → Prop) (I : A1 → A2 → A3 → A4 → A5 → A6 → Prop) (μ : A1 → A2 → A3 → A4 → A5 → A6 → Nat) (hs : ∀ (n : Nat) (a1 : A1) (a2 : A2) (a3 : A3) (a4 : A4) (a5 : A5) (a6 : A6), I a1 a2 a3 a4 a5 a6 → (∀ (b1 : A1) (b2 : A2) (b3 : A3) (b4 : A4) (b5 : A5) (b6 : A6), I b1 b2 b3 b4 b5 b6 → μ b1 b2 b3 b4 b5 b6 < μ a1 a2 a3 a4 a5 a6 → W n b1 b2 b3 b4 b5 b6) → W (n + 1) a1 a2 a3 a4 a5 a6) (a1 : A1) (a2 : A2) (a3 : A3) (a4 : A4) (a5 : A5) (a6 : A6) (h : I a1 a2 a3 a4 a5 a6) : ∃ n, W n a1 a2 a3 a4 a5 a6 :=
  loop_m (σ := A1 × A2 × A3 × A4 × A5 × A6) (fun n s => W n s.1 s.2.1 s.2.2.1 s.2.2.2.1 s.2.2.2.2.1 s.2.2.2.2.2) (fun s => I s.1 s.2.1 s.2.2.1 s.2.2.2.1 s.2.2.2.2.1 s.2.2.2.2.2) (fun s => μ s.1 s.2.1 s.2.2.1 s.2.2.2.1 s.2.2.2.2.1 s.2.2.2.2.2) (fun n s hI hk => hs n s.1 s.2.1 s.2.2.1 s.2.2.2.1 s.2.2.2.2.1 s.2.2.2.2.2 hI (fun b1 b2 b3 b4 b5 b6 h9 hm => hk (b1, b2, b3, b4, b5, b6) h9 hm)) (a1, a2, a3, a4, a5, a6) h
theorem lp7 {A1 A2 A3 A4 A5 A6 A7 : Type} (W : Nat → A1 → A2 → A3 → A4 → A5 → A6 → A7 → Prop) (I : A1 → A2 → A3 → A4 → A5 → A6 → A7 → Prop) (μ : A1 → A2 → A3 → A4 → A5 → A6 → A7 → Nat) (hs : ∀ (n : Nat) (a1 : A1) (a2 : A2) (a3 : A3) (a4 : A4) (a5 : A5) (a6 : A6) (a7 : A7), I a1 a2 a3 a4 a5 a6 a7 → (∀ (b1 : A1) (b2 : A2) (b3 : A3) (b4 : A4) (b5 : A5) (b6 : A6) (b7 : A7), I b1 b2 b3 b4 b5 b6 b7 → μ b1 b2 b3 b4 b5 b6 b7 < μ a1 a2 a3 a4 a5 a6 a7 → W n b1 b2 b3 b4 b5 b6 b7) → W (n + 1) a1 a2 a3 a4 a5 a6 a7) (a1 : A1) (a2 : A2) (a3 : A3) (a4 : A4) (a5 : A5) (a6 : A6) (a7 : A7) (h : I a1 a2 a3 a4 a5 a6 a7) : ∃ n, W n a1 a2 a3 a4 a5 a6 a7 :=
  loop_m (σ := A1 × A2 × A3 × A4 × A5 × A6 × A7) (fun n s => W n s.1 s.2.1 s.2.2.1 s.2.2.2.1 s.2.2.2.2.1 s.2.2.2.2.2.1 s.2.2.2.2.2.2) (fun s => I s.1 s.2.1 s.2.2.1 s.2.2.2.1 s.2.2.2.2.1 s.2.2.2.2.2.1 s.2.2.2.2.2.2) (fun s => μ s.1 s.2.1 s.2.2.1 s.2.2.2.1 s.2.2.2.2.1 s.2.2.2.2.2.1 s.2.2.2.2.2.2) (fun n s hI hk => hs n s.1 s.2.1 s.2.2.1 s.2.2.2.1 s.2.2.2.2.1 s.2.2.2.2.2.1 s.2.2.2.2.2.2 hI (fun b1 b2 b3 b4 b5 b6 b7 h9 hm => hk (b1, b2, b3, b4, b5, b6, b7) h9 hm)) (a1, a2, a3, a4, a5, a6, a7) h
theorem lp8 {A1 A2 A3 A4 A5 A6 A7 A8 : Type} (W : Nat → A1 → A2 → A3 → A4 → A5 → A6 → A7 → A8 → Prop) (I : A1 → A2 → A3 → A4 → A5 → A6 → A7 → A8 → Prop) (μ : A1 → A2 → A3 → A4 → A5 → A6 → A7 → A8 → Nat) (hs : ∀ (n : Nat) (a1 : A1) (a2 : A2) (a3 : A3) (a4 : A4) (a5 : A5) (a6 : A6) (a7 : A7) (a8 : A8), I a1 a2 a3 a4 a5 a6 a7 a8 → (∀ (b1 : A1) (b2 : A2) (b3 : A3) (b4 : A4) (b5 : A5) (b6 : A6) (b7 : A7) (b8 : A8), I b1 b2 b3 b4 b5 b6 b7 b8 → μ b1 b2 b3 b4 b5 b6 b7 b8 < μ a1 a2 a3 a4 a5 a6 a7 a8 → W n b1 b2 b3 b4 b5 b6 b7 b8) → W (n + 1) a1 a2 a3 a4 a5 a6 a7 a8) (a1 : A1) (a2 : A2) (a3 : A3) (a4 : A4) (a5 : A5) (a6 : A6) (a7 : A7) (a8 : A8) (h : I a1 a2 a3 a4 a5 a6 a7 a8) : ∃ n, W n a1 a2 a3 a4 a5 a6 a7 a8 :=
  loop_m (σ := A1 × A2 × A3 × A4 × A5 × A6 × A7 × A8) (fun n s => W n s.1 s.2.1 s.2.2.1 s.2.2.2.1 s.2.2.2.2.1 s.2.2.2.2.2.1 s.2.2.2.2.2.2.1 s.2.2.2.2.2.2.2) (fun s => I s.1 s.2.1 s.2.2.1 s.2.2.2.1 s.2.2.2.2.1 s.2.2.2.2.2.1 s.2.2.2.2.2.2.1 s.2.2.2.2.2.2.2) (fun s => μ s.1 s.2.1 s.2.2.1 s.2.2.2.1 s.2.2.2.2.1 s.2.2.2.2.2.1 s.2.2.2.2.2.2.1 s.2.2.2.2.2.2.2) (fun n s hI hk => hs n s.1 s.2.1 s.2.2.1 s.2.2.2.1 s.2.2.2.2.1 s.2.2.2.2.2.1 s.2.2.2.2.2.2.1 s.2.2.2.2.2.2.2 hI (fun b1 b2 b3 b4 b5 b6 b7 b8 h9 hm => hk (b1, b2, b3, b4, b5, b6, b7, b8) h9 hm)) (a1, a2, a3, a4, a5, a6, a7, a8) h
theorem lp9 {A1 A2 A3 A4 A5 A6 A7 A8 A9 : Type} (W : Nat → A1 → A2 → A3 → A4 → A5 → A6 → A7 → A8 → A9 → Prop) (I : A1 → A2 → A3 → A4 → A5 → A6 → A7 → A8 → A9 → Prop) (μ : A1 → A2 → A3 → A4 → A5 → A6 → A7 → A8 → A9 → Nat) (hs : ∀ (n : Nat) (a1 : A1) (a2 : A2) (a3 : A3) (a4 : A4) (a5 : A5) (a6 : A6) (a7 : A7) (a8 : A8) (a9 : A9), I a1 a2 a3 a4 a5 a6 a7 a8 a9 → (∀ (b1 : A1) (b2 : A2) (b3 : A3) (b4 : A4) (b5 : A5) (b6 : A6) (b7 : A7) (b8 : A8) (b9 : A9), I b1 b2 b3 b4 b5 b6 b7 b8 b9 → μ b1 b2 b3 b4 b5 b6 b7 b8 b9 < μ a1 a2 a3 a4 a5 a6 a7 a8 a9 → W n b1 b2 b3 b4 b5 b6 b7 b8 b9) → W (n + 1) a1 a2 a3 a4 a5 a6 a7 a8 a9) (a1 : A1) (a2 : A2) (a3 : A3) (a4 : A4) (a5 : A5) (a6 : A6) (a7 : A7) (a8 : A8) (a9 : A9) (h : I a1 a2 a3 a4 a5 a6 a7 a8 a9) : ∃ n, W n a1 a2 a3 a4 a5 a6 a7 a8 a9 :=
  loop_m (σ := A1 × A2 × A3 × A4 × A5 × A6 × A7 × A8 × A9) (fun n s => W n s.1 s.2.1 s.2.2.1 s.2.2.2.1 s.2.2.2.2.1 s.2.2.2.2.2.1 s.2.2.2.2.2.2.1 s.2.2.2.2.2.2.2.1 s.2.2.2.2.2.2.2.2) (fun s => I s.1 s.2.1 s.2.2.1 s.2.2.2.1 s.2.2.2.2.1 s.2.2.2.2.2.1 s.2.2.2.2.2.2.1 s.2.2.2.2.2.2.2.1 s.2.2.2.2.2.2.2.2) (fun s => μ s.1 s.2.1 s.2.2.1 s.2.2.2.1 s.2.2.2.2.1 s.2.2.2.2.2.1 s.2.2.2.2.2.2.1 s.2.2.2.2.2.2.2.1 s.2.2.2.2.2.2.2.2) (fun n s hI hk => hs n s.1 s.2.1 s.2.2.1 s.2.2.2.1 s.2.2.2.2.1 s.2.2.2.2.2.1 s.2.2.2.2.2.2.1 s.2.2.2.2.2.2.2.1 s.2.2.2.2.2.2.2.2 hI (fun b1 b2 b3 b4 b5 b6 b7 b8 b9 h9 hm => hk (b1, b2, b3, b4, b5, b6, b7, b8, b9) h9 hm)) (a1, a2, a3, a4, a5, a6, a7, a8, a9) h
theorem lp10 {A1 A2 A3 A4 A5 A6 A7 A8 A9 A10 : Type} (W : Nat → A1 → A2 → A3 → A4 → A5 → A6 → A7 → A8 → A9 → A10 → Prop) (I : A1 → A2 → A3 → A4 → A5 → A6 → A7 → A8 → A9 → A10 → Prop) (μ : A1 → A2 → A3 → A4 → A5 → A6 → A7 → A8 → A9 → A10 → Nat) (hs : ∀ (n : Nat) (a1 : A1) (a2 : A2) (a3 : A3) (a4 : A4) (a5 : A5) (a6 : A6) (a7 : A7) (a8 : A8) (a9 : A9) (a10 : A10), I a1 a2 a3 a4 a5 a6 a7 a8 a9 a10 → (∀ (b1 : A1) (b2 : A2) (b3 : A3) (b4 : A4) (b5 : A5) (b6 : A6) (b7 : A7) (b8 : A8) (b9 : A9) (b10 : A10), I b1 b2 b3 b4 b5 b6 b7 b8 b9 b10 → μ b1 b2 b3 b4 b5 b6 b7 b8 b9 b10 < μ a1 a2 a3 a4 a5 a6 a7 a8 a9 a10 → W n b1 b2 b3 b4 b5 b6 b7 b8 b9 b10) → W (n + 1) a1 a2 a3 a4 a5 a6 a7 a8 a9 a10) (a1 : A1) (a2 : A2) (a3 : A3) (a4 : A4) (a5 : A5) (a6 : A6) (a7 : A7) (a8 : A8) (a9 : A9) (a10 : A10) (h : I a1 a2 a3 a4 a5 a6 a7 a8 a9 a10) : ∃ n, W n a1 a2 a3 a4 a5 a6 a7 a8 a9 a10 :=
  loop_m (σ := A1 × A2 × A3 × A4 × A5 × A6 × A7 × A8 × A9 × A10) (fun n s => W n s.1 s.2.1 s.2.2.1 s.2.2.2.1 s.2.2.2.2.1 s.2.2.2.2.2.1 s.2.2.2.2.2.2.1 s.2.2.2.2.2.2.2.1 s.2.2.2.2.2.2.2.2.1 s.2.2.2.2.2.2.2.2.2) (fun s => I s.1 s.2.1 s.2.2.1 s.2.2.2.1 s.2.2.2.2.1 s.2.2.2.2.2.1 s.2.2.2.2.2.2.1 s.2.2.2.2.2.2.2.1 s.2.2.2.2.2.2.2.2.1 s.2.2.2.2.2.2.2.2.2) (fun s => μ s.1 s.2.1 s.2.2.1 s.2.2.2.1 s.2.2.2.2.1 s.2.2.2.2.2.1 s.2.2.2.2.2.2.1 s.2.2.2.2.2.2.2.1 s.2.2.2.2.2.2.2.2.1 s.2.2.2.2.2.2.2.2.2) (fun n s hI hk => hs n s.1 s.2.1 s.2.2.1 s.2.2.2.1 s.2.2.2.2.1 s.2.2.2.2.2.1 s.2.2.2.2.2.2.1 s.2.2.2.2.2.2.2.1 s.2.2.2.2.2.2.2.2.1 s.2.2.2.2.2.2.2.2.2 hI (fun b1 b2 b3 b4 b5 b6 b7 b8 b9 b10 h9 hm => hk (b1, b2, b3, b4, b5, b6, b7, b8, b9, b10) h9 hm)) (a1, a2, a3, a4, a5, a6, a7, a8, a9, a10) h
theorem lp11 {A1 A2 A3 A4 A5 A6 A7 A8 A9 A10 A11 : Type} (W : Nat → A1 → A2 → A3 → A4 → A5 → A6 → A7 → A8 → A9 → A10 → A11 → Prop) (I : A1 → A2 → A3 → A4 → A5 → A6 → A7 → A8 → A9 → A10 → A11 → Prop) (μ : A1 → A2 → A3 → A4 → A5 → A6 → A7 → A8 → A9 → A10 → A11 → Nat) (hs : ∀ (n : Nat) (a1 : A1) (a2 : A2) (a3 : A3) (a4 : A4) (a5 : A5) (a6 : A6) (a7 : A7) (a8 : A8) (a9 : A9) (a10 : A10) (a11 : A11), I a1 a2 a3 a4 a5 a6 a7 a8 a9 a10 a11 → (∀ (b1 : A1) (b2 : A2) (b3 : A3) (b4 : A4) (b5 : A5) (b6 : A6) (b7 : A7) (b8 : A8) (b9 : A9) (b10 : A10) (b11 : A11), I b1 b2 b3 b4 b5 b6 b7 b8 b9 b10 b11 → μ b1 b2 b3 b4 b5 b6 b7 b8 b9 b10 b11 < μ a1 a2 a3 a4 a5 a6 a7 a8 a9 a10 a11 → W n b1 b2 b3 b4 b5 b6 b7 b8 b9 b10 b11) → W (n + 1) a1 a2 a3 a4 a5 a6 a7 a8 a9 a10 a11) (a1 : A1) (a2 : A2) (a3 : A3) (a4 : A4) (a5 : A5) (a6 : A6) (a7 : A7) (a8 : A8) (a9 : A9) (a10 : A10) (a11 : A11) (h : I a1 a2 a3 a4 a5 a6 a7 a8 a9 a10 a11) : ∃ n, W n a1 a2 a3 a4 a5 a6 a7 a8 a9 a10 a11 :=
  loop_m (σ := A1 × A2 × A3 × A4 × A5 × A6 × A7 × A8 × A9 × A10 × A11) (fun n s => W n s.1 s.2.1 s.2.2.1 s.2.2.2.1 s.2.2.2.2.1 s.2.2.2.2.2.1 s.2.2.2.2.2.2.1 s.2.2.2.2.2.2.2.1 s.2.2.2.2.2.2.2.2.1 s.2.2.2.2.2.2.2.2.2.1 s.2.2.2.2.2.2.2.2.2.2) (fun s => I s.1 s.2.1 s.2.2.1 s.2.2.2.1 s.2.2.2.2.1 s.2.2.2.2.2.1 s.2.2.2.2.2.2.1 s.2.2.2.2.2.2.2.1 s.2.2.2.2.2.2.2.2.1 s.2.2.2.2.2.2.2.2.2.1 s.2.2.2.2.2.2.2.2.2.2) (fun s => μ s.1 s.2.1 s.2.2.1 s.2.2.2.1 s.2.2.2.2.1 s.2.2.2.2.2.1 s.2.2.2.2.2.2.1 s.2.2.2.2.2.2.2.1 s.2.2.2.2.2.2.2.2.1 s.2.2.2.2.2.2.2.2.2.1 s.2.2.2.2.2.2.2.2.2.2) (fun n s hI hk => hs n s.1 s.2.1 s.2.2.1 s.2.2.2.1 s.2.2.2.2.1 s.2.2.2.2.2.1 s.2.2.2.2.2.2.1 s.2.2.2.2.2.2.2.1 s.2.2.2.2.2.2.2.2.1 s.2.2.2.2.2.2.2.2.2.1 s.2.2.2.2.2.2.2.2.2.2 hI (fun b1 b2 b3 b4 b5 b6 b7 b8 b9 b10 b11 h9 hm => hk (b1, b2, b3, b4, b5, b6, b7, b8, b9, b10, b11) h9 hm)) (a1, a2, a3, a4, a5, a6, a7, a8, a9, a10, a11) h
theorem lp12 {A1 A2 A3 A4 A5 A6 A7 A8 A9 A10 A11 A12 : Type} (W : Nat → A1 → A2 → A3 → A4 → A5 → A6 → A7 → A8 → A9 → A10 → A11 → A12 → Prop) (I : A1 → A2 → A3 → A4 → A5 → A6 → A7 → A8 → A9 → A10 → A11 → A12 → Prop) (μ : A1 → A2 → A3 → A4 → A5 → A6 → A7 → A8 → A9 → A10 → A11 → A12 → Nat) (hs : ∀ (n : Nat) (a1 : A1) (a2 : A2) (a3 : A3) (a4 : A4) (a5 : A5) (a6 : A6) (a7 : A7) (a8 : A8) (a9 : A9) (a10 : A10) (a11 : A11) (a12 : A12), I a1 a2 a3 a4 a5 a6 a7 a8 a9 a10 a11 a12 → (∀ (b1 : A1) (b2 : A2) (b3 : A3) (b4 : A4) (b5 : A5) (b6 : A6) (b7 : A7) (b8 : A8) (b9 : A9) (b10 : A10) (b11 : A11) (b12 : A12), I b1 b2 b3 b4 b5 b6 b7 b8 b9 b10 b11 b12 → μ b1 b2 b3 b4 b5 b6 b7 b8 b9 b10 b11 b12 < μ a1 a2 a3 a4 a5 a6 a7 a8 a9 a10 a11 a12 → W n b1 b2 b3 b4 b5 b6 b7 b8 b9 b10 b11 b12) → W (n + 1) a1 a2 a3 a4 a5 a6 a7 a8 a9 a10 a11 a12) (a1 : A1) (a2 : A2) (a3 : A3) (a4 : A4) (a5 : A5) (a6 : A6) (a7 : A7) (a8 : A8) (a9 : A9) (a10 : A10) (a11 : A11) (a12 : A12) (h : I a1 a2 a3 a4 a5 a6 a7 a8 a9 a10 a11 a12) : ∃ n, W n a1 a2 a3 a4 a5 a6 a7 a8 a9 a10 a11 a12 :=
  loop_m (σ := A1 × A2 × A3 × A4 × A5 × A6 × A7 × A8 × A9 × A10 × A11 × A12) (fun n s => W n s.1 s.2.1 s.2.2.1 s.2.2.2.1 s.2.2.2.2.1 s.2.2.2.2.2.1 s.2.2.2.2.2.2.1 s.2.2.2.2.2.2.2.1 s.2.2.2.2.2.2.2.2.1 s.2.2.2.2.2.2.2.2.2.1 s.2.2.2.2.2.2.2.2.2.2.1 s.2.2.2.2.2.2.2.2.2.2.2) (fun s => I s.1 s.2.1 s.2.2.1 s.2.2.2.1 s.2.2.2.2.1 s.2.2.2.2.2.1 s.2.2.2.2.2.2.1 s.2.2.2.2.2.2.2.1 s.2.2.2.2.2.2.2.2.1 s.2.2.2.2.2.2.2.2.2.1 s.2.2.2.2.2.2.2.2.2.2.1 s.2.2.2.2.2.2.2.2.2.2.2) (fun s => μ s.1 s.2.1 s.2.2.1 s.2.2.2.1 s.2.2.2.2.1 s.2.2.2.2.2.1 s.2.2.2.2.2.2.1 s.2.2.2.2.2.2.2.1 s.2.2.2.2.2.2.2.2.1 s.2.2.2.2.2.2.2.2.2.1 s.2.2.2.2.2.2.2.2.2.2.1 s.2.2.2.2.2.2.2.2.2.2.2) (fun n s hI hk => hs n s.1 s.2.1 s.2.2.1 s.2.2.2.1 s.2.2.2.2.1 s.2.2.2.2.2.1 s.2.2.2.2.2.2.1 s.2.2.2.2.2.2.2.1 s.2.2.2.2.2.2.2.2.1 s.2.2.2.2.2.2.2.2.2.1 s.2.2.2.2.2.2.2.2.2.2.1 s.2.2.2.2.2.2.2.2.2.2.2 hI (fun b1 b2 b3 b4 b5 b6 b7 b8 b9 b10 b11 b12 h9 hm => hk (b1, b2, b3, b4, b5, b6, b7, b8, b9, b10, b11, b12) h9 hm)) (a1, a2, a3, a4, a5, a6, a7, a8, a9, a10, a11, a12) h
theorem lp13 {A1 A2 A3 A4 A5 A6 A7 A8 A9 A10 A11 A12 A13 : Type} (W : Nat → A1 → A2 → A3 → A4 → A5 → A6 → A7 → A8 → A9 → A10 → A11 → A12 → A13 → Prop) (I : A1 → A2 → A3 → A4 → A5 → A6 → A7 → A8 → A9 → A10 → A11 → A12 → A13 → Prop) (μ : A1 → A2 → A3 → A4 → A5 → A6 → A7 → A8 → A9 → A10 → A11 → A12 → A13 → Nat) (hs : ∀ (n : Nat) (a1 : A1) (a2 : A2) (a3 : A3) (a4 : A4) (a5 : A5) (a6 : A6) (a7 : A7) (a8 : A8) (a9 : A9) (a10 : A10) (a11 : A11) (a12 : A12) (a13 : A13), I a1 a2 a3 a4 a5 a6 a7 a8 a9 a10 a11 a12 a13 → (∀ (b1 : A1) (b2 : A2) (b3 : A3) (b4 : A4) (b5 : A5) (b6 : A6) (b7 : A7) (b8 : A8) (b9 : A9) (b10 : A10) (b11 : A11) (b12 : A12) (b13 : A13), I b1 b2 b3 b4 b5 b6 b7 b8 b9 b10 b11 b12 b13 → μ b1 b2 b3 b4 b5 b6 b7 b8 b9 b10 b11 b12 b13 < μ a1 a2 a3 a4 a5 a6 a7 a8 a9 a10 a11 a12 a13 → W n b1 b2 b3 b4 b5 b6 b7 b8 b9 b10 b11 b12 b13) → W (n + 1) a1 a2 a3 a4 a5 a6 a7 a8 a9 a10 a11 a12 a13) (a1 : A1) (a2 : A2) (a3 : A3) (a4 : A4) (a5 : A5) (a6 : A6) (a7 : A7) (a8 : A8) (a9 : A9) (a10 : A10) (a11 : A11) (a12 : A12) (a13 : A13) (h : I a1 a2 a3 a4 a5 a6 a7 a8 a9 a10 a11 a12 a13) : ∃ n, W n a1 a2 a3 a4 a5 a6 a7 a8 a9 a10 a11 a12 a13 :=
  loop_m (σ := A1 × A2 × A3 × A4 × A5 × A6 × A7 × A8 × A9 × A10 × A11 × A12 × A13) (fun n s => W n s.1 s.2.1 s.2.2.1 s.2.2.2.1 s.2.2.2.2.1 s.2.2.2.2.2.1 s.2.2.2.2.2.2.1 s.2.2.2.2.2.2.2.1 s.2.2.2.2.2.2.2.2.1 s.2.2.2.2.2.2.2.2.2.1 s.2.2.2.2.2.2.2.2.2.2.1 s.2.2.2.2.2.2.2.2.2.2.2.1 s.2.2.2.2.2.2.2.2.2.2.2.2) (fun s => I s.1 s.2.1 s.2.2.1 s.2.2.2.1 s.2.2.2.2.1 s.2.2.2.2.2.1 s.2.2.2.2.2.2.1 s.2.2.2.2.2.2.2.1 s.2.2.2.2.2.2.2.2.1 s.2.2.2.2.2.2.2.2.2.1 s.2.2.2.2.2.2.2.2.2.2.1 s.2.2.2.2.2.2.2.2.2.2.2.1 s.2.2.2.2.2.2.2.2.2.2.2.2) (fun s => μ s.1 s.2.1 s.2.2.1 s.2.2.2.1 s.2.2.2.2.1 s.2.2.2.2.2.1 s.2.2.2.2.2.2.1 s.2.2.2.2.2.2.2.1 s.2.2.2.2.2.2.2.2.1 s.2.2.2.2.2.2.2.2.2.1 s.2.2.2.2.2.2.2.2.2.2.1 s.2.2.2.2.2.2.2.2.2.2.2.1 s.2.2.2.2.2.2.2.2.2.2.2.2) (fun n s hI hk => hs n s.1 s.2.1 s.2.2.1 s.2.2.2.1 s.2.2.2.2.1 s.2.2.2.2.2.1 s.2.2.2.2.2.2.1 s.2.2.2.2.2.2.2.1 s.2.2.2.2.2.2.2.2.1 s.2.2.2.2.2.2.2.2.2.1 s.2.2.2.2.2.2.2.2.2.2.1 s.2.2.2.2.2.2.2.2.2.2.2.1 s.2.2.2.2.2.2.2.2.2.2.2.2 hI (fun b1 b2 b3 b4 b5 b6 b7 b8 b9 b10 b11 b12 b13 h9 hm => hk (b1, b2, b3, b4, b5, b6, b7, b8, b9, b10, b11, b12, b13) h9 hm)) (a1, a2, a3, a4, a5, a6, a7, a8, a9, a10, a11, a12, a13) h
theorem lp14 {A1 A2 A3 A4 A5 A6 A7 A8 A9 A10 A11 A12 A13 A14 : Type} (W : Nat → A1 → A2 → A3 → A4 → A5 → A6 → A7 → A8 → A9 → A10 → A11 → A12 → A13 → A14 → Prop) (I : A1 → A2 → A3 → A4 → A5 → A6 → A7 → A8 → A9 → A10 → A11 → A12 → A13 → A14 → Prop) (μ : A1 → A2 → A3 → A4 → A5 → A6 → A7 → A8 → A9 → A10 → A11 → A12 → A13 → A14 → Nat) (hs : ∀ (n : Nat) (a1 : A1) (a2 : A2) (a3 : A3) (a4 : A4) (a5 : A5) (a6 : A6) (a7 : A7) (a8 : A8) (a9 : A9) (a10 : A10) (a11 : A11) (a12 : A12) (a13 : A13) (a14 : A14), I a1 a2 a3 a4 a5 a6 a7 a8 a9 a10 a11 a12 a13 a14 → (∀ (b1 : A1) (b2 : A2) (b3 : A3) (b4 : A4) (b5 : A5) (b6 : A6) (b7 : A7) (b8 : A8) (b9 : A9) (b10 : A10) (b11 : A11) (b12 : A12) (b13 : A13) (b14 : A14), I b1 b2 b3 b4 b5 b6 b7 b8 b9 b10 b11 b12 b13 b14 → μ b1 b2 b3 b4 b5 b6 b7 b8 b9 b10 b11 b12 b13 b14 < μ a1 a2 a3 a4 a5 a6 a7 a8 a9 a10 a11 a12 a13 a14 → W n b1 b2 b3 b4 b5 b6 b7 b8 b9 b10 b11 b12 b13 b14) → W (n + 1) a1 a2 a3 a4 a5 a6 a7 a8 a9 a10 a11 a12 a13 a14) (a1 : A1) (a2 : A2) (a3 : A3) (a4 : A4) (a5 : A5) (a6 : A6) (a7 : A7) (a8 : A8) (a9 : A9) (a10 : A10) (a11 : A11) (a12 : A12) (a13 : A13) (a14 : A14) (h : I a1 a2 a3 a4 a5 a6 a7 a8 a9 a10 a11 a12 a13 a14) : ∃ n, W n a1 a2 a3 a4 a5 a6 a7 a8 a9 a10 a11 a12 a13 a14 :=
  loop_m (σ := A1 × A2 × A3 × A4 × A5 × A6 × A7 × A8 × A9 × A10 × A11 × A12 × A13 × A14) (fun n s => W n s.1 s.2.1 s.2.2.1 s.2.2.2.1 s.2.2.2.2.1 s.2.2.2.2.2.1 s.2.2.2.2.2.2.1 s.2.2.2.2.2.2.2.1 s.2.2.2.2.2.2.2.2.1 s.2.2.2.2.2.2.2.2.2.1 s.2.2.2.2.2.2.2.2.2.2.1 s.2.2.2.2.2.2.2.2.2.2.2.1 s.2.2.2.2.2.2.2.2.2.2.2.2.1 s.2.2.2.2.2.2.2.2.2.2.2.2.2) (fun s => I s.1 s.2.1 s.2.2.1 s.2.2.2.1 s.2.2.2.2.1 s.2.2.2.2.2.1 s.2.2.2.2.2.2.1 s.2.2.2.2.2.2.2.1 s.2.2.2.2.2.2.2.2.1 s.2.2.2.2.2.2.2.2.2.1 s.2.2.2.2.2.2.2.2.2.2.1 s.2.2.2.2.2.2.2.2.2.2.2.1 s.2.2.2.2.2.2.2.2.2.2.2.2.1 s.2.2.2.2.2.2.2.2.2.2.2.2.2) (fun s => μ s.1 s.2.1 s.2.2.1 s.2.2.2.1 s.2.2.2.2.1 s.2.2.2.2.2.1 s.2.2.2.2.2.2.1 s.2.2.2.2.2.2.2.1 s.2.2.2.2.2.2.2.2.1 s.2.2.2.2.2.2.2.2.2.1 s.2.2.2.2.2.2.2.2.2.2.1 s.2.2.2.2.2.2.2.2.2.2.2.1 s.2.2.2.2.2.2.2.2.2.2.2.2.1 s.2.2.2.2.2.2.2.2.2.2.2.2.2) (fun n s hI hk => hs n s.1 s.2.1 s.2.2.1 s.2.2.2.1 s.2.2.2.2.1 s.2.2.2.2.2.1 s.2.2.2.2.2.2.1 s.2.2.2.2.2.2.2.1 s.2.2.2.2.2.2.2.2.1 s.2.2.2.2.2.2.2.2.2.1 s.2.2.2.2.2.2.2.2.2.2.1 s.2.2.2.2.2.2.2.2.2.2.2.1 s.2.2.2.2.2.2.2.2.2.2.2.2.1 s.2.2.2.2.2.2.2.2.2.2.2.2.2 hI (fun b1 b2 b3 b4 b5 b6 b7 b8 b9 b10 b11 b12 b13 b14 h9 hm => hk (b1, b2, b3, b4, b5, b6, b7, b8, b9, b10, b11, b12, b13, b14) h9 hm)) (a1, a2, a3, a4, a5, a6, a7, a8, a9, a10, a11, a12, a13, a14) h
theorem lp15 {A1 A2 A3 A4 A5 A6 A7 A8 A9 A10 A11 A12 A13 A14 A15 : Type} (W : Nat → A1 → A2 → A3 → A4 → A5 → A6 → A7 → A8 → A9 → A10 → A11 → A12 → A13 → A14 → A15 → Prop) (I : A1 → A2 → A3 → A4 → A5 → A6 → A7 → A8 → A9 → A10 → A11 → A12 → A13 → A14 → A15 → Prop) (μ : A1 → A2 → A3 → A4 → A5 → A6 → A7 → A8 → A9 → A10 → A11 → A12 → A13 → A14 → A15 → Nat) (hs : ∀ (n : Nat) (a1 : A1) (a2 : A2) (a3 : A3) (a4 : A4) (a5 : A5) (a6 : A6) (a7 : A7) (a8 : A8) (a9 : A9) (a10 : A10) (a11 : A11) (a12 : A12) (a13 : A13) (a14 : A14) (a15 : A15), I a1 a2 a3 a4 a5 a6 a7 a8 a9 a10 a11 a12 a13 a14 a15 → (∀ (b1 : A1) (b2 : A2) (b3 : A3) (b4 : A4) (b5 : A5) (b6 : A6) (b7 : A7) (b8 : A8) (b9 : A9) (b10 : A10) (b11 : A11) (b12 : A12) (b13 : A13) (b14 : A14) (b15 : A15), I b1 b2 b3 b4 b5 b6 b7 b8 b9 b10 b11 b12 b13 b14 b15 → μ b1 b2 b3 b4 b5 b6 b7 b8 b9 b10 b11 b12 b13 b14 b15 < μ a1 a2 a3 a4 a5 a6 a7 a8 a9 a10 a11 a12 a13 a14 a15 → W n b1 b2 b3 b4 b5 b6 b7 b8 b9 b10 b11 b12 b13 b14 b15) → W (n + 1) a1 a2 a3 a4 a5 a6 a7 a8 a9 a10 a11 a12 a13 a14 a15) (a1 : A1) (a2 : A2) (a3 : A3) (a4 : A4) (a5 : A5) (a6 : A6) (a7 : A7) (a8 : A8) (a9 : A9) (a10 : A10) (a11 : A11) (a12 : A12) (a13 : A13) (a14 : A14) (a15 : A15) (h : I a1 a2 a3 a4 a5 a6 a7 a8 a9 a10 a11 a12 a13 a14 a15) : ∃ n, W n a1 a2 a3 a4 a5 a6 a7 a8 a9 a10 a11 a12 a13 a14 a15 :=
  loop_m (σ := A1 × A2 × A3 × A4 × A5 × A6 × A7 × A8 × A9 × A10 × A11 × A12 × A13 × A14 × A15) (fun n s => W n s.1 s.2.1 s.2.2.1 s.2.2.2.1 s.2.2.2.2.1 s.2.2.2.2.2.1 s.2.2.2.2.2.2.1 s.2.2.2.2.2.2.2.1 s.2.2.2.2.2.2.2.2.1 s.2.2.2.2.2.2.2.2.2.1 s.2.2.2.2.2.2.2.2.2.2.1 s.2.2.2.2.2.2.2.2.2.2.2.1 s.2.2.2.2.2.2.2.2.2.2.2.2.1 s.2.2.2.2.2.2.2.2.2.2.2.2.2.1 s.2.2.2.2.2.2.2.2.2.2.2.2.2.2) (fun s => I s.1 s.2.1 s.2.2.1 s.2.2.2.1 s.2.2.2.2.1 s.2.2.2.2.2.1 s.2.2.2.2.2.2.1 s.2.2.2.2.2.2.2.1 s.2.2.2.2.2.2.2.2.1 s.2.2.2.2.2.2.2.2.2.1 s.2.2.2.2.2.2.2.2.2.2.1 s.2.2.2.2.2.2.2.2.2.2.2.1 s.2.2.2.2.2.2.2.2.2.2.2.2.1 s.2.2.2.2.2.2.2.2.2.2.2.2.2.1 s.2.2.2.2.2.2.2.2.2.2.2.2.2.2) (fun s => μ s.1 s.2.1 s.2.2.1 s.2.2.2.1 s.2.2.2.2.1 s.2.2.2.2.2.1 s.2.2.2.2.2.2.1 s.2.2.2.2.2.2.2.1 s.2.2.2.2.2.2.2.2.1 s.2.2.2.2.2.2.2.2.2.1 s.2.2.2.2.2.2.2.2.2.2.1 s.2.2.2.2.2.2.2.2.2.2.2.1 s.2.2.2.2.2.2.2.2.2.2.2.2.1 s.2.2.2.2.2.2.2.2.2.2.2.2.2.1 s.2.2.2.2.2.2.2.2.2.2.2.2.2.2) (fun n s hI hk => hs n s.1 s.2.1 s.2.2.1 s.2.2.2.1 s.2.2.2.2.1 s.2.2.2.2.2.1 s.2.2.2.2.2.2.1 s.2.2.2.2.2.2.2.1 s.2.2.2.2.2.2.2.2.1 s.2.2.2.2.2.2.2.2.2.1 s.2.2.2.2.2.2.2.2.2.2.1 s.2.2.2.2.2.2.2.2.2.2.2.1 s.2.2.2.2.2.2.2.2.2.2.2.2.1 s.2.2.2.2.2.2.2.2.2.2.2.2.2.1 s.2.2.2.2.2.2.2.2.2.2.2.2.2.2 hI (fun b1 b2 b3 b4 b5 b6 b7 b8 b9 b10 b11 b12 b13 b14 b15 h9 hm => hk (b1, b2, b3, b4, b5, b6, b7, b8, b9, b10, b11, b12, b13, b14, b15) h9 hm)) (a1, a2, a3, a4, a5, a6, a7, a8, a9, a10, a11, a12, a13, a14, a15) h
theorem lp16 {A1 A2 A3 A4 A5 A6 A7 A8 A9 A10 A11 A12 A13 A14 A15 A16 : Type} (W : Nat → A1 → A2 → A3 → A4 → A5 → A6 → A7 → A8 → A9 → A10 → A11 → A12 → A13 → A14 → A15 → A16 → Prop) (I : A1 → A2 → A3 → A4 → A5 → A6 → A7 → A8 → A9 → A10 → A11 → A12 → A13 → A14 → A15 → A16 → Prop) (μ : A1 → A2 → A3 → A4 → A5 → A6 → A7 → A8 → A9 → A10 → A11 → A12 → A13 → A14 → A15 → A16 → Nat) (hs : ∀ (n : Nat) (a1 : A1) (a2 : A2) (a3 : A3) (a4 : A4) (a5 : A5) (a6 : A6) (a7 : A7) (a8 : A8) (a9 : A9) (a10 : A10) (a11 : A11) (a12 : A12) (a13 : A13) (a14 : A14) (a15 : A15) (a16 : A16), I a1 a2 a3 a4 a5 a6 a7 a8 a9 a10 a11 a12 a13 a14 a15 a16 → (∀ (b1 : A1) (b2 : A2) (b3 : A3) (b4 : A4) (b5 : A5) (b6 : A6) (b7 : A7) (b8 : A8) (b9 : A9) (b10 : A10) (b11 : A11) (b12 : A12) (b13 : A13) (b14 : A14) (b15 : A15) (b16 : A16), I b1 b2 b3 b4 b5 b6 b7 b8 b9 b10 b11 b12 b13 b14 b15 b16 → μ b1 b2 b3 b4 b5 b6 b7 b8 b9 b10 b11 b12 b13 b14 b15 b16 < μ a1 a2 a3 a4 a5 a6 a7 a8 a9 a10 a11 a12 a13 a14 a15 a16 → W n b1 b2 b3 b4 b5 b6 b7 b8 b9 b10 b11 b12 b13 b14 b15 b16) → W (n + 1) a1 a2 a3 a4 a5 a6 a7 a8 a9 a10 a11 a12 a13 a14 a15 a16) (a1 : A1) (a2 : A2) (a3 : A3) (a4 : A4) (a5 : A5) (a6 : A6) (a7 : A7) (a8 : A8) (a9 : A9) (a10 : A10) (a11 : A11) (a12 : A12) (a13 : A13) (a14 : A14) (a15 : A15) (a16 : A16) (h : I a1 a2 a3 a4 a5 a6 a7 a8 a9 a10 a11 a12 a13 a14 a15 a16) : ∃ n, W n a1 a2 a3 a4 a5 a6 a7 a8 a9 a10 a11 a12 a13 a14 a15 a16 :=
  loop_m (σ := A1 × A2 × A3 × A4 × A5 × A6 × A7 × A8 × A9 × A10 × A11 × A12 × A13 × A14 × A15 × A16) (fun n s => W n s.1 s.2.1 s.2.2.1 s.2.2.2.1 s.2.2.2.2.1 s.2.2.2.2.2.1 s.2.2.2.2.2.2.1 s.2.2.2.2.2.2.2.1 s.2.2.2.2.2.2.2.2.1 s.2.2.2.2.2.2.2.2.2.1 s.2.2.2.2.2.2.2.2.2.2.1 s.2.2.2.2.2.2.2.2.2.2.2.1 s.2.2.2.2.2.2.2.2.2.2.2.2.1 s.2.2.2.2.2.2.2.2.2.2.2.2.2.1 s.2.2.2.2.2.2.2.2.2.2.2.2.2.2.1 s.2.2.2.2.2.2.2.2.2.2.2.2.2.2.2) (fun s => I s.1 s.2.1 s.2.2.1 s.2.2.2.1 s.2.2.2.2.1 s.2.2.2.2.2.1 s.2.2.2.2.2.2.1 s.2.2.2.2.2.2.2.1 s.2.2.2.2.2.2.2.2.1 s.2.2.2.2.2.2.2.2.2.1 s.2.2.2.2.2.2.2.2.2.2.1 s.2.2.2.2.2.2.2.2.2.2.2.1 s.2.2.2.2.2.2.2.2.2.2.2.2.1 s.2.2.2.2.2.2.2.2.2.2.2.2.2.1 s.2.2.2.2.2.2.2.2.2.2.2.2.2.2.1 s.2.2.2.2.2.2.2.2.2.2.2.2.2.2.2) (fun s => μ s.1 s.2.1 s.2.2.1 s.2.2.2.1 s.2.2.2.2.1 s.2.2.2.2.2.1 s.2.2.2.2.2.2.1 s.2.2.2.2.2.2.2.1 s.2.2.2.2.2.2.2.2.1 s.2.2.2.2.2.2.2.2.2.1 s.2.2.2.2.2.2.2.2.2.2.1 s.2.2.2.2.2.2.2.2.2.2.2.1 s.2.2.2.2.2.2.2.2.2.2.2.2.1 s.2.2.2.2.2.2.2.2.2.2.2.2.2.1 s.2.2.2.2.2.2.2.2.2.2.2.2.2.2.1 s.2.2.2.2.2.2.2.2.2.2.2.2.2.2.2) (fun n s hI hk => hs n s.1 s.2.1 s.2.2.1 s.2.2.2.1 s.2.2.2.2.1 s.2.2.2.2.2.1 s.2.2.2.2.2.2.1 s.2.2.2.2.2.2.2.1 s.2.2.2.2.2.2.2.2.1 s.2.2.2.2.2.2.2.2.2.1 s.2.2.2.2.2.2.2.2.2.2.1 s.2.2.2.2.2.2.2.2.2.2.2.1 s.2.2.2.2.2.2.2.2.2.2.2.2.1 s.2.2.2.2.2.2.2.2.2.2.2.2.2.1 s.2.2.2.2.2.2.2.2.2.2.2.2.2.2.1 s.2.2.2.2.2.2.2.2.2.2.2.2.2.2.2 hI (fun b1 b2 b3 b4 b5 b6 b7 b8 b9 b10 b11 b12 b13 b14 b15 b16 h9 hm => hk (b1, b2, b3, b4, b5, b6, b7, b8, b9, b10, b11, b12, b13, b14, b15, b16) h9 hm)) (a1, a2, a3, a4, a5, a6, a7, a8, a9, a10, a11, a12, a13, a14, a15, a16) h
theorem pk_least (P : Nat → Prop) (h : ∃ k, P k) : ∃ k, P k ∧ ∀ j, j < k → ¬ P j := by
  obtain ⟨k, hk⟩ := h
  induction k using Nat.strongRecOn with
  | ind k ih =>
    by_cases e : ∃ j, j < k ∧ P j
    · obtain ⟨j, hj, pj⟩ := e
      exact ih j hj pj
    · exact ⟨k, hk, fun j hj pj => e ⟨j, hj, pj⟩⟩
theorem rp1 {ρ A1 : Type} (W : Nat → (ρ → Prop) → A1 → Prop) (ok : A1 → Prop) (μ : A1 → Nat) (val : A1 → ρ)
    (hs : ∀ (d : Nat) (post : ρ → Prop) (a1 : A1), ok a1 → post (val a1) → (∀ (post' : ρ → Prop) (b1 : A1), ok b1 → μ b1 < μ a1 → post' (val b1) → W d post' b1) → W (d + 1) post a1) :
    ∀ (d : Nat) (post : ρ → Prop) (a1 : A1), ok a1 → μ a1 < d → post (val a1) → W d post a1 := by
  intro d
  induction d with
  | zero => intro post a1 _ h; omega
  | succ d ih =>
    intro post a1 ho hm hp
    exact hs d post a1 ho hp (fun post' b1 ho' hm' hp' => ih post' b1 ho' (by omega) hp')
theorem rp2 {ρ A1 A2 : Type} (W : Nat → (ρ → Prop) → A1 → A2 → Prop) (ok : A1 → A2 → Prop) (μ : A1 → A2 → Nat) (val : A1 → A2 → ρ)
    (hs : ∀ (d : Nat) (post : ρ → Prop) (a1 : A1) (a2 : A2), ok a1 a2 → post (val a1 a2) → (∀ (post' : ρ → Prop) (b1 : A1) (b2 : A2), ok b1 b2 → μ b1 b2 < μ a1 a2 → post' (val b1 b2) → W d post' b1 b2) → W (d + 1) post a1 a2) :
    ∀ (d : Nat) (post : ρ → Prop) (a1 : A1) (a2 : A2), ok a1 a2 → μ a1 a2 < d → post (val a1 a2) → W d post a1 a2 := by
  intro d
  induction d with
  | zero => intro post a1 a2 _ h; omega
  | succ d ih =>
    intro post a1 a2 ho hm hp
    exact hs d post a1 a2 ho hp (fun post' b1 b2 ho' hm' hp' => ih post' b1 b2 ho' (by omega) hp')
theorem rp3 {ρ A1 A2 A3 : Type} (W : Nat → (ρ → Prop) → A1 → A2 → A3 → Prop) (ok : A1 → A2 → A3 → Prop) (μ : A1 → A2 → A3 → Nat) (val : A1 → A2 → A3 → ρ)
    (hs : ∀ (d : Nat) (post : ρ → Prop) (a1 : A1) (a2 : A2) (a3 : A3), ok a1 a2 a3 → post (val a1 a2 a3) → (∀ (post' : ρ → Prop) (b1 : A1) (b2 : A2) (b3 : A3), ok b1 b2 b3 → μ b1 b2 b3 < μ a1 a2 a3 → post' (val b1 b2 b3) → W d post' b1 b2 b3) → W (d + 1) post a1 a2 a3) :
    ∀ (d : Nat) (post : ρ → Prop) (a1 : A1) (a2 : A2) (a3 : A3), ok a1 a2 a3 → μ a1 a2 a3 < d → post (val a1 a2 a3) → W d post a1 a2 a3 := by
  intro d
  induction d with
  | zero => intro post a1 a2 a3 _ h; omega
  | succ d ih =>
    intro post a1 a2 a3 ho hm hp
    exact hs d post a1 a2 a3 ho hp (fun post' b1 b2 b3 ho' hm' hp' => ih post' b1 b2 b3 ho' (by omega) hp')
theorem rp4 {ρ A1 A2 A3 A4 : Type} (W : Nat → (ρ → Prop) → A1 → A2 → A3 → A4 → Prop) (ok : A1 → A2 → A3 → A4 → Prop) (μ : A1 → A2 → A3 → A4 → Nat) (val : A1 → A2 → A3 → A4 → ρ)
    (hs : ∀ (d : Nat) (post : ρ → Prop) (a1 : A1) (a2 : A2) (a3 : A3) (a4 : A4), ok a1 a2 a3 a4 → post (val a1 a2 a3 a4) → (∀ (post' : ρ → Prop) (b1 : A1) (b2 : A2) (b3 : A3) (b4 : A4), ok b1 b2 b3 b4 → μ b1 b2 b3 b4 < μ a1 a2 a3 a4 → post' (val b1 b2 b3 b4) → W d post' b1 b2 b3 b4) → W (d + 1) post a1 a2 a3 a4) :
    ∀ (d : Nat) (post : ρ → Prop) (a1 : A1) (a2 : A2) (a3 : A3) (a4 : A4), ok a1 a2 a3 a4 → μ a1 a2 a3 a4 < d → post (val a1 a2 a3 a4) → W d post a1 a2 a3 a4 := by
  intro d
  induction d with
  | zero => intro post a1 a2 a3 a4 _ h; omega
  | succ d ih =>
    intro post a1 a2 a3 a4 ho hm hp
    exact hs d post a1 a2 a3 a4 ho hp (fun post' b1 b2 b3 b4 ho' hm' hp' => ih post' b1 b2 b3 b4 ho' (by omega) hp')
theorem rp5 {ρ A1 A2 A3 A4 A5 : Type} (W : Nat → (ρ → Prop) → A1 → A2 → A3 → A4 → A5 → Prop) (ok : A1 → A2 → A3 → A4 → A5 → Prop) (μ : A1 → A2 → A3 → A4 → A5 → Nat) (val : A1 → A2 → A3 → A4 → A5 → ρ)
    (hs : ∀ (d : Nat) (post : ρ → Prop) (a1 : A1) (a2 : A2) (a3 : A3) (a4 : A4) (a5 : A5), ok a1 a2 a3 a4 a5 → post (val a1 a2 a3 a4 a5) → (∀ (post' : ρ → Prop) (b1 : A1) (b2 : A2) (b3 : A3) (b4 : A4) (b5 : A5), ok b1 b2 b3 b4 b5 → μ b1 b2 b3 b4 b5 < μ a1 a2 a3 a4 a5 → post' (val b1 b2 b3 b4 b5) → W d post' b1 b2 b3 b4 b5) → W (d + 1) post a1 a2 a3 a4 a5) :
    ∀ (d : Nat) (post : ρ → Prop) (a1 : A1) (a2 : A2) (a3 : A3) (a4 : A4) (a5 : A5), ok a1 a2 a3 a4 a5 → μ a1 a2 a3 a4 a5 < d → post (val a1 a2 a3 a4 a5) → W d post a1 a2 a3 a4 a5 := by
  intro d
  induction d with
  | zero => intro post a1 a2 a3 a4 a5 _ h; omega
  | succ d ih =>
    intro post a1 a2 a3 a4 a5 ho hm hp
    exact hs d post a1 a2 a3 a4 a5 ho hp (fun post' b1 b2 b3 b4 b5 ho' hm' hp' => ih post' b1 b2 b3 b4 b5 ho' (by omega) hp')
theorem rp6 {ρ A1 A2 A3 A4 A5 A6 : Type} (W : Nat → (ρ → Prop) → A1 → A2 → A3 → A4 → A5 → A6 → Prop) (ok : A1 → A2 → A3 → A4 → A5 → A6 → Prop) (μ : A1 → A2 → A3 → A4 → A5 → A6 → Nat) (val : A1 → A2 → A3 → A4 → A5 → A6 → ρ)
    (hs : ∀ (d : Nat) (post : ρ → Prop) (a1 : A1) (a2 : A2) (a3 : A3) (a4 : A4) (a5 : A5) (a6 : A6), ok a1 a2 a3 a4 a5 a6 → post (val a1 a2 a3 a4 a5 a6) → (∀ (post' : ρ → Prop) (b1 : A1) (b2 : A2) (b3 : A3) (b4 : A4) (b5 : A5) (b6 : A6), ok b1 b2 b3 b4 b5 b6 → μ b1 b2 b3 b4 b5 b6 < μ a1 a2 a3 a4 a5 a6 → post' (val b1 b2 b3 b4 b5 b6) → W d post' b1 b2 b3 b4 b5 b6) → W (d + 1) post a1 a2 a3 a4 a5 a6) :
    ∀ (d : Nat) (post : ρ → Prop) (a1 : A1) (a2 : A2) (a3 : A3) (a4 : A4) (a5 : A5) (a6 : A6), ok a1 a2 a3 a4 a5 a6 → μ a1 a2 a3 a4 a5 a6 < d → post (val a1 a2 a3 a4 a5 a6) → W d post a1 a2 a3 a4 a5 a6 := by
  intro d
  induction d with
  | zero => intro post a1 a2 a3 a4 a5 a6 _ h; omega
  | succ d ih =>
    intro post a1 a2 a3 a4 a5 a6 ho hm hp
    exact hs d post a1 a2 a3 a4 a5 a6 ho hp (fun post' b1 b2 b3 b4 b5 b6 ho' hm' hp' => ih post' b1 b2 b3 b4 b5 b6 ho' (by omega) hp')
theorem rec_p {σ ρ : Type} (W : Nat → (ρ → Prop) → σ → Prop) (ok : σ → Prop) (μ : σ → Nat) (val : σ → ρ)
    (hs : ∀ d s post, ok s → post (val s) → (∀ s' post', ok s' → μ s' < μ s → post' (val s') → W d post' s') → W (d + 1) post s) :
    ∀ d s post, ok s → μ s < d → post (val s) → W d post s := by
  intro d
  induction d with
  | zero => intro s post _ h; omega
  | succ d ih =>
    intro s post ho hm hp
    exact hs d s post ho hp (fun s' post' ho' hm' hp' => ih s' post' ho' (by omega) hp')
theorem rec_q {σ ρ : Type} (W : Nat → (ρ → Prop) → σ → Prop) (ok : σ → Prop) (μ : σ → Nat) (Q : σ → ρ → Prop)
    (hs : ∀ d s post, ok s → (∀ r, Q s r → post r) → (∀ s' post', ok s' → μ s' < μ s → (∀ r, Q s' r → post' r) → W d post' s') → W (d + 1) post s) :
    ∀ d s post, ok s → μ s < d → (∀ r, Q s r → post r) → W d post s := by
  intro d
  induction d with
  | zero => intro s post _ h; omega
  | succ d ih =>
    intro s post ho hm hp
    exact hs d s post ho hp (fun s' post' ho' hm' hp' => ih s' post' ho' (by omega) hp')
def bx_sum (f : Nat → Int32) : Nat → Int32
  | 0 => 0
  | n + 1 => bx_sum f n + f n
theorem ek_u {A : Prop} {B : Nat → Prop} {k N : Nat} (hk : k < N) (h : B k) : (some k = none → A) ∧ (∀ y : Nat, some k = some y → (y < N ∧ B y)) :=
  ⟨fun z => absurd z (Option.some_ne_none k), fun _ e => (by cases e; exact ⟨hk, h⟩)⟩
theorem ek_nu {A : Prop} {B : Nat → Prop} (h : A) : ((none : Option Nat) = none → A) ∧ (∀ y : Nat, (none : Option Nat) = some y → B y) :=
  ⟨fun _ => h, fun _ e => (by cases e)⟩
theorem ek_if {c d A B : Prop} (e : c ↔ d) (f : d → A) (g : ¬ d → B) : (c → A) ∧ (¬ c → B) :=
  ⟨fun z => f (e.mp z), fun z => g (fun y => z (e.mpr y))⟩
theorem ek_v {α : Sort _} {P : α → Prop} {a b : α} (e : a = b) (h : P b) : P a := e ▸ h
theorem co_some {x : Option Nat} {A : Prop} {B : Nat → Prop} (i : Nat) (h : B i) (hx : x = some i := by rfl) : (x = none → A) ∧ (∀ y : Nat, x = some y → B y) := by
  subst hx
  exact ⟨fun e => (nomatch e), fun y e => Option.some.inj e ▸ h⟩
theorem co_none {x : Option Nat} {A : Prop} {B : Nat → Prop} (h : A) (hx : x = none := by rfl) : (x = none → A) ∧ (∀ y : Nat, x = some y → B y) := by
  subst hx
  exact ⟨fun _ => h, fun y e => (nomatch e)⟩
theorem co_any {x : Option Nat} {A : Prop} {B : Nat → Prop} (hn : x = none → A) (hs : ∀ i : Nat, x = some i → B i) : (x = none → A) ∧ (∀ y : Nat, x = some y → B y) := ⟨hn, hs⟩
theorem co_2 {P : Nat → Prop} (h0 : P 0) (h1 : P 1) {i : Nat} (hi : i < 2) : P i :=
  match i, hi with
  | 0, _ => h0
  | 1, _ => h1
theorem co_3 {P : Nat → Prop} (h0 : P 0) (h1 : P 1) (h2 : P 2) {i : Nat} (hi : i < 3) : P i :=
  match i, hi with
  | 0, _ => h0
  | 1, _ => h1
  | 2, _ => h2
theorem co_4 {P : Nat → Prop} (h0 : P 0) (h1 : P 1) (h2 : P 2) (h3 : P 3) {i : Nat} (hi : i < 4) : P i :=
  match i, hi with
  | 0, _ => h0
  | 1, _ => h1
  | 2, _ => h2
  | 3, _ => h3
theorem co_dec {N : Nat} {P : Nat → Prop} [DecidablePred P] (h : (List.range N).all (fun i => decide (P i)) = true) {i : Nat} (hi : i < N) : P i := by
  have := List.all_eq_true.mp h i (List.mem_range.mpr hi)
  exact of_decide_eq_true this
theorem co_tab {α : Type} {l : List α} {d : α} {P : α → Prop} (h : ∀ a, a ∈ l → P a) {i : Nat} (hi : i < l.length) : P (l.getD i d) := by
  rw [List.getD_eq_getElem?_getD, List.getElem?_eq_getElem hi]
  exact h _ (List.getElem_mem hi)
theorem pk_mu {x : Int32} {L : Nat} (h0 : ¬ x < 0) (h : ¬ nI L ≤ x) (hL : L < 2 ^ 31) : ∃ j : Nat, j < L ∧ x = nI j ∧ x + 1 = nI (j + 1) ∧ x.toNatClampNeg = j ∧ L - (x + 1).toNatClampNeg < L - x.toNatClampNeg := by
  obtain ⟨j, hj, rfl⟩ := nI_of h0
  have hl : j < L := Nat.not_le.mp fun q => h (nI_le q hj)
  refine ⟨j, hl, rfl, nI_1 j, nI_clamp hj, ?_⟩
  rw [nI_1, nI_clamp (by omega), nI_clamp hj]
  omega
theorem op_s {α : Type} {r : Option α} {A : Prop} {B : α → Prop} {y : α} (h : r = some y) (b : B y) : (r = none → A) ∧ ∀ z, r = some z → B z :=
  ⟨fun e => (by rw [h] at e; cases e), fun z e => (by rw [h] at e; cases e; exact b)⟩
def l_holds {α : Type} (a : Nat → Option Nat) (LP : List Nat) (p : Nat → α) (c : Nat) (b : Nat → α) : Prop :=
  ∀ j, j < c → ∃ y, a j = some y ∧ y ∈ LP ∧ p y = b j
theorem l_holds_0 {α : Type} {a : Nat → Option Nat} {LP : List Nat} {p b : Nat → α} : l_holds a LP p 0 b := fun j h => absurd h (Nat.not_lt_zero j)
theorem l_in_new (LP : List Nat) (q : Nat) : q ∈ LP ++ [q] := List.mem_append.mpr (Or.inr (List.mem_singleton.mpr rfl))
def l_sum (b : Nat → Int32) : Nat → Int32
  | 0 => 0
  | k + 1 => l_sum b k + b k
theorem sb_shr0 (x : Int32) : x >>> ((0 : Int32) &&& 31) = x := by
  rw [show ((0 : Int32) &&& 31) = 0 by decide]
  simp
theorem sb_shl0 (x : Int32) : x <<< ((0 : Int32) &&& 31) = x := by
  rw [show ((0 : Int32) &&& 31) = 0 by decide]
  simp
theorem sb_cl0 : (0 : Int32).toNatClampNeg = 0 := by decide
theorem sb_m1 {p : Nat} (h : 0 < p) : nI p + (-1) = nI (p - 1) := by
  obtain ⟨q, rfl⟩ : ∃ q, p = q + 1 := ⟨p - 1, by omega⟩
  exact pk_m1 q
def sb_b (c : Nat) : Int32 := (nI c).toInt8.toInt32
theorem sb_byte : ∀ c, c < 256 → sb_b c &&& 255 = nI c ∧ ((nI c).toUInt32 % 65536).toInt32 = nI c ∧ nI c ≤ 255 := by decide +kernel
def sb_Fit (a : Nat → Int32) : Prop := ∀ j, fits .byte (.int (a j)) = true
def sb_Lat (t : Nat → Nat) (n : Nat) (a : Nat → Int32) : Prop := ∀ j, j < n → t j < 256 ∧ a j = sb_b (t j)
theorem sb_fitB (c : Nat) : fits .byte (.int (sb_b c)) = true := pk_fb _
theorem sb_fit0 : sb_Fit (fun _ => 0) := fun _ => by
  show fits .byte (.int 0) = true
  decide
theorem sb_fitU {a : Nat → Int32} {k : Nat} {x : Int32} (h : sb_Fit a) (hx : fits .byte (.int x) = true) : sb_Fit (upd a k x) := by
  intro j
  by_cases e : j = k
  · subst e
    rw [pk_us]
    exact hx
  · rw [pk_un e]
    exact h j
def sb_cat (t : Nat → Nat) (n : Nat) (s : Nat → Nat) : Nat → Nat := fun j => if j < n then t j else s (j - n)
theorem sb_cat_lo {t s : Nat → Nat} {n j : Nat} (h : j < n) : sb_cat t n s j = t j := if_pos h
theorem sb_cat_hi {t s : Nat → Nat} {n j : Nat} : sb_cat t n s (n + j) = s j := by
  show (if n + j < n then t (n + j) else s (n + j - n)) = s j
  rw [if_neg (by omega), Nat.add_sub_cancel_left]
theorem sb_latPut {t s : Nat → Nat} {n w : Nat} {a a' : Nat → Int32} (h : sb_Lat t n a) (hk : ∀ j, j < n → a' j = a j) (hs : ∀ i, i < w → s i < 256 ∧ a' (n + i) = sb_b (s i)) : sb_Lat (sb_cat t n s) (n + w) a' := by
  intro j hj
  by_cases e : j < n
  · rw [sb_cat_lo e, hk j e]
    exact h j e
  · obtain ⟨i, rfl⟩ : ∃ i, j = n + i := ⟨j - n, by omega⟩
    rw [sb_cat_hi]
    exact hs i (by omega)
theorem sb_latKeep {t : Nat → Nat} {n : Nat} {a a' : Nat → Int32} (h : sb_Lat t n a) (hk : ∀ j, j < n → a' j = a j) : sb_Lat t n a' := fun j hj => by
  rw [hk j hj]
  exact h j hj
def sb_cap (q m : Nat) : Nat := if q ≤ m then m else if 2 * m + 2 < q then q else 2 * m + 2
def sb_Room (q m mc ms : Nat) : Prop := q ≤ m ∨ (1 ≤ mc ∧ sb_cap q m ≤ ms ∧ sb_cap q m ≤ 65536)
theorem sb_cap_ge (q m : Nat) : q ≤ sb_cap q m := by
  unfold sb_cap
  split
  · omega
  · split <;> omega
theorem sb_cap_gem (q m : Nat) : m ≤ sb_cap q m := by
  unfold sb_cap
  split
  · omega
  · split <;> omega
theorem sb_cap_le {q m mc ms : Nat} (hm : m ≤ 65536) (hr : sb_Room q m mc ms) : sb_cap q m ≤ 65536 := by
  rcases hr with h | h
  · rw [sb_cap, if_pos h]
    exact hm
  · exact h.2.2
theorem sb_at {P : Int32 → Prop} {x y : Int32} (e : x = y) (h : P y) : P x := e ▸ h
def sb_dg (w : Nat) : Nat := if w < 10 then 1 else if w < 100 then 2 else if w < 1000 then 3 else if w < 10000 then 4 else if w < 100000 then 5 else if w < 1000000 then 6 else if w < 10000000 then 7 else if w < 100000000 then 8 else if w < 1000000000 then 9 else 10
def sb_dec (v : Nat) : Nat → Nat := fun i => 48 + v / 10 ^ (sb_dg v - 1 - i) % 10
theorem sb_dg_in (w : Nat) : 1 ≤ sb_dg w ∧ sb_dg w ≤ 10 := by
  unfold sb_dg
  constructor <;> (repeat' split) <;> omega
theorem sb_dg100 {w : Nat} (h : 100 ≤ w) (hw : w < 2 ^ 31) : sb_dg w = sb_dg (w / 100) + 2 := by
  rw [sb_dg, sb_dg, if_neg (show ¬ w < 10 by omega), if_neg (show ¬ w < 100 by omega)]
  by_cases h3 : w < 1000
  · rw [if_pos h3, if_pos (show w / 100 < 10 by omega)]
  rw [if_neg h3, if_neg (show ¬ w / 100 < 10 by omega)]
  by_cases h4 : w < 10000
  · rw [if_pos h4, if_pos (show w / 100 < 100 by omega)]
  rw [if_neg h4, if_neg (show ¬ w / 100 < 100 by omega)]
  by_cases h5 : w < 100000
  · rw [if_pos h5, if_pos (show w / 100 < 1000 by omega)]
  rw [if_neg h5, if_neg (show ¬ w / 100 < 1000 by omega)]
  by_cases h6 : w < 1000000
  · rw [if_pos h6, if_pos (show w / 100 < 10000 by omega)]
  rw [if_neg h6, if_neg (show ¬ w / 100 < 10000 by omega)]
  by_cases h7 : w < 10000000
  · rw [if_pos h7, if_pos (show w / 100 < 100000 by omega)]
  rw [if_neg h7, if_neg (show ¬ w / 100 < 100000 by omega)]
  by_cases h8 : w < 100000000
  · rw [if_pos h8, if_pos (show w / 100 < 1000000 by omega)]
  rw [if_neg h8, if_neg (show ¬ w / 100 < 1000000 by omega)]
  by_cases h9 : w < 1000000000
  · rw [if_pos h9, if_pos (show w / 100 < 10000000 by omega)]
  rw [if_neg h9, if_neg (show ¬ w / 100 < 10000000 by omega)]
  rw [if_pos (show w / 100 < 100000000 by omega)]
theorem sb_negT {w : Nat} (h : w < 2 ^ 31) : (-nI w).toInt = -(w : Int) := by
  rw [Int32.toInt_neg, nI_toInt h]
  exact Int.bmod_eq_of_le (by omega) (by omega)
theorem sb_nle {a b : Nat} (ha : a < 2 ^ 31) (hb : b < 2 ^ 31) : -nI a ≤ -nI b ↔ b ≤ a := by
  rw [Int32.le_iff_toInt_le, sb_negT ha, sb_negT hb]
  omega
theorem sb_nlt {a b : Nat} (ha : a < 2 ^ 31) (hb : b < 2 ^ 31) : -nI a < -nI b ↔ b < a := by
  rw [Int32.lt_iff_toInt_lt, sb_negT ha, sb_negT hb]
  omega
theorem sb_cmp {A B : Prop} {x : Int32} (v c : Nat) (f : c ≤ v → A) (g : v < c → B) (hv : v < 2 ^ 31) (hx : x = -nI c := by rfl) (hc : c < 2 ^ 31 := by omega) : (-nI v ≤ x → A) ∧ (¬ -nI v ≤ x → B) := by
  subst hx
  rw [sb_nle hv hc]
  exact ⟨f, fun z => g (by omega)⟩
theorem sb_ndiv {w : Nat} (hw : w < 2 ^ 31) : (-nI w) / 100 = -nI (w / 100) := by
  apply Int32.toInt_inj.mp
  have h100 : (100 : Int32).toInt = 100 := by decide
  rw [Int32.toInt_div, sb_negT hw, h100, sb_negT (by omega), Int.neg_tdiv, Int.tdiv_eq_ediv_of_nonneg (by omega), Int.bmod_eq_of_le (by omega) (by omega)]
  omega
theorem sb_nrem {w : Nat} (hw : w < 2 ^ 31) : (-nI (w / 100)) * 100 - (-nI w) = nI (w % 100) := by
  have h := pk_rem (a := w) (d := 100) hw (by decide) (by decide)
  rw [pk_div hw (by decide) (by decide)] at h
  rw [← h]
  show (-nI (w / 100)) * nI 100 - (-nI w) = nI w - nI (w / 100) * nI 100
  rw [Int32.neg_mul, Int32.sub_neg, Int32.add_comm, ← Int32.sub_eq_add_neg]
end
section
/-! rows on bits, shifts and unsigned numbers, to paste: each family out of a closed proof of our own, whole with what it rests on; each by itself clean at Lean in its own claim (generation 39, form 5). Take a family whole -/
/-! ===== Int32 by its bits: bt x i ===== -/
def bt (x : Int32) (i : Nat) : Bool := x.toBitVec.getLsbD i
theorem b_ext {x y : Int32} (h : ∀ i, i < 32 → bt x i = bt y i) : x = y := Int32.toBitVec_inj.mp (BitVec.eq_of_getLsbD_eq (fun i hi => h i hi))
theorem b_or (x y : Int32) (i : Nat) : bt (x ||| y) i = (bt x i || bt y i) := by unfold bt; rw [Int32.toBitVec_or, BitVec.getLsbD_or]
theorem b_and (x y : Int32) (i : Nat) : bt (x &&& y) i = (bt x i && bt y i) := by unfold bt; rw [Int32.toBitVec_and, BitVec.getLsbD_and]
theorem b_xor (x y : Int32) (i : Nat) : bt (x ^^^ y) i = (bt x i ^^ bt y i) := by unfold bt; rw [Int32.toBitVec_xor, BitVec.getLsbD_xor]
theorem b_big {x : Int32} {i : Nat} (h : 32 ≤ i) : bt x i = false := BitVec.getLsbD_of_ge _ _ h
theorem b_255 (i : Nat) : bt 255 i = decide (i < 8) := by
  rcases Nat.lt_or_ge i 32 with h | h
  · exact (by decide +kernel : ∀ i, i < 32 → bt 255 i = decide (i < 8)) i h
  · rw [b_big h, decide_eq_false (by omega)]
theorem b_65535 (i : Nat) : bt 65535 i = decide (i < 16) := by
  rcases Nat.lt_or_ge i 32 with h | h
  · exact (by decide +kernel : ∀ i, i < 32 → bt 65535 i = decide (i < 16)) i h
  · rw [b_big h, decide_eq_false (by omega)]
theorem b_m1 : ∀ i, i < 32 → bt (-1) i = true := by decide +kernel
theorem b_0 (i : Nat) : bt 0 i = false := BitVec.getLsbD_zero
theorem s_l : ∀ n, n < 32 → ((nI n &&& 31).toBitVec.smod 32).toNat = n := by decide +kernel
theorem s_u : ∀ n, n < 32 → (((nI n).toUInt32 &&& Int32.toUInt32 31).toBitVec % 32).toNat = n := by decide +kernel
theorem b_shl (n : Nat) (hn : n < 32) (x : Int32) {i : Nat} (hi : i < 32) : bt (x <<< (nI n &&& 31)) i = (decide (n ≤ i) && bt x (i - n)) := by
  unfold bt
  rw [Int32.toBitVec_shiftLeft]
  show (x.toBitVec <<< ((nI n &&& 31).toBitVec.smod 32).toNat).getLsbD i = _
  rw [s_l n hn, BitVec.getLsbD_shiftLeft]
  rcases Nat.lt_or_ge i n with h | h
  · simp [h, Nat.not_le.mpr h]
  · simp [hi, h, Nat.not_lt.mpr h]
theorem b_ushr (n : Nat) (hn : n < 32) (x : Int32) (i : Nat) : bt ((x.toUInt32 >>> ((nI n).toUInt32 &&& Int32.toUInt32 31)).toInt32) i = bt x (n + i) := by
  show (x.toUInt32 >>> ((nI n).toUInt32 &&& Int32.toUInt32 31)).toBitVec.getLsbD i = x.toUInt32.toBitVec.getLsbD (n + i)
  rw [UInt32.toBitVec_shiftRight]
  show (x.toUInt32.toBitVec >>> (((nI n).toUInt32 &&& Int32.toUInt32 31).toBitVec % 32).toNat).getLsbD i = _
  rw [s_u n hn, BitVec.getLsbD_ushiftRight]
theorem b_sshr (n : Nat) (hn : n < 32) (x : Int32) {i : Nat} (hi : i < 32) : bt (x >>> (nI n &&& 31)) i = if n + i < 32 then bt x (n + i) else bt x 31 := by
  unfold bt
  rw [Int32.toBitVec_shiftRight]
  show (x.toBitVec.sshiftRight ((nI n &&& 31).toBitVec.smod 32).toNat).getLsbD i = _
  rw [s_l n hn, BitVec.getLsbD_sshiftRight, BitVec.msb_eq_getLsbD_last]
  simp [hi]
theorem b_shl8 (x : Int32) {i : Nat} (hi : i < 32) : bt (x <<< ((8 : Int32) &&& 31)) i = (decide (8 ≤ i) && bt x (i - 8)) := b_shl 8 (by omega) x hi
theorem b_shl16 (x : Int32) {i : Nat} (hi : i < 32) : bt (x <<< ((16 : Int32) &&& 31)) i = (decide (16 ≤ i) && bt x (i - 16)) := b_shl 16 (by omega) x hi
theorem b_shl24 (x : Int32) {i : Nat} (hi : i < 32) : bt (x <<< ((24 : Int32) &&& 31)) i = (decide (24 ≤ i) && bt x (i - 24)) := b_shl 24 (by omega) x hi
theorem b_sshr8 (x : Int32) {i : Nat} (hi : i < 32) : bt (x >>> ((8 : Int32) &&& 31)) i = if 8 + i < 32 then bt x (8 + i) else bt x 31 := b_sshr 8 (by omega) x hi
/-! ===== nI under and, xor, >>>, one bit, 65535 ===== -/
theorem nx_and (a b : Nat) : nI a &&& nI b = nI (a &&& b) := by
  apply Int32.toBitVec_inj.1
  show BitVec.ofNat 32 a &&& BitVec.ofNat 32 b = BitVec.ofNat 32 (a &&& b)
  apply BitVec.eq_of_getLsbD_eq
  intro i hi
  simp [hi]
theorem nx_xor (a b : Nat) : nI a ^^^ nI b = nI (a ^^^ b) := by
  apply Int32.toBitVec_inj.1
  show BitVec.ofNat 32 a ^^^ BitVec.ofNat 32 b = BitVec.ofNat 32 (a ^^^ b)
  apply BitVec.eq_of_getLsbD_eq
  intro i hi
  simp [hi]
theorem nx_cnt : ∀ j : Fin 32, (UInt32.ofNat j.val &&& Int32.toUInt32 31).toNat % 32 = j.val := by decide +kernel
theorem nx_ush {k j : Nat} (hk : k < 65536) (hj : j < 32) : ((nI k).toUInt32 >>> ((nI j).toUInt32 &&& Int32.toUInt32 31)).toInt32 = nI (k >>> j) := by
  have hs : k >>> j ≤ k := by
    rw [Nat.shiftRight_eq_div_pow]
    exact Nat.div_le_self _ _
  have e2 : UInt32.ofNat k >>> (UInt32.ofNat j &&& Int32.toUInt32 31) = UInt32.ofNat (k >>> j) := by
    apply UInt32.toNat_inj.1
    have h1 : (UInt32.ofNat k).toNat = k := Nat.mod_eq_of_lt (by omega)
    have h2 : (UInt32.ofNat (k >>> j)).toNat = k >>> j := Nat.mod_eq_of_lt (by omega)
    rw [UInt32.toNat_shiftRight, nx_cnt ⟨j, hj⟩, h1, h2]
  show (UInt32.ofNat k >>> (UInt32.ofNat j &&& Int32.toUInt32 31)).toInt32 = _
  rw [e2]
  rfl
theorem nx_bit {k j : Nat} (hk : k < 65536) (hj : j < 16) : (((nI k).toUInt32 >>> ((nI j).toUInt32 &&& Int32.toUInt32 31)).toInt32 &&& 1) = 0 ↔ k.testBit j = false := by
  rw [nx_ush hk (by omega)]
  show nI (k >>> j) &&& nI 1 = 0 ↔ _
  rw [nx_and, Nat.and_one_is_mod, ← nI_0, nI_eq (by omega) (by omega), Nat.testBit_eq_decide_div_mod_eq, Nat.shiftRight_eq_div_pow, decide_eq_false_iff_not]
  generalize k / 2 ^ j = z
  omega
theorem nx_mod (k : Nat) : nI k &&& 65535 = nI (k % 65536) := by
  show nI k &&& nI 65535 = _
  rw [nx_and, show (65535 : Nat) = 2 ^ 16 - 1 from rfl, Nat.and_two_pow_sub_one_eq_mod]
theorem nx_m16 {k : Nat} (h : k < 65536) : nI k &&& 65535 = nI k := by rw [nx_mod, Nat.mod_eq_of_lt h]
theorem nx_mask (x : Int32) : ∃ k, k < 65536 ∧ x &&& 65535 = nI k := by
  have e : x = nI x.toBitVec.toNat := by
    apply Int32.toBitVec_inj.1
    show x.toBitVec = BitVec.ofNat 32 x.toBitVec.toNat
    simp
  refine ⟨x.toBitVec.toNat % 65536, Nat.mod_lt _ (by omega), ?_⟩
  rw [← nx_mod, ← e]
/-! ===== Int32 as a set of bits: test, set ===== -/
def nf_M (m : Int32) : Nat := 4294967296 - m.toBitVec.toNat
theorem nf_sh : ∀ l, l < 32 → ((1 : Int32) <<< (nI l &&& 31)).toBitVec = BitVec.twoPow 32 l := by decide +kernel
theorem nf_sl : ∀ l, l < 32 → (((nI l).toUInt32 &&& Int32.toUInt32 31).toBitVec % 32).toNat = l := by decide +kernel
theorem nf_tp : ∀ l, l < 32 → BitVec.twoPow 32 l ≠ 0#32 := by decide +kernel
theorem nf_bit (m : Int32) (l : Nat) (hl : l < 32) : ((m.toUInt32 >>> ((nI l).toUInt32 &&& Int32.toUInt32 31)).toInt32 &&& 1) = 0 ↔ (m &&& ((1 : Int32) <<< (nI l &&& 31))) = 0 := by
  have e : ((m.toUInt32 >>> ((nI l).toUInt32 &&& Int32.toUInt32 31)).toInt32).toBitVec = m.toBitVec >>> l := by
    show m.toBitVec >>> (((nI l).toUInt32 &&& Int32.toUInt32 31).toBitVec % 32) = m.toBitVec >>> l
    rw [BitVec.ushiftRight_eq', nf_sl l hl]
  rw [← Int32.toBitVec_inj, ← Int32.toBitVec_inj, Int32.toBitVec_and, Int32.toBitVec_and, nf_sh l hl, e, BitVec.and_twoPow]
  show (m.toBitVec >>> l &&& 1#32) = 0#32 ↔ _ = 0#32
  rw [BitVec.and_one_eq_setWidth_ofBool_getLsbD, BitVec.getLsbD_ushiftRight, Nat.add_zero]
  cases hb : m.toBitVec.getLsbD l
  · exact ⟨fun _ => by simp, fun _ => by decide⟩
  · exact ⟨fun z => absurd z (by decide), fun z => absurd ((if_pos rfl).symm.trans z) (nf_tp l hl)⟩
theorem nf_gr (m k : Int32) (h : m &&& k = 0) (hk : k ≠ 0) : nf_M (m ||| k) < nf_M m := by
  have hm := m.toBitVec.isLt
  have hm' := (m ||| k).toBitVec.isLt
  have h1 : m.toBitVec.toNat ≤ (m ||| k).toBitVec.toNat := by
    rw [Int32.toBitVec_or, BitVec.toNat_or]
    exact Nat.left_le_or
  have h2 : m.toBitVec.toNat ≠ (m ||| k).toBitVec.toNat := by
    intro e
    have e2 : m = m ||| k := Int32.toBitVec_inj.mp (BitVec.eq_of_toNat_eq e)
    apply hk
    apply Int32.toBitVec_inj.mp
    show k.toBitVec = 0#32
    apply BitVec.eq_of_getLsbD_eq
    intro i hi
    have a : m.toBitVec.getLsbD i = (m.toBitVec.getLsbD i || k.toBitVec.getLsbD i) := by rw [← BitVec.getLsbD_or, ← Int32.toBitVec_or, ← e2]
    have b : (m.toBitVec.getLsbD i && k.toBitVec.getLsbD i) = false := by
      rw [← BitVec.getLsbD_and, ← Int32.toBitVec_and, h]
      exact BitVec.getLsbD_zero
    rw [BitVec.getLsbD_zero]
    revert a b
    cases m.toBitVec.getLsbD i <;> cases k.toBitVec.getLsbD i <;> simp
  unfold nf_M
  omega
/-! ===== a byte read unsigned ===== -/
theorem bp_b (x : Int32) : x.toInt8.toInt32 &&& 255 = x &&& 255 := by
  apply Int32.toBitVec_inj.mp
  rw [Int32.toBitVec_and, Int32.toBitVec_and, Int8.toBitVec_toInt32, Int32.toBitVec_toInt8]
  apply BitVec.eq_of_getLsbD_eq
  intro i hi
  rw [BitVec.getLsbD_and, BitVec.getLsbD_and]
  have hm : ∀ i < 32, 8 ≤ i → (255 : Int32).toBitVec.getLsbD i = false := by decide
  rcases Nat.lt_or_ge i 8 with z | z
  · rw [BitVec.getLsbD_signExtend, BitVec.getLsbD_signExtend, if_pos z, if_pos hi]
    simp only [z, hi, decide_true, Bool.true_and]
  · rw [hm i hi z]; simp
/-! ===== the char cast and 65535 ===== -/
theorem em_w (v : Int32) : ∃ w : Nat, w < 65536 ∧ (v.toUInt32 % 65536).toInt32 = nI w ∧ v &&& 65535 = nI w := by
  have hr := lw_u16_r v
  have h0 : (0 : Int32).toInt = 0 := by decide
  obtain ⟨w, h1, h2⟩ := nI_of (x := lw_u16 v) (by rw [Int32.lt_iff_toInt_lt]; omega)
  have h3 : (v.toUInt32 % 65536).toInt32 = nI w := h2
  rw [h2, nI_toInt h1] at hr
  exact ⟨w, by omega, h3, by rw [← lg_i2c_mask, ← lg_i2c_nf, h3]⟩
/-! ===== Int64 as a set of bits: test, set, clear ===== -/
theorem ts_nf {x : Bool} (h : ¬ x = false) : x = true := by cases x <;> first | rfl | exact absurd rfl h
theorem ts_nt {x : Bool} (h : ¬ x = true) : x = false := by cases x <;> first | rfl | exact absurd rfl h
theorem ts_bit {w : Int64} {s : UInt64} {j : Nat} (hj : j < 64) (hs : s.toNat = j) : ((w.toUInt64 >>> s).toInt64 &&& 1) = 0 ↔ w.toBitVec.getLsbD j = false := by
  have e : (w.toUInt64 >>> s).toInt64.toBitVec = w.toBitVec >>> j := by
    apply BitVec.eq_of_toNat_eq
    show (w.toUInt64 >>> s).toNat = _
    rw [UInt64.toNat_shiftRight, hs, Nat.mod_eq_of_lt hj, BitVec.toNat_ushiftRight]
    rfl
  rw [← Int64.toBitVec_inj, Int64.toBitVec_and, e]
  show w.toBitVec >>> j &&& 1#64 = 0#64 ↔ _
  constructor
  · intro h
    have t := congrArg (fun x => x.getLsbD 0) h
    simpa using t
  · intro h
    apply BitVec.eq_of_getLsbD_eq
    intro i hi
    cases i with
    | zero => simp [h]
    | succ i => simp
theorem ts_or {w m : Int64} {j : Nat} (hj : j < 64) (hm : m.toBitVec = BitVec.twoPow 64 j) : (w ||| m) = w ↔ w.toBitVec.getLsbD j = true := by
  rw [← Int64.toBitVec_inj, Int64.toBitVec_or, hm]
  constructor
  · intro h
    have t := congrArg (fun x => x.getLsbD j) h
    simp only [BitVec.getLsbD_or, BitVec.getLsbD_twoPow] at t
    simpa [hj] using t.symm
  · intro h
    apply BitVec.eq_of_getLsbD_eq
    intro i hi
    rw [BitVec.getLsbD_or, BitVec.getLsbD_twoPow]
    by_cases e : j = i
    · subst e; rw [h, Bool.true_or]
    · simp [e]
theorem ts_and {w m : Int64} {j : Nat} (hj : j < 64) (hm : m.toBitVec = BitVec.twoPow 64 j) : (w &&& (m ^^^ (-1))) = w ↔ w.toBitVec.getLsbD j = false := by
  have ha : (-1 : Int64).toBitVec = BitVec.allOnes 64 := by decide
  rw [← Int64.toBitVec_inj, Int64.toBitVec_and, Int64.toBitVec_xor, hm, ha]
  constructor
  · intro h
    have t := congrArg (fun x => x.getLsbD j) h
    simp only [BitVec.getLsbD_and, BitVec.getLsbD_xor, BitVec.getLsbD_twoPow, BitVec.getLsbD_allOnes] at t
    simpa [hj] using t.symm
  · intro h
    apply BitVec.eq_of_getLsbD_eq
    intro i hi
    rw [BitVec.getLsbD_and, BitVec.getLsbD_xor, BitVec.getLsbD_twoPow, BitVec.getLsbD_allOnes]
    by_cases e : j = i
    · subst e; rw [h, Bool.false_and]
    · simp [e, hi]
/-! ===== lN n to 2^64: shifts, and, or, masks, one bit ===== -/
theorem wb_tb (n : Nat) : (lN n).toBitVec = BitVec.ofNat 64 n := rfl
theorem wb_inj {a b : Int64} (h : a.toBitVec = b.toBitVec) : a = b := Int64.toBitVec_inj.mp h
theorem wb_tn {n : Nat} (h : n < 2 ^ 64) : (lN n).toBitVec.toNat = n := by rw [wb_tb, BitVec.toNat_ofNat, Nat.mod_eq_of_lt h]
theorem wb_of (x : Int64) : ∃ n, n < 2 ^ 64 ∧ x = lN n := ⟨x.toBitVec.toNat, x.toBitVec.isLt, wb_inj (by rw [wb_tb]; simp)⟩
theorem wb_of32 (x : Int32) : ∃ n, n < 2 ^ 32 ∧ x = nI n := ⟨x.toBitVec.toNat, x.toBitVec.isLt, Int32.toBitVec_inj.mp (by show _ = BitVec.ofNat 32 _; simp)⟩
theorem wb_c : ∀ k, k < 64 → ((nI k).toInt64 &&& 63) = lN k := by decide +kernel
theorem wb_cu : ∀ k, k < 64 → ((nI k).toInt64.toUInt64 &&& Int64.toUInt64 63) = UInt64.ofNat k := by decide +kernel
theorem wb_sm : ∀ k, k < 64 → (BitVec.ofNat 64 k).smod 64 = BitVec.ofNat 64 k := by decide +kernel
theorem wb_pw {a b : Nat} (h : a ≤ b) : 2 ^ b = 2 ^ a * 2 ^ (b - a) := by rw [← Nat.pow_add]; congr 1; omega
theorem wb_lt2 {a b : Nat} (h : a < b) : 2 ^ a < 2 ^ b := Nat.pow_lt_pow_right (by decide) h
theorem wb_mod (n : Nat) : lN n = lN (n % 2 ^ 64) := wb_inj (by rw [wb_tb, wb_tb]; apply BitVec.eq_of_toNat_eq; rw [BitVec.toNat_ofNat, BitVec.toNat_ofNat, Nat.mod_mod])
theorem wb_shr {n k : Nat} (hn : n < 2 ^ 64) (hk : k < 64) : ((lN n).toUInt64 >>> ((nI k).toInt64.toUInt64 &&& Int64.toUInt64 63)).toInt64 = lN (n / 2 ^ k) := by
  rw [wb_cu k hk]
  apply wb_inj
  apply BitVec.eq_of_toNat_eq
  show ((lN n).toUInt64 >>> UInt64.ofNat k).toNat = (BitVec.ofNat 64 _).toNat
  have h1 : (UInt64.ofNat k).toNat = k := by
    show (BitVec.ofNat 64 k).toNat = k
    rw [BitVec.toNat_ofNat, Nat.mod_eq_of_lt (by omega)]
  have h2 : (lN n).toUInt64.toNat = n := wb_tn hn
  rw [UInt64.toNat_shiftRight, h1, h2, Nat.mod_eq_of_lt hk, Nat.shiftRight_eq_div_pow, BitVec.toNat_ofNat, Nat.mod_eq_of_lt (Nat.lt_of_le_of_lt (Nat.div_le_self _ _) hn)]
theorem wb_shl (n : Nat) {k : Nat} (hk : k < 64) : lN n <<< ((nI k).toInt64 &&& 63) = lN (n * 2 ^ k) := by
  rw [wb_c k hk]
  apply wb_inj
  rw [Int64.toBitVec_shiftLeft, wb_tb, wb_tb, wb_tb, wb_sm k hk]
  apply BitVec.eq_of_toNat_eq
  rw [BitVec.shiftLeft_eq', BitVec.toNat_shiftLeft, BitVec.toNat_ofNat, BitVec.toNat_ofNat, BitVec.toNat_ofNat, Nat.mod_eq_of_lt (show k < 2 ^ 64 by omega), Nat.shiftLeft_eq, Nat.mul_mod, Nat.mod_mod, ← Nat.mul_mod]
theorem wb_and {a b : Nat} (ha : a < 2 ^ 64) (hb : b < 2 ^ 64) : lN a &&& lN b = lN (a &&& b) := by
  apply wb_inj
  rw [Int64.toBitVec_and, wb_tb, wb_tb, wb_tb]
  apply BitVec.eq_of_toNat_eq
  rw [BitVec.toNat_and, BitVec.toNat_ofNat, BitVec.toNat_ofNat, BitVec.toNat_ofNat, Nat.mod_eq_of_lt ha, Nat.mod_eq_of_lt hb, Nat.mod_eq_of_lt (Nat.and_lt_two_pow _ hb)]
theorem wb_or {a b : Nat} (ha : a < 2 ^ 64) (hb : b < 2 ^ 64) : lN a ||| lN b = lN (a ||| b) := by
  apply wb_inj
  rw [Int64.toBitVec_or, wb_tb, wb_tb, wb_tb]
  apply BitVec.eq_of_toNat_eq
  rw [BitVec.toNat_or, BitVec.toNat_ofNat, BitVec.toNat_ofNat, BitVec.toNat_ofNat, Nat.mod_eq_of_lt ha, Nat.mod_eq_of_lt hb, Nat.mod_eq_of_lt (Nat.or_lt_two_pow ha hb)]
theorem wb_mask {n k : Nat} (hn : n < 2 ^ 64) (hk : k < 64) : lN n &&& lN (2 ^ k - 1) = lN (n % 2 ^ k) := by
  rw [wb_and hn (by have := wb_lt2 hk; omega), Nat.and_two_pow_sub_one_eq_mod]
theorem wb_a1 {n : Nat} (hn : n < 2 ^ 64) : lN n &&& 1 = lN (n % 2) := wb_mask (k := 1) hn (by decide)
theorem wb_bit {n k : Nat} (hn : n < 2 ^ 64) (hk : k < 64) : ((lN n).toUInt64 >>> ((nI k).toInt64.toUInt64 &&& Int64.toUInt64 63)).toInt64 &&& 1 = lN (n / 2 ^ k % 2) := by
  rw [wb_shr hn hk, wb_a1 (Nat.lt_of_le_of_lt (Nat.div_le_self _ _) hn)]
theorem wb_xor {q k : Nat} (hk : k < 63) (h : 2 ^ k ≤ q) (h2 : q < 2 ^ (k + 1)) : lN q ^^^ lN (2 ^ k) = lN (q - 2 ^ k) := by
  obtain ⟨r, rfl⟩ : ∃ r, q = 2 ^ k + r := ⟨q - 2 ^ k, by omega⟩
  have hr : r < 2 ^ k := by rw [Nat.pow_succ] at h2; omega
  have hx : (2 ^ k + r) ^^^ 2 ^ k = r := by
    apply Nat.eq_of_testBit_eq
    intro i
    rw [Nat.testBit_xor, Nat.testBit_two_pow]
    rcases Nat.lt_trichotomy i k with h | h | h
    · rw [Nat.testBit_two_pow_add_gt h]
      simp [show ¬ k = i by omega]
    · subst h
      rw [Nat.testBit_two_pow_add_eq]
      simp
    · have a1 : 2 ^ (k + 1) ≤ 2 ^ i := Nat.pow_le_pow_right (by decide) h
      rw [Nat.testBit_lt_two_pow (show 2 ^ k + r < 2 ^ i by omega), Nat.testBit_lt_two_pow (show r < 2 ^ i by omega)]
      simp [show ¬ k = i by omega]
  have b1 := wb_lt2 (show k + 1 < 64 by omega)
  have b2 := wb_lt2 (show k < 64 by omega)
  apply wb_inj
  rw [Int64.toBitVec_xor, wb_tb, wb_tb, wb_tb]
  apply BitVec.eq_of_toNat_eq
  rw [BitVec.toNat_xor, BitVec.toNat_ofNat, BitVec.toNat_ofNat, BitVec.toNat_ofNat, Nat.mod_eq_of_lt (by omega : 2 ^ k + r < 2 ^ 64), Nat.mod_eq_of_lt b2, hx, Nat.add_sub_cancel_left, Nat.mod_eq_of_lt (by omega)]
/-! ===== lN: masks, 'or' of parts that don't overlap is a sum ===== -/
theorem u_tn {n : Nat} (h : n < 2 ^ 64) : (UInt64.ofNat n).toNat = n := Nat.mod_eq_of_lt h
theorem g_and {a b c : Nat} (ha : a < 2 ^ 64) (hb : b < 2 ^ 64) (hc : a &&& b = c) : lN a &&& lN b = lN c := by
  subst hc
  have h : UInt64.ofNat a &&& UInt64.ofNat b = UInt64.ofNat (a &&& b) := UInt64.toNat_inj.mp (by rw [UInt64.toNat_and, u_tn ha, u_tn hb, u_tn (Nat.and_lt_two_pow a hb)])
  have h2 := congrArg UInt64.toInt64 h
  exact h2
theorem g_and1 {a : Nat} (ha : a < 2 ^ 64) : lN a &&& 1 = lN (a % 2) := g_and (b := 1) ha (by decide) (Nat.and_two_pow_sub_one_eq_mod a 1)
theorem g_mask {a s p : Nat} (hp : 2 ^ s = p) (hs : s < 64) (ha : a < 2 ^ 64) : lN a &&& lN (p - 1) = lN (a % p) := by
  subst hp
  have := Nat.pow_lt_pow_right (show 1 < 2 by decide) hs
  exact g_and ha (by omega) (Nat.and_two_pow_sub_one_eq_mod a s)
theorem g_or {k p a b : Nat} (hp : 2 ^ k = p) (ha : a < p) (h : b * p + a < 2 ^ 64) : lN (b * p) ||| lN a = lN (b * p + a) := by
  subst hp
  have h1 : b * 2 ^ k ||| a = b * 2 ^ k + a := by rw [← Nat.shiftLeft_eq, Nat.shiftLeft_add_eq_or_of_lt ha]
  have h3 : UInt64.ofNat (b * 2 ^ k) ||| UInt64.ofNat a = UInt64.ofNat (b * 2 ^ k + a) := UInt64.toNat_inj.mp (by rw [UInt64.toNat_or, u_tn (by omega), u_tn (by omega), u_tn h, h1])
  have h2 := congrArg UInt64.toInt64 h3
  exact h2
theorem g_or' {k p a b : Nat} (hp : 2 ^ k = p) (ha : a < p) (h : a + b * p < 2 ^ 64) : lN a ||| lN (b * p) = lN (a + b * p) := by
  rw [Int64.or_comm, g_or hp ha (by omega), Nat.add_comm]
theorem g_ushr {a k p : Nat} {y : UInt64} (hy : y = UInt64.ofNat k) (hk : k < 64) (hp : 2 ^ k = p) (ha : a < 2 ^ 64) : ((lN a).toUInt64 >>> y).toInt64 = lN (a / p) := by
  subst hy hp
  have h : UInt64.ofNat a >>> UInt64.ofNat k = UInt64.ofNat (a / 2 ^ k) := UInt64.toNat_inj.mp (by rw [UInt64.toNat_shiftRight, u_tn ha, u_tn (by omega), u_tn (Nat.lt_of_le_of_lt (Nat.div_le_self _ _) ha), Nat.mod_eq_of_lt hk, Nat.shiftRight_eq_div_pow])
  have h2 := congrArg UInt64.toInt64 h
  exact h2
theorem g_shl {a k p : Nat} {y : Int64} (hy : y.toBitVec.smod 64 = BitVec.ofNat 64 k) (hk : k < 64) (hp : 2 ^ k = p) (ha : a < 2 ^ 64) : lN a <<< y = lN (a * p) := by
  subst hp
  apply Int64.toBitVec_inj.mp
  rw [Int64.toBitVec_shiftLeft, hy]
  apply BitVec.eq_of_toNat_eq
  have hb : (lN a).toBitVec.toNat = a := Nat.mod_eq_of_lt ha
  have hk' : (BitVec.ofNat 64 k).toNat = k := Nat.mod_eq_of_lt (by omega)
  have h : ((lN a).toBitVec <<< BitVec.ofNat 64 k).toNat = (a * 2 ^ k) % 2 ^ 64 := by simp only [BitVec.shiftLeft_eq', BitVec.toNat_shiftLeft, hb, hk', Nat.shiftLeft_eq]
  exact h
/-! ===== lN to 2^62 under >> and >>> ===== -/
theorem pf_lI {a : Nat} (h : a < 2 ^ 63) : (lN a).toInt = (a : Int) := lg_ofNat_toInt h
theorem pf_shr {a d : Nat} {D : Int64} (hD : (D.toBitVec.smod 64).toNat = d) (h : a < 2 ^ 62) : lN a >>> D = lN (a / 2 ^ d) := by
  have hd : a / 2 ^ d ≤ a := Nat.div_le_self _ _
  apply Int64.toInt_inj.mp
  have e : (lN a >>> D).toInt = (lN a).toInt >>> d := by
    rw [← hD]
    exact BitVec.toInt_sshiftRight ..
  rw [e, Int.shiftRight_eq_div_pow, pf_lI (by omega), pf_lI (by omega)]
  rfl
theorem pf_ushr {a d : Nat} {D : UInt64} (hD : D.toNat % 64 = d) (h : a < 2 ^ 62) : ((lN a).toUInt64 >>> D).toInt64 = lN (a / 2 ^ d) := by
  have hd : a / 2 ^ d ≤ a := Nat.div_le_self _ _
  have e : (lN a).toUInt64 >>> D = UInt64.ofNat (a / 2 ^ d) := UInt64.toNat_inj.mp (by
    rw [UInt64.toNat_shiftRight, hD, Nat.shiftRight_eq_div_pow, UInt64.toNat_ofNat']
    show (UInt64.ofNat a).toNat / 2 ^ d = _
    rw [UInt64.toNat_ofNat', Nat.mod_eq_of_lt (by omega), Nat.mod_eq_of_lt (by omega)])
  rw [e]
  rfl
theorem pf_andw (x : Int64) : ∃ m, m < 2 ^ 32 ∧ x &&& 4294967295 = lN m := ⟨x.toBitVec.toNat % 2 ^ 32, Nat.mod_lt _ (by decide), Int64.toBitVec_inj.mp (BitVec.eq_of_toNat_eq (by
  show (x.toBitVec &&& 4294967295#64).toNat = (BitVec.ofNat 64 (x.toBitVec.toNat % 2 ^ 32)).toNat
  rw [BitVec.toNat_and, show (4294967295#64).toNat = 2 ^ 32 - 1 from by decide, Nat.and_two_pow_sub_one_eq_mod, BitVec.toNat_ofNat]
  omega))⟩
/-! ===== Int64 as an unsigned number: uN x ===== -/
def uN (x : Int64) : Nat := x.toUInt64.toNat
theorem uN_lt (x : Int64) : uN x < 18446744073709551616 := x.toUInt64.toNat_lt
theorem uN_inj {x y : Int64} (h : uN x = uN y) : x = y := congrArg UInt64.toInt64 (UInt64.toNat_inj.mp h)
theorem uN_add (x y : Int64) : uN (x + y) = (uN x + uN y) % 18446744073709551616 := by
  show (x.toUInt64 + y.toUInt64).toNat = _
  exact UInt64.toNat_add _ _
theorem uN_mul (x y : Int64) : uN (x * y) = (uN x * uN y) % 18446744073709551616 := by
  show (x.toUInt64 * y.toUInt64).toNat = _
  exact UInt64.toNat_mul _ _
theorem uN_shl (x : Int64) : uN (x <<< ((1 : Int32).toInt64 &&& 63)) = (2 * uN x) % 18446744073709551616 := by
  have h : (((1 : Int32).toInt64 &&& 63).toBitVec.smod 64).toNat = 1 := by decide
  show (x.toBitVec <<< (((1 : Int32).toInt64 &&& 63).toBitVec.smod 64).toNat).toNat = _
  rw [h, BitVec.toNat_shiftLeft, Nat.shiftLeft_eq, Nat.mul_comm]
  rfl
theorem uN_shr (x : Int64) (s : UInt64) : uN (x.toUInt64 >>> s).toInt64 = uN x / 2 ^ (s.toNat % 64) := by
  show (x.toUInt64 >>> s).toNat = _
  rw [UInt64.toNat_shiftRight, Nat.shiftRight_eq_div_pow]
  rfl
theorem uN_s32 (x : Int64) : uN (x.toUInt64 >>> ((32 : Int32).toInt64.toUInt64 &&& Int64.toUInt64 63)).toInt64 = uN x / 4294967296 := by
  have h : ((32 : Int32).toInt64.toUInt64 &&& Int64.toUInt64 63).toNat % 64 = 32 := by decide
  rw [uN_shr, h]
theorem uN_s63 (x : Int64) : uN (x.toUInt64 >>> ((63 : Int32).toInt64.toUInt64 &&& Int64.toUInt64 63)).toInt64 = uN x / 9223372036854775808 := by
  have h : ((63 : Int32).toInt64.toUInt64 &&& Int64.toUInt64 63).toNat % 64 = 63 := by decide
  rw [uN_shr, h]
theorem uN_lo (x : Int64) : uN (x &&& 4294967295) = uN x % 4294967296 := by
  show (x.toUInt64 &&& Int64.toUInt64 4294967295).toNat = _
  rw [UInt64.toNat_and]
  exact Nat.and_two_pow_sub_one_eq_mod _ 32
theorem uN_bit (x : Int64) : (x &&& 1) = 0 ↔ uN x % 2 = 0 := by
  have h : uN (x &&& 1) = uN x % 2 := by
    show (x.toUInt64 &&& Int64.toUInt64 1).toNat = _
    rw [UInt64.toNat_and]
    exact Nat.and_two_pow_sub_one_eq_mod _ 1
  rw [← h]
  exact ⟨fun z => by rw [z]; rfl, fun z => uN_inj (z.trans rfl)⟩
theorem uN_or {x y : Int64} (hy : uN y < 2) : uN ((x <<< ((1 : Int32).toInt64 &&& 63)) ||| y) = (2 * uN x) % 18446744073709551616 + uN y := by
  have h1 : uN ((x <<< ((1 : Int32).toInt64 &&& 63)) ||| y) = uN (x <<< ((1 : Int32).toInt64 &&& 63)) ||| uN y := UInt64.toNat_or _ _
  have h2 : (2 * uN x) % 18446744073709551616 = 2 ^ 1 * (uN x % 9223372036854775808) := by omega
  rw [h1, uN_shl, h2]
  exact (Nat.two_pow_add_eq_or_of_lt (i := 1) hy _).symm
theorem nat_xor {a : Nat} (h : a < 18446744073709551616) : a ^^^ 2 ^ 63 = (a + 9223372036854775808) % 18446744073709551616 := by
  have h1 : (a ^^^ 2 ^ 63) % 2 ^ 63 = a % 2 ^ 63 := by rw [Nat.xor_mod_two_pow, Nat.mod_self, Nat.xor_zero]
  have h2 : (a ^^^ 2 ^ 63) / 2 ^ 63 = (a / 2 ^ 63) ^^^ 1 := by rw [Nat.xor_div_two_pow, Nat.div_self (Nat.two_pow_pos 63)]
  have h3 : a / 2 ^ 63 = 0 ∨ a / 2 ^ 63 = 1 := by omega
  generalize a ^^^ 2 ^ 63 = t at h1 h2
  rcases h3 with h3 | h3
  · rw [h3] at h2
    have h2 : t / 2 ^ 63 = 1 := h2
    omega
  · rw [h3] at h2
    have h2 : t / 2 ^ 63 = 0 := h2
    omega
theorem uN_xor (x : Int64) : uN (x ^^^ (-9223372036854775808)) = (uN x + 9223372036854775808) % 18446744073709551616 := by
  rw [← nat_xor (uN_lt x)]
  exact UInt64.toNat_xor _ _
theorem uN_int (x : Int64) : x.toInt = if 2 * uN x < 18446744073709551616 then (uN x : Int) else (uN x : Int) - 18446744073709551616 := BitVec.toInt_eq_toNat_cond _
theorem uN_le (x y : Int64) : (x ^^^ (-9223372036854775808)) ≤ (y ^^^ (-9223372036854775808)) ↔ uN x ≤ uN y := by
  have hx := uN_lt x
  have hy := uN_lt y
  rw [Int64.le_iff_toInt_le, uN_int, uN_int, uN_xor, uN_xor]
  omega
theorem uN_sk (x : Int64) {k : Nat} (hk : k < 64) : uN (x.toUInt64 >>> ((nI k).toInt64.toUInt64 &&& Int64.toUInt64 63)).toInt64 = uN x / 2 ^ k := by
  have h : ((nI k).toInt64.toUInt64 &&& Int64.toUInt64 63).toNat % 64 = k := by
    rw [nI_l (by omega), UInt64.toNat_and]
    have e : (lN k).toUInt64.toNat = k % 2 ^ 64 := rfl
    have e2 : (Int64.toUInt64 63).toNat = 2 ^ 6 - 1 := by decide
    rw [e, e2, Nat.and_two_pow_sub_one_eq_mod]
    omega
  rw [uN_shr, h]
/-! ===== unsigned comparison by xor with the least ===== -/
theorem lN_bv (n : Nat) : (lN n).toBitVec = BitVec.ofNat 64 n := rfl
theorem lN_nat {n : Nat} (h : n < 2 ^ 64) : (lN n).toBitVec.toNat = n := by rw [lN_bv, BitVec.toNat_ofNat]; exact Nat.mod_eq_of_lt h
theorem lN_xor (a b : Nat) : lN a ^^^ lN b = lN (a ^^^ b) := by
  apply Int64.toBitVec_inj.mp; rw [Int64.toBitVec_xor, lN_bv, lN_bv, lN_bv]; apply BitVec.eq_of_getLsbD_eq; intro i hi; simp [BitVec.getLsbD_ofNat, Nat.testBit_xor, hi]
theorem lN_ti {m : Nat} (h : m < 2 ^ 64) : (lN m).toInt = if m < 2 ^ 63 then (m : Int) else (m : Int) - 2 ^ 64 := by
  have c := BitVec.toInt_eq_toNat_cond (lN m).toBitVec
  rw [lN_nat h] at c
  show (lN m).toBitVec.toInt = _
  rw [c]
  split <;> split <;> omega
theorem xor63 {x : Nat} (h : x < 2 ^ 63) : x ^^^ 2 ^ 63 = 2 ^ 63 + x := by
  apply Nat.eq_of_testBit_eq
  intro i
  rw [Nat.testBit_xor, Nat.testBit_two_pow]
  rcases Nat.lt_trichotomy i 63 with z | z | z
  · rw [Nat.testBit_two_pow_add_gt z, decide_eq_false (by omega)]; simp
  · subst z; rw [Nat.testBit_two_pow_add_eq]; simp
  · have hp : 2 ^ 64 ≤ 2 ^ i := Nat.pow_le_pow_right (by decide) z
    rw [Nat.testBit_lt_two_pow (show x < 2 ^ i by omega), Nat.testBit_lt_two_pow (show 2 ^ 63 + x < 2 ^ i by omega), decide_eq_false (by omega)]; rfl
theorem xorS {a : Nat} (h : a < 2 ^ 64) : (lN a ^^^ (-9223372036854775808)).toInt = (a : Int) - 2 ^ 63 := by
  rw [show (-9223372036854775808 : Int64) = lN (2 ^ 63) from by decide +kernel, lN_xor]
  rcases Nat.lt_or_ge a (2 ^ 63) with z | z
  · rw [xor63 z, lN_ti (by omega), if_neg (by omega)]; omega
  · obtain ⟨x, rfl⟩ : ∃ x, a = 2 ^ 63 + x := ⟨a - 2 ^ 63, by omega⟩
    rw [← xor63 (by omega), Nat.xor_assoc, Nat.xor_self, Nat.xor_zero, lN_ti (by omega), if_pos (by omega), xor63 (by omega)]; omega
theorem ultL {a b : Nat} (ha : a < 2 ^ 64) (hb : b < 2 ^ 64) : ((lN b ^^^ (-9223372036854775808)) ≤ (lN a ^^^ (-9223372036854775808))) ↔ b ≤ a := by
  rw [Int64.le_iff_toInt_le, xorS ha, xorS hb]; omega
/-! ===== Int64 masks of n low bits ===== -/
theorem cr_bits (W U M : BitVec 64) : ((W &&& U) &&& (U &&& (M ^^^ BitVec.allOnes 64))) = 0#64 ↔ (W &&& U) &&& M = W &&& U := by
  constructor
  · intro h
    apply BitVec.eq_of_getLsbD_eq
    intro i hi
    have e := congrArg (fun x => BitVec.getLsbD x i) h
    simp only [BitVec.getLsbD_and, BitVec.getLsbD_xor, BitVec.getLsbD_allOnes, BitVec.getLsbD_zero, hi, decide_true] at e ⊢
    revert e
    cases W.getLsbD i <;> cases U.getLsbD i <;> cases M.getLsbD i <;> decide
  · intro h
    apply BitVec.eq_of_getLsbD_eq
    intro i hi
    have e := congrArg (fun x => BitVec.getLsbD x i) h
    simp only [BitVec.getLsbD_and, BitVec.getLsbD_xor, BitVec.getLsbD_allOnes, BitVec.getLsbD_zero, hi, decide_true] at e ⊢
    revert e
    cases W.getLsbD i <;> cases U.getLsbD i <;> cases M.getLsbD i <;> decide
theorem cr_mask (w U m : Int64) (n : Nat) (hm : m.toBitVec.toNat = 2 ^ n - 1) : ((w &&& U) &&& (U &&& (m ^^^ (-1)))) = 0 ↔ (w &&& U).toBitVec.toNat < 2 ^ n := by
  have e0 : (-1 : Int64).toBitVec = BitVec.allOnes 64 := by decide
  have z0 : (0 : Int64).toBitVec = 0#64 := by decide
  rw [← Int64.toBitVec_inj, z0, Int64.toBitVec_and, Int64.toBitVec_and, Int64.toBitVec_and, Int64.toBitVec_xor, e0, cr_bits]
  generalize w.toBitVec &&& U.toBitVec = T
  rw [← BitVec.toNat_inj, BitVec.toNat_and, hm, Nat.and_two_pow_sub_one_eq_mod]
  constructor
  · intro h
    have t := Nat.mod_lt T.toNat (Nat.two_pow_pos n)
    rw [h] at t
    exact t
  · exact Nat.mod_eq_of_lt
theorem cr_shr (t : Int64) (x : UInt64) (n : Nat) (hx : x.toNat % 64 = n) : (t.toUInt64 >>> x).toInt64 = 0 ↔ t.toBitVec.toNat < 2 ^ n := by
  rw [← Int64.toBitVec_inj, ← BitVec.toNat_inj]
  show (t.toUInt64 >>> x).toNat = 0 ↔ t.toUInt64.toNat < 2 ^ n
  rw [UInt64.toNat_shiftRight, hx, Nat.shiftRight_eq_div_pow]
  constructor
  · intro h
    have d : t.toUInt64.toNat / 2 ^ n < 1 := by
      rw [h]
      decide
    have e := (Nat.div_lt_iff_lt_mul (Nat.two_pow_pos n)).mp d
    rw [Nat.one_mul] at e
    exact e
  · exact Nat.div_eq_of_lt
theorem cr_amt (s : Int64) : ∃ n, n < 64 ∧ s &&& 63 = lN n ∧ (s.toUInt64 &&& Int64.toUInt64 63).toNat % 64 = n := by
  have e : (s.toUInt64 &&& Int64.toUInt64 63).toNat = s.toUInt64.toNat % 2 ^ 6 := by
    rw [UInt64.toNat_and, show (Int64.toUInt64 63).toNat = 2 ^ 6 - 1 from by decide, Nat.and_two_pow_sub_one_eq_mod]
  refine ⟨s.toUInt64.toNat % 2 ^ 6, by omega, ?_, by omega⟩
  rw [← Int64.toBitVec_inj, ← BitVec.toNat_inj]
  show (s.toUInt64 &&& Int64.toUInt64 63).toNat = (BitVec.ofNat 64 (s.toUInt64.toNat % 2 ^ 6)).toNat
  rw [e, BitVec.toNat_ofNat]
  omega
end
section
/-! sums over an initial segment, and pointwise changes of them -/
def zt_sm (g : Nat → Nat) : Nat → Nat
  | 0 => 0
  | n + 1 => zt_sm g n + g n
def zt_u {α : Type} (f : Nat → α) (a : Nat) (v : α) : Nat → α := fun y => if y = a then v else f y
theorem zt_us {α : Type} {f : Nat → α} {a : Nat} {v : α} : zt_u f a v a = v := if_pos rfl
theorem zt_un {α : Type} {f : Nat → α} {a y : Nat} {v : α} (h : y ≠ a) : zt_u f a v y = f y := if_neg h
theorem zt_sm_c {g g' : Nat → Nat} {n : Nat} (h : ∀ x, x < n → g' x = g x) : zt_sm g' n = zt_sm g n := by
  induction n with
  | zero => rfl
  | succ n ih =>
    have h1 := ih (fun x hx => h x (by omega))
    have h2 := h n (by omega)
    show zt_sm g' n + g' n = zt_sm g n + g n
    rw [h1, h2]
theorem zt_sm_1 {g g' : Nat → Nat} {a n : Nat} (ha : a < n) (h : ∀ x, x < n → x ≠ a → g' x = g x) : zt_sm g' n + g a = zt_sm g n + g' a := by
  induction n with
  | zero => omega
  | succ n ih =>
    show zt_sm g' n + g' n + g a = zt_sm g n + g n + g' a
    by_cases e : a = n
    · rw [← e]
      have h1 := zt_sm_c (g := g) (g' := g') (n := a) (fun x hx => h x (by omega) (by omega))
      omega
    · have h1 := ih (by omega) (fun x hx => h x (by omega))
      have h2 := h n (by omega) (by omega)
      omega
theorem zt_sm_2 {g g' : Nat → Nat} {a b n : Nat} (ha : a < n) (hb : b < n) (hab : a ≠ b) (h : ∀ x, x < n → x ≠ a → x ≠ b → g' x = g x) : zt_sm g' n + g a + g b = zt_sm g n + g' a + g' b := by
  have h1 := zt_sm_1 (g := g) (g' := zt_u g a (g' a)) ha (fun x _ hx => zt_un hx)
  have h2 := zt_sm_1 (g := zt_u g a (g' a)) (g' := g') hb (fun x hx hxb => by
    by_cases e : x = a
    · rw [e, zt_us]
    · rw [zt_un e]; exact h x hx e hxb)
  rw [zt_us] at h1
  rw [zt_un (Ne.symm hab)] at h2
  omega
theorem zt_sm_3 {g g' : Nat → Nat} {a b c n : Nat} (ha : a < n) (hb : b < n) (hc : c < n) (hab : a ≠ b) (hac : a ≠ c) (hbc : b ≠ c) (h : ∀ x, x < n → x ≠ a → x ≠ b → x ≠ c → g' x = g x) : zt_sm g' n + g a + g b + g c = zt_sm g n + g' a + g' b + g' c := by
  have h1 := zt_sm_1 (g := g) (g' := zt_u g a (g' a)) ha (fun x _ hx => zt_un hx)
  have h2 := zt_sm_2 (g := zt_u g a (g' a)) (g' := g') hb hc hbc (fun x hx hxb hxc => by
    by_cases e : x = a
    · rw [e, zt_us]
    · rw [zt_un e]; exact h x hx e hxb hxc)
  rw [zt_us] at h1
  rw [zt_un (Ne.symm hab), zt_un (Ne.symm hac)] at h2
  omega
theorem zt_sm_le {g g' : Nat → Nat} {n : Nat} (h : ∀ x, x < n → g x ≤ g' x) : zt_sm g n ≤ zt_sm g' n := by
  induction n with
  | zero => exact Nat.le_refl _
  | succ n ih =>
    have h1 := ih (fun x hx => h x (by omega))
    have h2 := h n (by omega)
    show zt_sm g n + g n ≤ zt_sm g' n + g' n
    omega
theorem zt_sm_a (g g' : Nat → Nat) (n : Nat) : zt_sm (fun x => g x + g' x) n = zt_sm g n + zt_sm g' n := by
  induction n with
  | zero => rfl
  | succ n ih =>
    show zt_sm (fun x => g x + g' x) n + (g n + g' n) = zt_sm g n + g n + (zt_sm g' n + g' n)
    omega
theorem zt_sm_k (c : Nat) (g : Nat → Nat) (n : Nat) : zt_sm (fun x => c * g x) n = c * zt_sm g n := by
  induction n with
  | zero => rfl
  | succ n ih =>
    show zt_sm (fun x => c * g x) n + c * g n = c * (zt_sm g n + g n)
    rw [ih, Nat.mul_add]
theorem zt_sm_f {g : Nat → Nat} {n : Nat} (h : ∀ x, x < n → 1 ≤ g x) : n ≤ zt_sm g n := by
  induction n with
  | zero => omega
  | succ n ih =>
    have h1 := ih (fun x hx => h x (by omega))
    have h2 := h n (by omega)
    show n + 1 ≤ zt_sm g n + g n
    omega
theorem zt_sm_z {g : Nat → Nat} {n : Nat} (h : ∀ x, x < n → g x = 0) : zt_sm g n = 0 := by
  induction n with
  | zero => rfl
  | succ n ih =>
    have h1 := ih (fun x hx => h x (by omega))
    have h2 := h n (by omega)
    show zt_sm g n + g n = 0
    omega
/-- one term -/
theorem zt_sm_i {a c n : Nat} (ha : a < n) : zt_sm (fun x => if x = a then c else 0) n = c := by
  have h := zt_sm_1 (g := fun _ => 0) (g' := fun x => if x = a then c else 0) ha (fun x _ hx => if_neg hx)
  have h0 := zt_sm_z (g := fun _ => 0) (n := n) (fun x _ => rfl)
  rw [h0, if_pos rfl] at h
  omega
theorem zt_sm_ge {g : Nat → Nat} {a n : Nat} (ha : a < n) : g a ≤ zt_sm g n := by
  induction n with
  | zero => omega
  | succ n ih =>
    show g a ≤ zt_sm g n + g n
    by_cases e : a = n
    · rw [e]; omega
    · have := ih (by omega); omega
end
section
/-! the shape of the two trees in one pool, by local facts: lv level (0 a leaf), tr the tree, [lo, hi) the keys below a node -/
def zt_ok (T lv tr lo hi sz : Nat → Nat) (ky : Nat → Nat → Nat) (x i c : Nat) : Prop :=
  T c = 1 ∧ tr c = tr x ∧ lv c + 1 = lv x ∧ (i = 0 → lo c = lo x) ∧ (∀ j, i = j + 1 → lo c = ky x j) ∧ (i = sz x → hi c = hi x) ∧ (i < sz x → hi c = ky x i)
def zt_G (rt T lv tr lo hi sz : Nat → Nat) (ky ch : Nat → Nat → Nat) : Prop :=
  (∀ x, T x = 1 → x < 80 ∧ tr x < 2 ∧ lo x < hi x ∧ hi x ≤ 40000 ∧ lv x ≤ lv (rt (tr x))) ∧
  (∀ t, t < 2 → T (rt t) = 1 ∧ tr (rt t) = t ∧ lo (rt t) = 0 ∧ hi (rt t) = 40000) ∧
  (∀ x i, T x = 1 → 0 < lv x → i ≤ sz x → zt_ok T lv tr lo hi sz ky x i (ch x i)) ∧
  (∀ x y, T x = 1 → T y = 1 → tr x = tr y → lv x = lv y → lo x < hi y → lo y < hi x → x = y)
theorem zt_okI {T lv tr lo hi sz : Nat → Nat} {ky : Nat → Nat → Nat} {x i c : Nat} (h1 : T c = 1) (h2 : tr c = tr x) (h3 : lv c + 1 = lv x) (h4 : i = 0 → lo c = lo x) (h5 : ∀ j, i = j + 1 → lo c = ky x j) (h6 : i = sz x → hi c = hi x) (h7 : i < sz x → hi c = ky x i) : zt_ok T lv tr lo hi sz ky x i c := And.intro h1 (And.intro h2 (And.intro h3 (And.intro h4 (And.intro h5 (And.intro h6 h7)))))
section
variable {rt T lv tr lo hi sz rt' T' lv' tr' lo' hi' sz' : Nat → Nat} {ky ch ky' ch' : Nat → Nat → Nat}
theorem zt_mono (G : zt_G rt T lv tr lo hi sz ky ch) {x : Nat} (hx : T x = 1) (hl : 0 < lv x) : ∀ {j i : Nat}, i < j → j ≤ sz x → hi (ch x i) ≤ lo (ch x j) := by
  intro j
  induction j with
  | zero => intro i h; omega
  | succ j ih =>
    intro i hij hj
    have ⟨g1, g2, g3, g4⟩ := G
    have ⟨a1, a2, a3, a4, a5, a6, a7⟩ := g3 x (j + 1) hx hl hj
    have ⟨b1, b2, b3, b4, b5, b6, b7⟩ := g3 x j hx hl (by omega)
    have e1 := a5 j rfl
    have e2 := b7 (by omega)
    have c := (g1 _ b1).2.2.1
    by_cases e : i = j
    · rw [e]; omega
    · have := ih (i := i) (by omega) (by omega); omega
theorem zt_nest (G : zt_G rt T lv tr lo hi sz ky ch) {x i : Nat} (hx : T x = 1) (hl : 0 < lv x) (h : i ≤ sz x) : lo x ≤ lo (ch x i) ∧ hi (ch x i) ≤ hi x := by
  have ⟨g1, g2, g3, g4⟩ := G
  constructor
  · have ⟨a1, a2, a3, a4, a5, a6, a7⟩ := g3 x 0 hx hl (by omega)
    have c := (g1 _ a1).2.2.1
    have e := a4 rfl
    by_cases h0 : i = 0
    · rw [h0]; omega
    · have := zt_mono G hx hl (i := 0) (j := i) (by omega) h; omega
  · have ⟨a1, a2, a3, a4, a5, a6, a7⟩ := g3 x (sz x) hx hl (by omega)
    have c := (g1 _ a1).2.2.1
    have e := a6 rfl
    by_cases h0 : i = sz x
    · rw [h0]; omega
    · have := zt_mono G hx hl (i := i) (j := sz x) (by omega) (by omega); omega
/-- one parent, one place -/
theorem zt_uniq (G : zt_G rt T lv tr lo hi sz ky ch) {x y i j : Nat} (hx : T x = 1) (hl : 0 < lv x) (h : i ≤ sz x) (hy : T y = 1) (hm : 0 < lv y) (k : j ≤ sz y) (e : ch x i = ch y j) : x = y ∧ i = j := by
  have ⟨g1, g2, g3, g4⟩ := G
  have ⟨a1, a2, a3, a4, a5, a6, a7⟩ := g3 x i hx hl h
  have ⟨b1, b2, b3, b4, b5, b6, b7⟩ := g3 y j hy hm k
  have n1 := zt_nest G hx hl h
  have n2 := zt_nest G hy hm k
  rw [← e] at b2 b3 n2
  have c := (g1 _ a1).2.2.1
  have exy : x = y := g4 x y hx hy (by omega) (by omega) (by omega) (by omega)
  refine ⟨exy, ?_⟩
  rw [← exy] at e k
  by_cases h1 : i < j
  · have := zt_mono G hx hl h1 k; rw [← e] at this; omega
  · by_cases h2 : j < i
    · have := zt_mono G hx hl h2 h; rw [← e] at this; omega
    · omega
/-- a key's place: the child whose interval holds it -/
theorem zt_slot (G : zt_G rt T lv tr lo hi sz ky ch) {x i k : Nat} (hx : T x = 1) (hl : 0 < lv x) (h : i ≤ sz x) (hk : lo x ≤ k) (hk' : k < hi x) (h1 : ∀ j, j + 1 = i → ky x j ≤ k) (h2 : i < sz x → k < ky x i) : lo (ch x i) ≤ k ∧ k < hi (ch x i) := by
  have ⟨g1, g2, g3, g4⟩ := G
  have ⟨a1, a2, a3, a4, a5, a6, a7⟩ := g3 x i hx hl h
  constructor
  · by_cases h0 : i = 0
    · have := a4 h0; omega
    · have e := a5 (i - 1) (by omega)
      have := h1 (i - 1) (by omega); omega
  · by_cases h0 : i = sz x
    · have := a6 h0; omega
    · have e := a7 (by omega)
      have := h2 (by omega); omega
/-- keys of an inner node rise -/
theorem zt_keys (G : zt_G rt T lv tr lo hi sz ky ch) {x i j : Nat} (hx : T x = 1) (hl : 0 < lv x) (h : i < j) (hj : j < sz x) : ky x i < ky x j := by
  have ⟨g1, g2, g3, g4⟩ := G
  have ⟨a1, a2, a3, a4, a5, a6, a7⟩ := g3 x (i + 1) hx hl (by omega)
  have ⟨b1, b2, b3, b4, b5, b6, b7⟩ := g3 x j hx hl (by omega)
  have e1 := a5 i rfl
  have e2 := b7 hj
  have c1 := (g1 _ a1).2.2.1
  have c2 := (g1 _ b1).2.2.1
  by_cases e : i + 1 = j
  · rw [← e] at e2 ⊢; omega
  · have := zt_mono G hx hl (i := i + 1) (j := j) (by omega) (by omega); omega
theorem zt_kin (G : zt_G rt T lv tr lo hi sz ky ch) {x i : Nat} (hx : T x = 1) (hl : 0 < lv x) (h : i < sz x) : lo x < ky x i ∧ ky x i < hi x := by
  have ⟨g1, g2, g3, g4⟩ := G
  have ⟨a1, a2, a3, a4, a5, a6, a7⟩ := g3 x (i + 1) hx hl (by omega)
  have ⟨b1, b2, b3, b4, b5, b6, b7⟩ := g3 x i hx hl (by omega)
  have e1 := a5 i rfl
  have e2 := b7 h
  have c1 := (g1 _ a1).2.2.1
  have c2 := (g1 _ b1).2.2.1
  have n1 := zt_nest G hx hl (i := i + 1) (by omega)
  have n2 := zt_nest G hx hl (i := i) (by omega)
  omega
/-- a child is no root -/
theorem zt_noroot (G : zt_G rt T lv tr lo hi sz ky ch) {x i t : Nat} (hx : T x = 1) (hl : 0 < lv x) (h : i ≤ sz x) (ht : t < 2) : rt t ≠ ch x i := by
  have ⟨g1, g2, g3, g4⟩ := G
  have ⟨a1, a2, a3, a4, a5, a6, a7⟩ := g3 x i hx hl h
  intro e
  have ⟨r1, r2, r3, r4⟩ := g2 t ht
  have c := (g1 x hx).2.2.2.2
  rw [← e] at a2 a3
  rw [← a2, r2] at c
  omega
theorem zt_split_G {p i x r s m : Nat} (G : zt_G rt T lv tr lo hi sz ky ch) (hp : T p = 1) (hl : 0 < lv p) (hi0 : i ≤ sz p) (hx : ch p i = x) (hr : T r ≠ 1) (hr8 : r < 80) (hs : lo x < s) (hs' : s < hi x)
    (n1 : ∀ z, z ≠ r → T' z = T z ∧ lv' z = lv z ∧ tr' z = tr z ∧ lo' z = lo z) (n2 : T' r = 1 ∧ lv' r = lv x ∧ tr' r = tr x ∧ lo' r = s ∧ hi' r = hi x) (n2' : hi' x = s) (n3 : ∀ z, z ≠ r → z ≠ x → hi' z = hi z)
    (ep : sz' p = sz p + 1)
    (ekp : ∀ j, j ≤ sz p → (j < i → ky' p j = ky p j) ∧ (j = i → ky' p j = s) ∧ (∀ k, j = k + 1 → i < j → ky' p j = ky p k))
    (ecp : ∀ j, j ≤ sz p + 1 → (j ≤ i → ch' p j = ch p j) ∧ (j = i + 1 → ch' p j = r) ∧ (∀ k, j = k + 1 → i + 1 < j → ch' p j = ch p k))
    (eo : ∀ y, T y = 1 → 0 < lv y → y ≠ p → y ≠ x → sz' y = sz y ∧ (∀ j, j < sz y → ky' y j = ky y j) ∧ (∀ j, j ≤ sz y → ch' y j = ch y j))
    (ex : 0 < lv x → m < sz x ∧ s = ky x m ∧ sz' x = m ∧ sz' r + m + 1 = sz x ∧ (∀ j, j < m → ky' x j = ky x j) ∧ (∀ j, j ≤ m → ch' x j = ch x j) ∧ (∀ j, j < sz' r → ky' r j = ky x (m + 1 + j)) ∧ (∀ j, j ≤ sz' r → ch' r j = ch x (m + 1 + j))) :
    zt_G rt T' lv' tr' lo' hi' sz' ky' ch' := by
  have ⟨g1, g2, g3, g4⟩ := G
  have X : zt_ok T lv tr lo hi sz ky p i x := hx ▸ g3 p i hp hl hi0
  have ⟨X1, X2, X3, X4, X5, X6, X7⟩ := X
  have ⟨m1, m2, m3, m4, m5⟩ := n2
  have old : ∀ y, T y = 1 → y ≠ r := fun y hy e => hr (e ▸ hy)
  have xr : x ≠ r := old x X1
  have pr : p ≠ r := old p hp
  have xp : x ≠ p := fun e => by rw [e] at X3; omega
  have rr : ∀ t, t < 2 → rt t ≠ r := fun t ht => old _ (g2 t ht).1
  have rx : ∀ t, t < 2 → rt t ≠ x := fun t ht => hx ▸ zt_noroot G hp hl hi0 ht
  have gx := g1 x X1
  refine And.intro ?_ (And.intro ?_ (And.intro ?_ ?_))
  · intro y hy
    by_cases e : y = r
    · rw [e, m2, m3, m4, m5]
      have := (n1 (rt (tr x)) (rr _ gx.2.1)).2.1
      omega
    · have ⟨q1, q2, q3, q4⟩ := n1 y e
      rw [q1] at hy
      have gy := g1 y hy
      have := (n1 (rt (tr y)) (rr _ gy.2.1)).2.1
      rw [q2, q3, q4, this]
      by_cases e2 : y = x
      · rw [e2, n2']; rw [e2] at gy; omega
      · rw [n3 y e e2]; exact gy
  · intro t ht
    have ⟨q1, q2, q3, q4⟩ := n1 (rt t) (rr t ht)
    rw [q1, q3, q4, n3 (rt t) (rr t ht) (rx t ht)]
    exact g2 t ht
  · intro y j hy hly hj
    by_cases er : y = r
    · rw [er] at hly hj ⊢
      rw [m2] at hly
      have ⟨x1, x2, x3, x4, x5, x6, x7, x8⟩ := ex hly
      have ⟨c1, c2, c3, c4, c5, c6, c7⟩ := g3 x (m + 1 + j) X1 hly (by omega)
      rw [x8 j hj]
      have cr := old _ c1
      have cx : ch x (m + 1 + j) ≠ x := fun e => by rw [e] at c3; omega
      have ⟨q1, q2, q3, q4⟩ := n1 _ cr
      have q5 := n3 _ cr cx
      refine zt_okI (by omega) (by omega) (by omega) (fun h => ?_) (fun k hk => ?_) (fun h => ?_) (fun h => ?_)
      · have := c5 m (by omega); omega
      · have e1 := c5 (m + 1 + k) (by omega)
        have e2 := x7 k (by omega)
        omega
      · have := c6 (by omega); omega
      · have e1 := c7 (by omega)
        have e2 := x7 j h
        omega
    · have ⟨y1, y2, y3, y4⟩ := n1 y er
      rw [y1] at hy
      rw [y2] at hly
      by_cases ey : y = x
      · rw [ey] at hly hj y2 y3 y4 ⊢
        have ⟨x1, x2, x3, x4, x5, x6, x7, x8⟩ := ex hly
        rw [x3] at hj
        have ⟨c1, c2, c3, c4, c5, c6, c7⟩ := g3 x j X1 hly (by omega)
        rw [x6 j hj]
        have cr := old _ c1
        have cx : ch x j ≠ x := fun e => by rw [e] at c3; omega
        have ⟨q1, q2, q3, q4⟩ := n1 _ cr
        have q5 := n3 _ cr cx
        refine zt_okI (by omega) (by omega) (by omega) (fun h => ?_) (fun k hk => ?_) (fun h => ?_) (fun h => ?_)
        · have := c4 h; omega
        · have e1 := c5 k hk
          have e2 := x5 k (by omega)
          omega
        · have e1 := c7 (by omega)
          have : j = m := by omega
          rw [this] at e1 q5 ⊢; omega
        · have e1 := c7 (by omega)
          have e2 := x5 j (by omega)
          omega
      · by_cases ep2 : y = p
        · rw [ep2] at hly hj y2 y3 y4 ⊢
          rw [ep] at hj
          have hp' := n3 p pr (fun e => xp e.symm)
          by_cases h1 : j ≤ i
          · rw [(ecp j hj).1 h1]
            have ⟨c1, c2, c3, c4, c5, c6, c7⟩ := g3 p j hp hly (by omega)
            have cr := old _ c1
            have ⟨q1, q2, q3, q4⟩ := n1 _ cr
            have lowk : ∀ k, j = k + 1 → lo' (ch p j) = ky' p k := fun k hk => by
              have e1 := c5 k hk
              have e2 := (ekp k (by omega)).1 (by omega)
              omega
            by_cases h2 : j = i
            · have cx : ch p j = x := by rw [h2]; exact hx
              refine zt_okI (by omega) (by omega) (by omega) (fun h => ?_) lowk (fun h => ?_) (fun h => ?_)
              · have := c4 h; omega
              · omega
              · rw [cx, n2']; exact ((ekp j (by omega)).2.1 h2).symm
            · have cx : ch p j ≠ x := fun e => by
                have := (zt_uniq G hp hly (by omega) hp hly hi0 (e.trans hx.symm)).2; omega
              have q5 := n3 _ cr cx
              refine zt_okI (by omega) (by omega) (by omega) (fun h => ?_) lowk (fun h => ?_) (fun h => ?_)
              · have := c4 h; omega
              · omega
              · have e1 := c7 (by omega)
                have e2 := (ekp j (by omega)).1 (by omega)
                omega
          · by_cases h2 : j = i + 1
            · rw [(ecp j hj).2.1 h2]
              refine zt_okI m1 (by omega) (by omega) (fun h => ?_) (fun k hk => ?_) (fun h => ?_) (fun h => ?_)
              · omega
              · have e2 := (ekp k (by omega)).2.1 (by omega); omega
              · have := X6 (by omega); omega
              · have e1 := X7 (by omega)
                have e2 := (ekp j (by omega)).2.2 i h2 (by omega)
                omega
            · obtain ⟨k, hk⟩ : ∃ k, j = k + 1 := ⟨j - 1, by omega⟩
              rw [(ecp j hj).2.2 k hk (by omega)]
              have ⟨c1, c2, c3, c4, c5, c6, c7⟩ := g3 p k hp hly (by omega)
              have cr := old _ c1
              have ⟨q1, q2, q3, q4⟩ := n1 _ cr
              have cx : ch p k ≠ x := fun e => by
                have := (zt_uniq G hp hly (by omega) hp hly hi0 (e.trans hx.symm)).2; omega
              have q5 := n3 _ cr cx
              refine zt_okI (by omega) (by omega) (by omega) (fun h => ?_) (fun k2 hk2 => ?_) (fun h => ?_) (fun h => ?_)
              · omega
              · obtain ⟨k3, hk3⟩ : ∃ k3, k = k3 + 1 := ⟨k - 1, by omega⟩
                have e1 := c5 k3 hk3
                have e2 := (ekp k2 (by omega)).2.2 k3 (by omega) (by omega)
                omega
              · have := c6 (by omega); omega
              · have e1 := c7 (by omega)
                have e2 := (ekp j (by omega)).2.2 k hk (by omega)
                omega
        · have ⟨z1, z2, z3⟩ := eo y hy hly ep2 ey
          rw [z1] at hj
          rw [z3 j hj]
          have ⟨c1, c2, c3, c4, c5, c6, c7⟩ := g3 y j hy hly hj
          have cr := old _ c1
          have ⟨q1, q2, q3, q4⟩ := n1 _ cr
          have cx : ch y j ≠ x := fun e =>
            ep2 (zt_uniq G hy hly hj hp hl hi0 (e.trans hx.symm)).1
          have q5 := n3 _ cr cx
          have q6 := n3 y er ey
          refine zt_okI (by omega) (by omega) (by omega) (fun h => ?_) (fun k hk => ?_) (fun h => ?_) (fun h => ?_)
          · have := c4 h; omega
          · have e1 := c5 k hk
            have e2 := z2 k (by omega)
            omega
          · have := c6 (by omega); omega
          · have e1 := c7 (by omega)
            have e2 := z2 j (by omega)
            omega
  · have key : ∀ z, T z = 1 → tr z = tr x → lv z = lv x → lo z < hi x → lo x < hi z → z = x := fun z h1 h2 h3 h4 h5 => g4 z x h1 X1 h2 h3 h4 h5
    intro y z hy hz ht hv h1 h2
    by_cases ey : y = r
    · by_cases ez : z = r
      · rw [ey, ez]
      · exfalso
        rw [ey] at ht hv h1 h2
        have ⟨q1, q2, q3, q4⟩ := n1 z ez
        by_cases ezx : z = x
        · rw [ezx] at h1 h2; omega
        · have q5 := n3 z ez ezx
          exact ezx (key z (by omega) (by omega) (by omega) (by omega) (by omega))
    · have ⟨p1, p2, p3, p4⟩ := n1 y ey
      by_cases ez : z = r
      · exfalso
        rw [ez] at ht hv h1 h2
        by_cases eyx : y = x
        · rw [eyx] at h1 h2; omega
        · have q5 := n3 y ey eyx
          exact eyx (key y (by omega) (by omega) (by omega) (by omega) (by omega))
      · have ⟨q1, q2, q3, q4⟩ := n1 z ez
        have py : hi' y ≤ hi y := by
          by_cases eyx : y = x
          · rw [eyx]; omega
          · rw [n3 y ey eyx]; exact Nat.le_refl _
        have pz : hi' z ≤ hi z := by
          by_cases ezx : z = x
          · rw [ezx]; omega
          · rw [n3 z ez ezx]; exact Nat.le_refl _
        exact g4 y z (by omega) (by omega) (by omega) (by omega) (by omega) (by omega)
end
end
section
section
variable {rt T lv tr lo hi sz rt' T' lv' tr' lo' hi' sz' : Nat → Nat} {ky ch ky' ch' : Nat → Nat → Nat}
theorem zt_merge_G {p i x r : Nat} (G : zt_G rt T lv tr lo hi sz ky ch) (hp : T p = 1) (hl : 0 < lv p) (hi0 : i < sz p) (hx : ch p i = x) (hr : ch p (i + 1) = r)
    (n1 : ∀ z, z ≠ r → T' z = T z) (n2 : T' r ≠ 1) (n3 : ∀ z, z ≠ x → hi' z = hi z) (n4 : hi' x = hi r)
    (ep : sz' p + 1 = sz p)
    (ekp : ∀ j, j < sz' p → (j < i → ky' p j = ky p j) ∧ (i ≤ j → ky' p j = ky p (j + 1)))
    (ecp : ∀ j, j ≤ sz' p → (j ≤ i → ch' p j = ch p j) ∧ (i < j → ch' p j = ch p (j + 1)))
    (eo : ∀ y, T y = 1 → 0 < lv y → y ≠ p → y ≠ x → y ≠ r → sz' y = sz y ∧ (∀ j, j < sz y → ky' y j = ky y j) ∧ (∀ j, j ≤ sz y → ch' y j = ch y j))
    (ex : 0 < lv x → sz' x = sz x + 1 + sz r ∧ (∀ j, j < sz x → ky' x j = ky x j) ∧ ky' x (sz x) = ky p i ∧ (∀ j, j < sz r → ky' x (sz x + 1 + j) = ky r j) ∧ (∀ j, j ≤ sz x → ch' x j = ch x j) ∧ (∀ j, j ≤ sz r → ch' x (sz x + 1 + j) = ch r j)) :
    zt_G rt T' lv tr lo hi' sz' ky' ch' := by
  have ⟨g1, g2, g3, g4⟩ := G
  have X : zt_ok T lv tr lo hi sz ky p i x := hx ▸ g3 p i hp hl (by omega)
  have ⟨X1, X2, X3, X4, X5, X6, X7⟩ := X
  have Y : zt_ok T lv tr lo hi sz ky p (i + 1) r := hr ▸ g3 p (i + 1) hp hl (by omega)
  have ⟨Y1, Y2, Y3, Y4, Y5, Y6, Y7⟩ := Y
  have gx := g1 x X1
  have gr := g1 r Y1
  have b1 := X7 (by omega)
  have b2 := Y5 i rfl
  have xr : x ≠ r := fun e => by rw [e] at gx b1; omega
  have xp : x ≠ p := fun e => by rw [e] at X3; omega
  have pr : p ≠ r := fun e => by rw [← e] at Y3; omega
  have rr : ∀ t, t < 2 → rt t ≠ r := fun t ht => hr ▸ zt_noroot G hp hl (by omega) ht
  have rx : ∀ t, t < 2 → rt t ≠ x := fun t ht => hx ▸ zt_noroot G hp hl (by omega) ht
  have tt : ∀ z, T' z = 1 → z ≠ r := fun z h e => n2 (e ▸ h)
  refine And.intro ?_ (And.intro ?_ (And.intro ?_ ?_))
  · intro y hy
    have e := tt y hy
    rw [n1 y e] at hy
    have gy := g1 y hy
    by_cases e2 : y = x
    · rw [e2, n4]; omega
    · rw [n3 y e2]; exact gy
  · intro t ht
    rw [n1 _ (rr t ht), n3 _ (rx t ht)]
    exact g2 t ht
  · intro y j hy hly hj
    have er := tt y hy
    rw [n1 y er] at hy
    by_cases ey : y = x
    · rw [ey] at hly hj ⊢
      have ⟨x1, x2, x3, x4, x5, x6⟩ := ex hly
      by_cases h1 : j ≤ sz x
      · rw [x5 j h1]
        have ⟨c1, c2, c3, c4, c5, c6, c7⟩ := g3 x j X1 hly h1
        have cr : ch x j ≠ r := fun e => by rw [e] at c3; omega
        have cx : ch x j ≠ x := fun e => by rw [e] at c3; omega
        have q1 := n1 _ cr
        have q5 := n3 _ cx
        refine zt_okI (by omega) (by omega) (by omega) (fun h => ?_) (fun k hk => ?_) (fun h => ?_) (fun h => ?_)
        · exact c4 h
        · have e1 := c5 k hk
          have e2 := x2 k (by omega)
          omega
        · omega
        · by_cases h2 : j = sz x
          · have := c6 h2
            rw [h2, x3] 
            rw [h2] at this q5
            omega
          · have e1 := c7 (by omega)
            have e2 := x2 j (by omega)
            omega
      · obtain ⟨k, hk⟩ : ∃ k, j = sz x + 1 + k := ⟨j - (sz x + 1), by omega⟩
        rw [hk] at hj ⊢
        rw [x6 k (by omega)]
        have ⟨c1, c2, c3, c4, c5, c6, c7⟩ := g3 r k Y1 (by omega) (by omega)
        have cr : ch r k ≠ r := fun e => by rw [e] at c3; omega
        have cx : ch r k ≠ x := fun e => by rw [e] at c3; omega
        have q1 := n1 _ cr
        have q5 := n3 _ cx
        refine zt_okI (by omega) (by omega) (by omega) (fun h => ?_) (fun k2 hk2 => ?_) (fun h => ?_) (fun h => ?_)
        · omega
        · by_cases h0 : k = 0
          · have e1 := c4 h0
            have e3 : k2 = sz x := by omega
            rw [e3, x3]; omega
          · obtain ⟨k3, hk3⟩ : ∃ k3, k = k3 + 1 := ⟨k - 1, by omega⟩
            have e1 := c5 k3 hk3
            have e2 := x4 k3 (by omega)
            have e3 : k2 = sz x + 1 + k3 := by omega
            rw [e3]; omega
        · have := c6 (by omega); omega
        · have e1 := c7 (by omega)
          have e2 := x4 k (by omega)
          omega
    · by_cases ep2 : y = p
      · rw [ep2] at hly hj ⊢
        have hp' := n3 p (fun e => xp e.symm)
        by_cases h1 : j ≤ i
        · rw [(ecp j hj).1 h1]
          have ⟨c1, c2, c3, c4, c5, c6, c7⟩ := g3 p j hp hly (by omega)
          have cr : ch p j ≠ r := fun e => by
            have := (zt_uniq G hp hly (by omega) hp hly (by omega) (e.trans hr.symm)).2; omega
          have q1 := n1 _ cr
          have lowk : ∀ k, j = k + 1 → lo (ch p j) = ky' p k := fun k hk => by
            have e1 := c5 k hk
            have e2 := (ekp k (by omega)).1 (by omega)
            omega
          by_cases h2 : j = i
          · have cx : ch p j = x := by rw [h2]; exact hx
            refine zt_okI (by omega) (by omega) (by omega) (fun h => ?_) lowk (fun h => ?_) (fun h => ?_)
            · exact c4 h
            · rw [cx, n4, hp']; exact Y6 (by omega)
            · rw [cx, n4, (ekp j h).2 (by omega), h2]; exact Y7 (by omega)
          · have cx : ch p j ≠ x := fun e => by
              have := (zt_uniq G hp hly (by omega) hp hly (by omega) (e.trans hx.symm)).2; omega
            have q5 := n3 _ cx
            refine zt_okI (by omega) (by omega) (by omega) (fun h => ?_) lowk (fun h => ?_) (fun h => ?_)
            · exact c4 h
            · omega
            · have e1 := c7 (by omega)
              have e2 := (ekp j (by omega)).1 (by omega)
              omega
        · rw [(ecp j hj).2 (by omega)]
          have ⟨c1, c2, c3, c4, c5, c6, c7⟩ := g3 p (j + 1) hp hly (by omega)
          have cr : ch p (j + 1) ≠ r := fun e => by
            have := (zt_uniq G hp hly (by omega) hp hly (by omega) (e.trans hr.symm)).2; omega
          have cx : ch p (j + 1) ≠ x := fun e => by
            have := (zt_uniq G hp hly (by omega) hp hly (by omega) (e.trans hx.symm)).2; omega
          have q1 := n1 _ cr
          have q5 := n3 _ cx
          refine zt_okI (by omega) (by omega) (by omega) (fun h => ?_) (fun k hk => ?_) (fun h => ?_) (fun h => ?_)
          · omega
          · have e1 := c5 j rfl
            have e2 := (ekp k (by omega)).2 (by omega)
            rw [← hk] at e2
            omega
          · have := c6 (by omega); omega
          · have e1 := c7 (by omega)
            have e2 := (ekp j (by omega)).2 (by omega)
            omega
      · have ⟨z1, z2, z3⟩ := eo y hy hly ep2 ey er
        rw [z1] at hj
        rw [z3 j hj]
        have ⟨c1, c2, c3, c4, c5, c6, c7⟩ := g3 y j hy hly hj
        have cx : ch y j ≠ x := fun e =>
          ep2 (zt_uniq G hy hly hj hp hl (by omega) (e.trans hx.symm)).1
        have cr : ch y j ≠ r := fun e =>
          ep2 (zt_uniq G hy hly hj hp hl (by omega) (e.trans hr.symm)).1
        have q1 := n1 _ cr
        have q5 := n3 _ cx
        have q6 := n3 y ey
        refine zt_okI (by omega) (by omega) (by omega) (fun h => ?_) (fun k hk => ?_) (fun h => ?_) (fun h => ?_)
        · exact c4 h
        · have e1 := c5 k hk
          have e2 := z2 k (by omega)
          omega
        · have := c6 (by omega); omega
        · have e1 := c7 (by omega)
          have e2 := z2 j (by omega)
          omega
  · intro y z hy hz ht hv h1 h2
    have ey := tt y hy
    have ez := tt z hz
    rw [n1 y ey] at hy
    rw [n1 z ez] at hz
    by_cases eyx : y = x
    · by_cases ezx : z = x
      · rw [eyx, ezx]
      · exfalso
        rw [eyx] at ht hv h1 h2
        have q5 := n3 z ezx
        by_cases h3 : lo z < hi x
        · exact ezx (g4 z x hz X1 ht.symm hv.symm h3 (by omega))
        · exact ez (g4 z r hz Y1 (by omega) (by omega) (by omega) (by have := (g1 z hz).2.2.1; omega))
    · have q5 := n3 y eyx
      by_cases ezx : z = x
      · exfalso
        rw [ezx] at ht hv h1 h2
        by_cases h3 : lo y < hi x
        · exact eyx (g4 y x hy X1 ht hv h3 (by omega))
        · exact ey (g4 y r hy Y1 (by omega) (by omega) (by omega) (by have := (g1 y hy).2.2.1; omega))
      · have q6 := n3 z ezx
        exact g4 y z hy hz ht hv (by omega) (by omega)
theorem zt_grow_G {t q : Nat} (G : zt_G rt T lv tr lo hi sz ky ch) (ht : t < 2) (hq : T q ≠ 1) (hq8 : q < 80)
    (n1 : ∀ z, z ≠ q → T' z = T z ∧ lv' z = lv z ∧ tr' z = tr z ∧ lo' z = lo z ∧ hi' z = hi z) (n2 : T' q = 1 ∧ lv' q = lv (rt t) + 1 ∧ tr' q = t ∧ lo' q = 0 ∧ hi' q = 40000)
    (r1 : rt' t = q) (r2 : ∀ z, z ≠ t → rt' z = rt z) (e1 : sz' q = 0) (e2 : ch' q 0 = rt t)
    (eo : ∀ y, T y = 1 → 0 < lv y → sz' y = sz y ∧ (∀ j, j < sz y → ky' y j = ky y j) ∧ (∀ j, j ≤ sz y → ch' y j = ch y j)) :
    zt_G rt' T' lv' tr' lo' hi' sz' ky' ch' := by
  have ⟨g1, g2, g3, g4⟩ := G
  have ⟨m1, m2, m3, m4, m5⟩ := n2
  have old : ∀ y, T y = 1 → y ≠ q := fun y hy e => hq (e ▸ hy)
  have R := g2 t ht
  have Rq := old _ R.1
  have up : ∀ y, T y = 1 → lv y ≤ lv' (rt' (tr y)) := fun y hy => by
    have gy := g1 y hy
    by_cases e : tr y = t
    · rw [e, r1, m2]; rw [e] at gy; omega
    · rw [r2 _ e]
      have := (n1 _ (old _ (g2 _ gy.2.1).1)).2.1
      omega
  refine And.intro ?_ (And.intro ?_ (And.intro ?_ ?_))
  · intro y hy
    by_cases e : y = q
    · rw [e, m2, m3, m4, m5, r1, m2]; omega
    · have ⟨q1, q2, q3, q4, q5⟩ := n1 y e
      rw [q1] at hy
      have gy := g1 y hy
      have := up y hy
      rw [q2, q3, q4, q5]; omega
  · intro t' ht'
    by_cases e : t' = t
    · rw [e, r1]; exact ⟨m1, m3, m4, m5⟩
    · rw [r2 _ e]
      have ⟨q1, q2, q3, q4, q5⟩ := n1 _ (old _ (g2 t' ht').1)
      rw [q1, q3, q4, q5]; exact g2 t' ht'
  · intro y j hy hly hj
    by_cases e : y = q
    · rw [e] at hj ⊢
      have hj0 : j = 0 := by omega
      rw [hj0, e2]
      have ⟨q1, q2, q3, q4, q5⟩ := n1 _ Rq
      refine zt_okI (by omega) (by omega) (by omega) (fun h => ?_) (fun k hk => ?_) (fun h => ?_) (fun h => ?_)
      · omega
      · omega
      · omega
      · omega
    · have ⟨y1, y2, y3, y4, y5⟩ := n1 y e
      rw [y1] at hy
      rw [y2] at hly
      have ⟨z1, z2, z3⟩ := eo y hy hly
      rw [z1] at hj
      rw [z3 j hj]
      have ⟨c1, c2, c3, c4, c5, c6, c7⟩ := g3 y j hy hly hj
      have ⟨q1, q2, q3, q4, q5⟩ := n1 _ (old _ c1)
      refine zt_okI (by omega) (by omega) (by omega) (fun h => ?_) (fun k hk => ?_) (fun h => ?_) (fun h => ?_)
      · have := c4 h; omega
      · have e1 := c5 k hk
        have e2 := z2 k (by omega)
        omega
      · have := c6 (by omega); omega
      · have e1 := c7 (by omega)
        have e2 := z2 j (by omega)
        omega
  · intro y z hy hz htt hv h1 h2
    by_cases ey : y = q
    · by_cases ez : z = q
      · rw [ey, ez]
      · exfalso
        have ⟨q1, q2, q3, q4, q5⟩ := n1 z ez
        rw [q1] at hz
        have gz := (g1 z hz).2.2.2.2
        rw [ey] at htt hv
        have e3 : tr z = t := by omega
        rw [e3] at gz; omega
    · have ⟨p1, p2, p3, p4, p5⟩ := n1 y ey
      rw [p1] at hy
      by_cases ez : z = q
      · exfalso
        have gy := (g1 y hy).2.2.2.2
        rw [ez] at htt hv
        have e3 : tr y = t := by omega
        rw [e3] at gy; omega
      · have ⟨q1, q2, q3, q4, q5⟩ := n1 z ez
        exact g4 y z hy (by omega) (by omega) (by omega) (by omega) (by omega)
theorem zt_coll_G {t q : Nat} (G : zt_G rt T lv tr lo hi sz ky ch) (ht : t < 2) (hq : rt t = q) (hl : 0 < lv q) (hz : sz q = 0)
    (n1 : ∀ z, z ≠ q → T' z = T z) (n2 : T' q ≠ 1) (r1 : rt' t = ch q 0) (r2 : ∀ z, z ≠ t → rt' z = rt z) :
    zt_G rt' T' lv tr lo hi sz ky ch := by
  have ⟨g1, g2, g3, g4⟩ := G
  have R := g2 t ht
  rw [hq] at R
  have ⟨R1, R2, R3, R4⟩ := R
  have ⟨c1, c2, c3, c4, c5, c6, c7⟩ := g3 q 0 R1 hl (by omega)
  have tt : ∀ z, T' z = 1 → z ≠ q := fun z h e => n2 (e ▸ h)
  have cq : ch q 0 ≠ q := fun e => by rw [e] at c3; omega
  have d4 := c4 rfl
  have d6 := c6 hz.symm
  refine And.intro ?_ (And.intro ?_ (And.intro ?_ ?_))
  · intro y hy
    have e := tt y hy
    rw [n1 y e] at hy
    have gy := g1 y hy
    by_cases e2 : tr y = t
    · rw [e2, r1]
      have : lv y ≠ lv q := fun h => e (g4 y q hy R1 (by omega) h (by omega) (by omega))
      rw [e2, hq] at gy
      omega
    · rw [r2 _ e2]; exact gy
  · intro t' ht'
    by_cases e : t' = t
    · rw [e, r1, n1 _ cq]
      exact ⟨c1, by omega, by omega, by omega⟩
    · rw [r2 _ e]
      have h := g2 t' ht'
      have : rt t' ≠ q := fun e2 => by rw [e2] at h; omega
      rw [n1 _ this]; exact h
  · intro y j hy hly hj
    have e := tt y hy
    rw [n1 y e] at hy
    have O := g3 y j hy hly hj
    have ⟨b1, b2, b3, b4, b5, b6, b7⟩ := O
    have cq2 : ch y j ≠ q := fun e2 => zt_noroot G hy hly hj ht (hq.trans e2.symm)
    exact zt_okI (by rw [n1 _ cq2]; exact b1) b2 b3 b4 b5 b6 b7
  · intro y z hy hz2 htt hv h1 h2
    have ey := tt y hy
    have ez := tt z hz2
    rw [n1 y ey] at hy
    rw [n1 z ez] at hz2
    exact g4 y z hy hz2 htt hv h1 h2
/-- a leaf's own numbers don't touch the shape -/
theorem zt_leaf_G {x : Nat} (G : zt_G rt T lv tr lo hi sz ky ch) (hx : lv x = 0)
    (eo : ∀ y, T y = 1 → 0 < lv y → y ≠ x → sz' y = sz y ∧ (∀ j, j < sz y → ky' y j = ky y j) ∧ (∀ j, j ≤ sz y → ch' y j = ch y j)) :
    zt_G rt T lv tr lo hi sz' ky' ch' := by
  have ⟨g1, g2, g3, g4⟩ := G
  refine And.intro g1 (And.intro g2 (And.intro ?_ g4))
  intro y j hy hly hj
  have ⟨z1, z2, z3⟩ := eo y hy hly (fun e => by rw [e] at hly; omega)
  rw [z1] at hj
  have ⟨b1, b2, b3, b4, b5, b6, b7⟩ := g3 y j hy hly hj
  rw [z3 j hj]
  refine zt_okI b1 b2 b3 b4 (fun k hk => ?_) (fun h => ?_) (fun h => ?_)
  · rw [z2 k (by omega)]; exact b5 k hk
  · exact b6 (by omega)
  · rw [z2 j (by omega)]; exact b7 (by omega)
end
end
section
/-! the leaves' records against a map M tree key, and the chain of the leaves -/
def zt_mu (M : Nat → Nat → Option Int64) (t k : Nat) (o : Option Int64) : Nat → Nat → Option Int64 := fun t' k' => if t' = t ∧ k' = k then o else M t' k'
theorem zt_mu_s {M : Nat → Nat → Option Int64} {t k : Nat} {o : Option Int64} : zt_mu M t k o t k = o := if_pos ⟨rfl, rfl⟩
theorem zt_mu_n {M : Nat → Nat → Option Int64} {t k t' k' : Nat} {o : Option Int64} (h : t' ≠ t ∨ k' ≠ k) : zt_mu M t k o t' k' = M t' k' := if_neg (fun e => by omega)
def zt_lf (tr lo hi sz : Nat → Nat) (ky : Nat → Nat → Nat) (vl : Nat → Nat → Int64) (M : Nat → Nat → Option Int64) (x : Nat) : Prop :=
  (∀ i, i < sz x → lo x ≤ ky x i ∧ ky x i < hi x ∧ M (tr x) (ky x i) = some (vl x i)) ∧ (∀ i j, i < j → j < sz x → ky x i < ky x j) ∧ (∀ k, lo x ≤ k → k < hi x → M (tr x) k ≠ none → ∃ i, i < sz x ∧ ky x i = k)
def zt_L (T lv tr lo hi sz : Nat → Nat) (ky : Nat → Nat → Nat) (vl : Nat → Nat → Int64) (M : Nat → Nat → Option Int64) : Prop :=
  ∀ x, T x = 1 → lv x = 0 → zt_lf tr lo hi sz ky vl M x
def zt_A (T lv tr lo hi af : Nat → Nat) : Prop :=
  ∀ x, T x = 1 → lv x = 0 → (hi x = 40000 → af x = 0) ∧ (hi x ≠ 40000 → ∃ y, af x = y + 1 ∧ T y = 1 ∧ lv y = 0 ∧ tr y = tr x ∧ lo y = hi x)
section
variable {rt T lv tr lo hi sz af rt' T' lv' tr' lo' hi' sz' af' : Nat → Nat} {ky ch ky' ch' : Nat → Nat → Nat} {vl vl' : Nat → Nat → Int64} {M M' : Nat → Nat → Option Int64}
/-- a leaf that stays as it is, over a map that stays as it is on its keys -/
theorem zt_lf_same {x : Nat} (h : zt_lf tr lo hi sz ky vl M x) (e1 : tr' x = tr x) (e2 : lo' x = lo x) (e3 : hi' x = hi x) (e4 : sz' x = sz x) (e5 : ∀ j, j < sz x → ky' x j = ky x j ∧ vl' x j = vl x j) (e6 : ∀ k, lo x ≤ k → k < hi x → M' (tr x) k = M (tr x) k) : zt_lf tr' lo' hi' sz' ky' vl' M' x := by
  have ⟨h1, h2, h3⟩ := h
  refine And.intro ?_ (And.intro ?_ ?_)
  · intro i hi0
    rw [e4] at hi0
    have ⟨a1, a2, a3⟩ := h1 i hi0
    rw [(e5 i hi0).1, (e5 i hi0).2, e1, e2, e3, e6 _ a1 a2]
    exact ⟨a1, a2, a3⟩
  · intro i j hij hj
    rw [e4] at hj
    rw [(e5 i (by omega)).1, (e5 j hj).1]
    exact h2 i j hij hj
  · intro k hk hk' hM
    rw [e2] at hk
    rw [e3] at hk'
    rw [e1, e6 k hk hk'] at hM
    obtain ⟨i, hi0, e⟩ := h3 k hk hk' hM
    exact ⟨i, by omega, by rw [(e5 i hi0).1]; exact e⟩
/-- no leaf changes -/
theorem zt_same_L (H : zt_L T lv tr lo hi sz ky vl M) (e : ∀ y, T' y = 1 → lv' y = 0 → T y = 1 ∧ lv y = 0 ∧ tr' y = tr y ∧ lo' y = lo y ∧ hi' y = hi y ∧ sz' y = sz y ∧ (∀ j, j < sz y → ky' y j = ky y j ∧ vl' y j = vl y j)) : zt_L T' lv' tr' lo' hi' sz' ky' vl' M := by
  intro y hy hl
  have ⟨a1, a2, a3, a4, a5, a6, a7⟩ := e y hy hl
  exact zt_lf_same (H y a1 a2) a3 a4 a5 a6 a7 (fun _ _ _ => rfl)
/-- one leaf changes, with the map at one of its keys -/
theorem zt_one_L {x k : Nat} (G : zt_G rt T lv tr lo hi sz ky ch) (H : zt_L T lv tr lo hi sz ky vl M) (hx : T x = 1) (hl : lv x = 0) (hk : lo x ≤ k) (hk' : k < hi x)
    (eM : ∀ t' k', t' ≠ tr x ∨ k' ≠ k → M' t' k' = M t' k')
    (eo : ∀ y, T y = 1 → lv y = 0 → y ≠ x → sz' y = sz y ∧ (∀ j, j < sz y → ky' y j = ky y j ∧ vl' y j = vl y j))
    (ex : zt_lf tr lo hi sz' ky' vl' M' x) : zt_L T lv tr lo hi sz' ky' vl' M' := by
  intro y hy hly
  by_cases e : y = x
  · rw [e]; exact ex
  · have ⟨a1, a2⟩ := eo y hy hly e
    refine zt_lf_same (H y hy hly) rfl rfl rfl a1 a2 (fun k2 h1 h2 => eM _ _ ?_)
    by_cases e1 : tr y = tr x
    · right
      intro e2
      exact e (G.2.2.2 y x hy hx e1 (by omega) (by omega) (by omega))
    · left; exact e1
theorem zt_put_L {x a k : Nat} {v : Int64} (G : zt_G rt T lv tr lo hi sz ky ch) (H : zt_L T lv tr lo hi sz ky vl M) (hx : T x = 1) (hl : lv x = 0) (hk : lo x ≤ k) (hk' : k < hi x)
    (ha : a ≤ sz x) (h1 : ∀ j, j < a → ky x j < k) (h2 : ∀ j, a ≤ j → j < sz x → k < ky x j)
    (eo : ∀ y, T y = 1 → lv y = 0 → y ≠ x → sz' y = sz y ∧ (∀ j, j < sz y → ky' y j = ky y j ∧ vl' y j = vl y j))
    (e1 : sz' x = sz x + 1) (e2 : ∀ j, j < a → ky' x j = ky x j ∧ vl' x j = vl x j) (e3 : ky' x a = k ∧ vl' x a = v) (e4 : ∀ j, a ≤ j → j < sz x → ky' x (j + 1) = ky x j ∧ vl' x (j + 1) = vl x j) :
    zt_L T lv tr lo hi sz' ky' vl' (zt_mu M (tr x) k (some v)) := by
  have ⟨l1, l2, l3⟩ := H x hx hl
  refine zt_one_L G H hx hl hk hk' (fun t' k' h => zt_mu_n h) eo (And.intro ?_ (And.intro ?_ ?_))
  · intro i hi0
    by_cases c1 : i < a
    · rw [(e2 i c1).1, (e2 i c1).2]
      have ⟨q1, q2, q3⟩ := l1 i (by omega)
      have := h1 i c1
      exact ⟨q1, q2, by rw [zt_mu_n (Or.inr (by omega))]; exact q3⟩
    · by_cases c2 : i = a
      · rw [c2, e3.1, e3.2]
        exact ⟨hk, hk', zt_mu_s⟩
      · obtain ⟨j, hj⟩ : ∃ j, i = j + 1 := ⟨i - 1, by omega⟩
        have ⟨q1, q2, q3⟩ := l1 j (by omega)
        have := h2 j (by omega) (by omega)
        have e := e4 j (by omega) (by omega)
        rw [hj, e.1, e.2]
        exact ⟨q1, q2, by rw [zt_mu_n (Or.inr (by omega))]; exact q3⟩
  · intro i j hij hj
    by_cases c1 : j < a
    · rw [(e2 i (by omega)).1, (e2 j c1).1]; exact l2 i j hij (by omega)
    · by_cases c2 : j = a
      · rw [c2, e3.1, (e2 i (by omega)).1]; exact h1 i (by omega)
      · obtain ⟨j', hj'⟩ : ∃ j', j = j' + 1 := ⟨j - 1, by omega⟩
        have w := h2 j' (by omega) (by omega)
        rw [hj', (e4 j' (by omega) (by omega)).1]
        by_cases c3 : i < a
        · rw [(e2 i c3).1]; have := h1 i c3; omega
        · by_cases c4 : i = a
          · rw [c4, e3.1]; exact w
          · obtain ⟨i', hi'⟩ : ∃ i', i = i' + 1 := ⟨i - 1, by omega⟩
            rw [hi', (e4 i' (by omega) (by omega)).1]
            exact l2 i' j' (by omega) (by omega)
  · intro k2 hk2 hk2' hM
    by_cases c : k2 = k
    · exact ⟨a, by omega, by rw [e3.1, c]⟩
    · rw [zt_mu_n (Or.inr c)] at hM
      obtain ⟨i, hi0, e⟩ := l3 k2 hk2 hk2' hM
      by_cases c1 : i < a
      · exact ⟨i, by omega, by rw [(e2 i c1).1]; exact e⟩
      · exact ⟨i + 1, by omega, by rw [(e4 i (by omega) hi0).1]; exact e⟩
theorem zt_set_L {x a k : Nat} {v : Int64} (G : zt_G rt T lv tr lo hi sz ky ch) (H : zt_L T lv tr lo hi sz ky vl M) (hx : T x = 1) (hl : lv x = 0)
    (ha : a < sz x) (hka : ky x a = k)
    (eo : ∀ y, T y = 1 → lv y = 0 → y ≠ x → (∀ j, j < sz y → vl' y j = vl y j))
    (e2 : ∀ j, j < sz x → j ≠ a → vl' x j = vl x j) (e3 : vl' x a = v) :
    zt_L T lv tr lo hi sz ky vl' (zt_mu M (tr x) k (some v)) := by
  have ⟨l1, l2, l3⟩ := H x hx hl
  have ⟨b1, b2, b3⟩ := l1 a ha
  refine zt_one_L (k := k) G H hx hl (by omega) (by omega) (fun t' k' h => zt_mu_n h) (fun y h1 h2 h3 => ⟨rfl, fun j hj => ⟨rfl, eo y h1 h2 h3 j hj⟩⟩) (And.intro ?_ (And.intro l2 ?_))
  · intro i hi0
    have ⟨q1, q2, q3⟩ := l1 i hi0
    refine ⟨q1, q2, ?_⟩
    by_cases c : i = a
    · rw [c, hka, e3]; exact zt_mu_s
    · have : ky x i ≠ k := by
        by_cases c1 : i < a
        · have := l2 i a c1 ha; omega
        · have := l2 a i (by omega) hi0; omega
      rw [zt_mu_n (Or.inr this), e2 i hi0 c]; exact q3
  · intro k2 hk2 hk2' hM
    by_cases c : k2 = k
    · exact ⟨a, ha, by rw [hka, c]⟩
    · rw [zt_mu_n (Or.inr c)] at hM
      exact l3 k2 hk2 hk2' hM
theorem zt_drop_L {x a k : Nat} (G : zt_G rt T lv tr lo hi sz ky ch) (H : zt_L T lv tr lo hi sz ky vl M) (hx : T x = 1) (hl : lv x = 0)
    (ha : a < sz x) (hka : ky x a = k)
    (eo : ∀ y, T y = 1 → lv y = 0 → y ≠ x → sz' y = sz y ∧ (∀ j, j < sz y → ky' y j = ky y j ∧ vl' y j = vl y j))
    (e1 : sz' x + 1 = sz x) (e2 : ∀ j, j < a → ky' x j = ky x j ∧ vl' x j = vl x j) (e4 : ∀ j, a ≤ j → j < sz' x → ky' x j = ky x (j + 1) ∧ vl' x j = vl x (j + 1)) :
    zt_L T lv tr lo hi sz' ky' vl' (zt_mu M (tr x) k none) := by
  have ⟨l1, l2, l3⟩ := H x hx hl
  have ⟨b1, b2, b3⟩ := l1 a ha
  refine zt_one_L (k := k) G H hx hl (by omega) (by omega) (fun t' k' h => zt_mu_n h) eo (And.intro ?_ (And.intro ?_ ?_))
  · intro i hi0
    by_cases c1 : i < a
    · rw [(e2 i c1).1, (e2 i c1).2]
      have ⟨q1, q2, q3⟩ := l1 i (by omega)
      have := l2 i a c1 ha
      exact ⟨q1, q2, by rw [zt_mu_n (Or.inr (by omega))]; exact q3⟩
    · have e := e4 i (by omega) hi0
      rw [e.1, e.2]
      have ⟨q1, q2, q3⟩ := l1 (i + 1) (by omega)
      have := l2 a (i + 1) (by omega) (by omega)
      exact ⟨q1, q2, by rw [zt_mu_n (Or.inr (by omega))]; exact q3⟩
  · intro i j hij hj
    by_cases c1 : j < a
    · rw [(e2 i (by omega)).1, (e2 j c1).1]; exact l2 i j hij (by omega)
    · rw [(e4 j (by omega) hj).1]
      by_cases c2 : i < a
      · rw [(e2 i c2).1]; exact l2 i (j + 1) (by omega) (by omega)
      · rw [(e4 i (by omega) (by omega)).1]; exact l2 (i + 1) (j + 1) (by omega) (by omega)
  · intro k2 hk2 hk2' hM
    by_cases c : k2 = k
    · rw [c, zt_mu_s] at hM; exact absurd rfl hM
    · rw [zt_mu_n (Or.inr c)] at hM
      obtain ⟨i, hi0, e⟩ := l3 k2 hk2 hk2' hM
      by_cases c1 : i < a
      · exact ⟨i, by omega, by rw [(e2 i c1).1]; exact e⟩
      · have c2 : i ≠ a := fun c3 => by rw [c3] at e; omega
        obtain ⟨j, hj⟩ : ∃ j, i = j + 1 := ⟨i - 1, by omega⟩
        exact ⟨j, by omega, by rw [(e4 j (by omega) (by omega)).1, ← hj]; exact e⟩
theorem zt_split_L {x r m : Nat} (H : zt_L T lv tr lo hi sz ky vl M) (hx : T x = 1) (hl : lv x = 0) (hr : T r ≠ 1) (h0 : 0 < m) (hm : m < sz x)
    (n1 : ∀ z, z ≠ r → T' z = T z ∧ lv' z = lv z ∧ tr' z = tr z ∧ lo' z = lo z) (n2 : tr' r = tr x ∧ lo' r = ky x m ∧ hi' r = hi x) (n2' : hi' x = ky x m) (n3 : ∀ z, z ≠ r → z ≠ x → hi' z = hi z)
    (e1 : sz' x = m) (e2 : sz' r + m = sz x) (e3 : ∀ j, j < m → ky' x j = ky x j ∧ vl' x j = vl x j) (e4 : ∀ j, j < sz' r → ky' r j = ky x (m + j) ∧ vl' r j = vl x (m + j))
    (eo : ∀ y, T y = 1 → lv y = 0 → y ≠ x → sz' y = sz y ∧ (∀ j, j < sz y → ky' y j = ky y j ∧ vl' y j = vl y j)) :
    zt_L T' lv' tr' lo' hi' sz' ky' vl' M := by
  have ⟨l1, l2, l3⟩ := H x hx hl
  have ⟨m1, m2, m3⟩ := n2
  have xr : x ≠ r := fun e => hr (e ▸ hx)
  have below : ∀ i, i < sz x → (i < m ↔ ky x i < ky x m) := fun i hi0 => by
    constructor
    · intro h; exact l2 i m h hm
    · intro h
      by_cases c : i < m
      · exact c
      · by_cases c2 : i = m
        · rw [c2] at h; omega
        · have := l2 m i (by omega) hi0; omega
  intro y hy hly
  by_cases e : y = r
  · rw [e]
    refine And.intro ?_ (And.intro ?_ ?_)
    · intro i hi0
      have ⟨q1, q2, q3⟩ := l1 (m + i) (by omega)
      have := below (m + i) (by omega)
      rw [(e4 i hi0).1, (e4 i hi0).2, m1, m2, m3]
      exact ⟨by omega, q2, q3⟩
    · intro i j hij hj
      rw [(e4 i (by omega)).1, (e4 j hj).1]
      exact l2 _ _ (by omega) (by omega)
    · intro k hk hk' hM
      rw [m2] at hk
      rw [m3] at hk'
      rw [m1] at hM
      have := l1 m hm
      obtain ⟨i, hi0, e⟩ := l3 k (by omega) hk' hM
      have b := below i hi0
      refine ⟨i - m, by omega, ?_⟩
      rw [(e4 (i - m) (by omega)).1, show m + (i - m) = i from by omega]
      exact e
  · have ⟨q1, q2, q3, q4⟩ := n1 y e
    by_cases ex : y = x
    · rw [ex] at q3 q4 ⊢
      refine And.intro ?_ (And.intro ?_ ?_)
      · intro i hi0
        have ⟨w1, w2, w3⟩ := l1 i (by omega)
        have := below i (by omega)
        rw [(e3 i (by omega)).1, (e3 i (by omega)).2, q3, q4, n2']
        exact ⟨w1, by omega, w3⟩
      · intro i j hij hj
        rw [(e3 i (by omega)).1, (e3 j (by omega)).1]
        exact l2 _ _ (by omega) (by omega)
      · intro k hk hk' hM
        rw [q4] at hk
        rw [n2'] at hk'
        rw [q3] at hM
        have := l1 m hm
        obtain ⟨i, hi0, e⟩ := l3 k hk (by omega) hM
        have b := below i hi0
        refine ⟨i, by omega, ?_⟩
        rw [(e3 i (by omega)).1]
        exact e
    · have ⟨a1, a2⟩ := eo y (by omega) (by omega) ex
      exact zt_lf_same (H y (by omega) (by omega)) q3 q4 (n3 y e ex) a1 a2 (fun _ _ _ => rfl)
theorem zt_merge_L {x r : Nat} (H : zt_L T lv tr lo hi sz ky vl M) (hx : T x = 1) (hl : lv x = 0) (hr : T r = 1) (hlr : lv r = 0) (htr : tr r = tr x) (hb : hi x = lo r) (hx2 : lo x < hi x) (hr2 : lo r < hi r)
    (n1 : ∀ z, z ≠ r → T' z = T z) (n2 : T' r ≠ 1) (n3 : ∀ z, z ≠ x → hi' z = hi z) (n4 : hi' x = hi r)
    (e1 : sz' x = sz x + sz r) (e3 : ∀ j, j < sz x → ky' x j = ky x j ∧ vl' x j = vl x j) (e4 : ∀ j, j < sz r → ky' x (sz x + j) = ky r j ∧ vl' x (sz x + j) = vl r j)
    (eo : ∀ y, T y = 1 → lv y = 0 → y ≠ x → y ≠ r → sz' y = sz y ∧ (∀ j, j < sz y → ky' y j = ky y j ∧ vl' y j = vl y j)) :
    zt_L T' lv tr lo hi' sz' ky' vl' M := by
  have ⟨l1, l2, l3⟩ := H x hx hl
  have ⟨k1, k2, k3⟩ := H r hr hlr
  intro y hy hly
  have er : y ≠ r := fun e => n2 (e ▸ hy)
  rw [n1 y er] at hy
  by_cases ex : y = x
  · rw [ex]
    refine And.intro ?_ (And.intro ?_ ?_)
    · intro i hi0
      rw [n4]
      by_cases c : i < sz x
      · have ⟨q1, q2, q3⟩ := l1 i c
        rw [(e3 i c).1, (e3 i c).2]
        exact ⟨q1, by omega, q3⟩
      · obtain ⟨j, hj⟩ : ∃ j, i = sz x + j := ⟨i - sz x, by omega⟩
        have ⟨q1, q2, q3⟩ := k1 j (by omega)
        rw [hj, (e4 j (by omega)).1, (e4 j (by omega)).2, ← htr]
        exact ⟨by omega, q2, q3⟩
    · intro i j hij hj
      by_cases c : j < sz x
      · rw [(e3 i (by omega)).1, (e3 j c).1]; exact l2 i j hij c
      · obtain ⟨j', hj'⟩ : ∃ j', j = sz x + j' := ⟨j - sz x, by omega⟩
        rw [hj', (e4 j' (by omega)).1]
        by_cases c2 : i < sz x
        · rw [(e3 i c2).1]
          have := l1 i c2
          have := k1 j' (by omega)
          omega
        · obtain ⟨i', hi'⟩ : ∃ i', i = sz x + i' := ⟨i - sz x, by omega⟩
          rw [hi', (e4 i' (by omega)).1]
          exact k2 i' j' (by omega) (by omega)
    · intro k hk hk' hM
      rw [n4] at hk'
      by_cases c : k < hi x
      · obtain ⟨i, hi0, e⟩ := l3 k hk c hM
        exact ⟨i, by omega, by rw [(e3 i hi0).1]; exact e⟩
      · obtain ⟨i, hi0, e⟩ := k3 k (by omega) hk' (by rw [htr]; exact hM)
        exact ⟨sz x + i, by omega, by rw [(e4 i hi0).1]; exact e⟩
  · have ⟨a1, a2⟩ := eo y hy hly ex er
    exact zt_lf_same (H y hy hly) rfl rfl (n3 y ex) a1 a2 (fun _ _ _ => rfl)
theorem zt_same_A (H : zt_A T lv tr lo hi af) (e : ∀ y, T' y = 1 → lv' y = 0 → T y = 1 ∧ lv y = 0) (f : ∀ y, T y = 1 → lv y = 0 → T' y = 1 ∧ lv' y = 0 ∧ tr' y = tr y ∧ lo' y = lo y ∧ hi' y = hi y ∧ af' y = af y) : zt_A T' lv' tr' lo' hi' af' := by
  intro y hy hly
  have ⟨a1, a2⟩ := e y hy hly
  have ⟨b1, b2, b3, b4, b5, b6⟩ := f y a1 a2
  have ⟨h1, h2⟩ := H y a1 a2
  rw [b5, b6]
  refine ⟨h1, fun h => ?_⟩
  obtain ⟨z, c1, c2, c3, c4, c5⟩ := h2 h
  have ⟨d1, d2, d3, d4, d5, d6⟩ := f z c2 c3
  exact ⟨z, c1, d1, d2, by omega, by omega⟩
theorem zt_split_A {x r s : Nat} (G : zt_G rt T lv tr lo hi sz ky ch) (H : zt_A T lv tr lo hi af) (hx : T x = 1) (hl : lv x = 0) (hr : T r ≠ 1) (hs : lo x < s) (hs' : s < hi x)
    (n1 : ∀ z, z ≠ r → T' z = T z ∧ lv' z = lv z ∧ tr' z = tr z ∧ lo' z = lo z) (n2 : T' r = 1 ∧ lv' r = lv x ∧ tr' r = tr x ∧ lo' r = s ∧ hi' r = hi x) (n2' : hi' x = s) (n3 : ∀ z, z ≠ r → z ≠ x → hi' z = hi z)
    (a1 : af' x = r + 1) (a2 : af' r = af x) (a3 : ∀ y, T y = 1 → lv y = 0 → y ≠ x → af' y = af y) : zt_A T' lv' tr' lo' hi' af' := by
  have ⟨m1, m2, m3, m4, m5⟩ := n2
  have old : ∀ y, T y = 1 → y ≠ r := fun y hy e => hr (e ▸ hy)
  have xr := old x hx
  have gx := G.1 x hx
  have tail : ∀ z, T z = 1 → lv z = 0 → (hi z ≠ 40000 → ∃ y, af z = y + 1 ∧ T' y = 1 ∧ lv' y = 0 ∧ tr' y = tr z ∧ lo' y = hi z) := fun z hz hlz h => by
    obtain ⟨y, c1, c2, c3, c4, c5⟩ := (H z hz hlz).2 h
    have ⟨q1, q2, q3, q4⟩ := n1 y (old y c2)
    exact ⟨y, c1, by omega, by omega, by omega, by omega⟩
  intro y hy hly
  by_cases e : y = r
  · rw [e, a2, m5, m3]
    exact ⟨(H x hx hl).1, tail x hx hl⟩
  · have ⟨q1, q2, q3, q4⟩ := n1 y e
    by_cases ex : y = x
    · rw [ex] at q1 q2 q3 q4 ⊢
      rw [n2', a1]
      exact ⟨fun h => by omega, fun _ => ⟨r, rfl, m1, by omega, by omega, m4⟩⟩
    · rw [n3 y e ex, a3 y (by omega) (by omega) ex, q3]
      exact ⟨(H y (by omega) (by omega)).1, tail y (by omega) (by omega)⟩
theorem zt_merge_A {x r : Nat} (G : zt_G rt T lv tr lo hi sz ky ch) (H : zt_A T lv tr lo hi af) (hx : T x = 1) (hl : lv x = 0) (hr : T r = 1) (hlr : lv r = 0) (htr : tr r = tr x) (hb : hi x = lo r)
    (n1 : ∀ z, z ≠ r → T' z = T z) (n2 : T' r ≠ 1) (n3 : ∀ z, z ≠ x → hi' z = hi z) (n4 : hi' x = hi r)
    (a1 : af' x = af r) (a3 : ∀ y, T y = 1 → lv y = 0 → y ≠ x → y ≠ r → af' y = af y) : zt_A T' lv tr lo hi' af' := by
  have gr := G.1 r hr
  have gx := G.1 x hx
  have tail : ∀ z, z ≠ x → T z = 1 → lv z = 0 → tr z = tr x → (hi z ≠ 40000 → ∃ y, af z = y + 1 ∧ T' y = 1 ∧ lv y = 0 ∧ tr y = tr z ∧ lo y = hi z) := fun z zx hz hlz htz h => by
    obtain ⟨y, c1, c2, c3, c4, c5⟩ := (H z hz hlz).2 h
    have : y ≠ r := fun e => by
      rw [e] at c5
      have gz := G.1 z hz
      exact zx (G.2.2.2 z x hz hx htz (by omega) (by omega) (by omega))
    exact ⟨y, c1, by rw [n1 y this]; exact c2, c3, c4, c5⟩
  have tail2 : ∀ z, T z = 1 → lv z = 0 → tr z ≠ tr x → (hi z ≠ 40000 → ∃ y, af z = y + 1 ∧ T' y = 1 ∧ lv y = 0 ∧ tr y = tr z ∧ lo y = hi z) := fun z hz hlz htz h => by
    obtain ⟨y, c1, c2, c3, c4, c5⟩ := (H z hz hlz).2 h
    have : y ≠ r := fun e => by rw [e] at c4; omega
    exact ⟨y, c1, by rw [n1 y this]; exact c2, c3, c4, c5⟩
  intro y hy hly
  have er : y ≠ r := fun e => n2 (e ▸ hy)
  rw [n1 y er] at hy
  by_cases ex : y = x
  · rw [ex, n4, a1, ← htr]
    refine ⟨(H r hr hlr).1, tail r ?_ hr hlr htr⟩
    intro e; rw [e] at gr hb; omega
  · rw [n3 y ex, a3 y hy hly ex er]
    refine ⟨(H y hy hly).1, ?_⟩
    by_cases c : tr y = tr x
    · exact tail y ex hy hly c
    · exact tail2 y hy hly c
end
end
section
/-! counting by sums over the pool -/
def zt_gi (T lv sz W : Nat → Nat) : Nat → Nat := fun x => if T x = 1 then (if lv x = 0 then 0 else W (lv x) * (sz x + 1)) else 0
def zt_ga (T lv W : Nat → Nat) : Nat → Nat := fun x => if T x = 1 then W (lv x + 1) else 0
def zt_gl (T lv sz : Nat → Nat) : Nat → Nat := fun x => if T x = 1 then (if lv x = 0 then sz x else 0) else 0
def zt_W (rt T lv sz : Nat → Nat) (R : Nat) : Prop :=
  (∀ W : Nat → Nat, zt_sm (zt_gi T lv sz W) 80 + W (lv (rt 0) + 1) + W (lv (rt 1) + 1) = zt_sm (zt_ga T lv W) 80) ∧ zt_sm (zt_gl T lv sz) 80 = R
section
variable {rt T lv tr lo hi sz af rt' T' lv' tr' lo' hi' sz' af' : Nat → Nat} {ky ch ky' ch' : Nat → Nat → Nat}
theorem zt_gi_n {W : Nat → Nat} {x : Nat} (h : T x ≠ 1) : zt_gi T lv sz W x = 0 := if_neg h
theorem zt_gi_l {W : Nat → Nat} {x : Nat} (h : T x = 1) (hl : lv x = 0) : zt_gi T lv sz W x = 0 := (if_pos h).trans (if_pos hl)
theorem zt_gi_i {W : Nat → Nat} {x : Nat} (h : T x = 1) (hl : 0 < lv x) : zt_gi T lv sz W x = W (lv x) * (sz x + 1) := (if_pos h).trans (if_neg (by omega))
theorem zt_ga_n {W : Nat → Nat} {x : Nat} (h : T x ≠ 1) : zt_ga T lv W x = 0 := if_neg h
theorem zt_ga_t {W : Nat → Nat} {x : Nat} (h : T x = 1) : zt_ga T lv W x = W (lv x + 1) := if_pos h
theorem zt_gl_n {x : Nat} (h : T x ≠ 1) : zt_gl T lv sz x = 0 := if_neg h
theorem zt_gl_l {x : Nat} (h : T x = 1) (hl : lv x = 0) : zt_gl T lv sz x = sz x := (if_pos h).trans (if_pos hl)
theorem zt_gl_i {x : Nat} (h : T x = 1) (hl : 0 < lv x) : zt_gl T lv sz x = 0 := (if_pos h).trans (if_neg (by omega))
theorem zt_gi_c {W : Nat → Nat} {x : Nat} (h1 : T' x = T x) (h2 : lv' x = lv x) (h3 : T x = 1 → sz' x = sz x) : zt_gi T' lv' sz' W x = zt_gi T lv sz W x := by
  unfold zt_gi
  rw [h1, h2]
  by_cases h : T x = 1
  · rw [if_pos h, if_pos h, h3 h]
  · rw [if_neg h, if_neg h]
theorem zt_ga_c {W : Nat → Nat} {x : Nat} (h1 : T' x = T x) (h2 : lv' x = lv x) : zt_ga T' lv' W x = zt_ga T lv W x := by
  unfold zt_ga
  rw [h1, h2]
theorem zt_gl_c {x : Nat} (h1 : T' x = T x) (h2 : lv' x = lv x) (h3 : T x = 1 → sz' x = sz x) : zt_gl T' lv' sz' x = zt_gl T lv sz x := by
  unfold zt_gl
  rw [h1, h2]
  by_cases h : T x = 1
  · rw [if_pos h, if_pos h, h3 h]
  · rw [if_neg h, if_neg h]
theorem zt_leaf_W {R x : Nat} (H : zt_W rt T lv sz R) (hx : T x = 1) (hx8 : x < 80) (hl : lv x = 0) (eo : ∀ y, T y = 1 → y ≠ x → sz' y = sz y) : ∃ R', R' + sz x = R + sz' x ∧ zt_W rt T lv sz' R' := by
  have ⟨h1, h2⟩ := H
  have k := zt_sm_1 (g := zt_gl T lv sz) (g' := zt_gl T lv sz') hx8 (fun y _ hy => zt_gl_c rfl rfl (fun h => eo y h hy))
  rw [zt_gl_l hx hl, zt_gl_l hx hl, h2] at k
  refine ⟨zt_sm (zt_gl T lv sz') 80, k, fun W => ?_, rfl⟩
  rw [← h1 W, zt_sm_c (g := zt_gi T lv sz W) (fun y _ => ?_)]
  by_cases e : y = x
  · rw [e, zt_gi_l hx hl, zt_gi_l hx hl]
  · exact zt_gi_c rfl rfl (fun h => eo y h e)
theorem zt_split_W {R p x r : Nat} (H : zt_W rt T lv sz R) (hp : T p = 1) (hx : T x = 1) (hr : T r ≠ 1) (hp8 : p < 80) (hx8 : x < 80) (hr8 : r < 80) (hlp : lv x + 1 = lv p) (rr : ∀ t, t < 2 → rt t ≠ r)
    (n1 : ∀ z, z ≠ r → T' z = T z ∧ lv' z = lv z) (n2 : T' r = 1 ∧ lv' r = lv x)
    (ep : sz' p = sz p + 1) (eo : ∀ y, T y = 1 → y ≠ p → y ≠ x → sz' y = sz y)
    (s0 : lv x = 0 → sz' x + sz' r = sz x) (s1 : 0 < lv x → sz' x + sz' r + 1 = sz x) : zt_W rt T' lv' sz' R := by
  have ⟨h1, h2⟩ := H
  have ⟨m1, m2⟩ := n2
  have px : p ≠ x := fun e => by rw [e] at hlp; omega
  have pr : p ≠ r := fun e => hr (e ▸ hp)
  have xr : x ≠ r := fun e => hr (e ▸ hx)
  have ⟨p1, p2⟩ := n1 p pr
  have ⟨x1, x2⟩ := n1 x xr
  have hp' : T' p = 1 := by omega
  have hx' : T' x = 1 := by omega
  refine And.intro (fun W => ?_) ?_
  · have a := zt_sm_3 (g := zt_gi T lv sz W) (g' := zt_gi T' lv' sz' W) hp8 hx8 hr8 px pr xr (fun y _ e1 e2 e3 => zt_gi_c (n1 y e3).1 (n1 y e3).2 (fun h => eo y h e1 e2))
    have b := zt_sm_1 (g := zt_ga T lv W) (g' := zt_ga T' lv' W) hr8 (fun y _ e => zt_ga_c (n1 y e).1 (n1 y e).2)
    have c := h1 W
    rw [zt_ga_n hr, zt_ga_t m1, m2, hlp] at b
    rw [zt_gi_i hp (by omega), zt_gi_n hr, zt_gi_i hp' (by omega), p2, ep] at a
    have d0 : W (lv p) * (sz p + 1 + 1) = W (lv p) * (sz p + 1) + W (lv p) := Nat.mul_succ _ _
    rw [d0] at a
    rw [(n1 _ (rr 0 (by omega))).2, (n1 _ (rr 1 (by omega))).2]
    by_cases hl : lv x = 0
    · rw [zt_gi_l hx hl, zt_gi_l hx' (by omega), zt_gi_l m1 (by omega)] at a
      omega
    · rw [zt_gi_i hx (by omega), zt_gi_i hx' (by omega), zt_gi_i m1 (by omega), m2, x2] at a
      have d : W (lv x) * (sz x + 1) = W (lv x) * (sz' x + 1) + W (lv x) * (sz' r + 1) := by
        rw [← Nat.mul_add, show sz x + 1 = sz' x + 1 + (sz' r + 1) from by have := s1 (by omega); omega]
      omega
  · have a := zt_sm_3 (g := zt_gl T lv sz) (g' := zt_gl T' lv' sz') hp8 hx8 hr8 px pr xr (fun y _ e1 e2 e3 => zt_gl_c (n1 y e3).1 (n1 y e3).2 (fun h => eo y h e1 e2))
    rw [zt_gl_i hp (by omega), zt_gl_n hr, zt_gl_i hp' (by omega), h2] at a
    by_cases hl : lv x = 0
    · rw [zt_gl_l hx hl, zt_gl_l hx' (by omega), zt_gl_l m1 (by omega)] at a
      have := s0 hl
      omega
    · rw [zt_gl_i hx (by omega), zt_gl_i hx' (by omega), zt_gl_i m1 (by omega)] at a
      omega
theorem zt_merge_W {R p x r : Nat} (H : zt_W rt T lv sz R) (hp : T p = 1) (hx : T x = 1) (hr : T r = 1) (hp8 : p < 80) (hx8 : x < 80) (hr8 : r < 80) (xr : x ≠ r) (hlp : lv x + 1 = lv p) (hlr : lv r = lv x)
    (n1 : ∀ z, z ≠ r → T' z = T z) (n2 : T' r ≠ 1)
    (ep : sz' p + 1 = sz p) (eo : ∀ y, T y = 1 → y ≠ p → y ≠ x → y ≠ r → sz' y = sz y)
    (s0 : lv x = 0 → sz' x = sz x + sz r) (s1 : 0 < lv x → sz' x = sz x + 1 + sz r) : zt_W rt T' lv sz' R := by
  have ⟨h1, h2⟩ := H
  have px : p ≠ x := fun e => by rw [e] at hlp; omega
  have pr : p ≠ r := fun e => by rw [e] at hlp; omega
  have p1 := n1 p pr
  have x1 := n1 x xr
  have hp' : T' p = 1 := by omega
  have hx' : T' x = 1 := by omega
  refine And.intro (fun W => ?_) ?_
  · have a := zt_sm_3 (g := zt_gi T lv sz W) (g' := zt_gi T' lv sz' W) hp8 hx8 hr8 px pr xr (fun y _ e1 e2 e3 => zt_gi_c (n1 y e3) rfl (fun h => eo y h e1 e2 e3))
    have b := zt_sm_1 (g := zt_ga T lv W) (g' := zt_ga T' lv W) hr8 (fun y _ e => zt_ga_c (n1 y e) rfl)
    have c := h1 W
    rw [zt_ga_n n2, zt_ga_t hr, hlr, hlp] at b
    rw [zt_gi_i hp (by omega), zt_gi_n n2, zt_gi_i hp' (by omega), ← ep, Nat.mul_succ] at a
    by_cases hl : lv x = 0
    · rw [zt_gi_l hx hl, zt_gi_l hx' hl, zt_gi_l hr (by omega)] at a
      omega
    · rw [zt_gi_i hx (by omega), zt_gi_i hx' (by omega), zt_gi_i hr (by omega), hlr] at a
      have d : W (lv x) * (sz' x + 1) = W (lv x) * (sz x + 1) + W (lv x) * (sz r + 1) := by
        rw [← Nat.mul_add, show sz' x + 1 = sz x + 1 + (sz r + 1) from by have := s1 (by omega); omega]
      omega
  · have a := zt_sm_3 (g := zt_gl T lv sz) (g' := zt_gl T' lv sz') hp8 hx8 hr8 px pr xr (fun y _ e1 e2 e3 => zt_gl_c (n1 y e3) rfl (fun h => eo y h e1 e2 e3))
    rw [zt_gl_i hp (by omega), zt_gl_n n2, zt_gl_i hp' (by omega), h2] at a
    by_cases hl : lv x = 0
    · rw [zt_gl_l hx hl, zt_gl_l hx' hl, zt_gl_l hr (by omega)] at a
      have := s0 hl
      omega
    · rw [zt_gl_i hx (by omega), zt_gl_i hx' (by omega), zt_gl_i hr (by omega)] at a
      omega
theorem zt_grow_W {R t q : Nat} (H : zt_W rt T lv sz R) (ht : t < 2) (hq : T q ≠ 1) (hq8 : q < 80) (rr : ∀ t, t < 2 → rt t ≠ q)
    (n1 : ∀ z, z ≠ q → T' z = T z ∧ lv' z = lv z) (n2 : T' q = 1 ∧ lv' q = lv (rt t) + 1) (r1 : rt' t = q) (r2 : ∀ z, z ≠ t → rt' z = rt z) (e1 : sz' q = 0)
    (eo : ∀ y, T y = 1 → sz' y = sz y) : zt_W rt' T' lv' sz' R := by
  have ⟨h1, h2⟩ := H
  have ⟨m1, m2⟩ := n2
  refine And.intro (fun W => ?_) ?_
  · have a := zt_sm_1 (g := zt_gi T lv sz W) (g' := zt_gi T' lv' sz' W) hq8 (fun y _ e => zt_gi_c (n1 y e).1 (n1 y e).2 (fun h => eo y h))
    have b := zt_sm_1 (g := zt_ga T lv W) (g' := zt_ga T' lv' W) hq8 (fun y _ e => zt_ga_c (n1 y e).1 (n1 y e).2)
    have c := h1 W
    rw [zt_ga_n hq, zt_ga_t m1, m2] at b
    rw [zt_gi_n hq, zt_gi_i m1 (by omega), m2, e1, Nat.zero_add, Nat.mul_one] at a
    by_cases e : t = 0
    · rw [e] at r1 r2 a b m2
      rw [r1, r2 1 (by omega), (n1 _ (rr 1 (by omega))).2, m2]
      omega
    · have e' : t = 1 := by omega
      rw [e'] at r1 r2 a b m2
      rw [r1, r2 0 (by omega), (n1 _ (rr 0 (by omega))).2, m2]
      omega
  · have a := zt_sm_1 (g := zt_gl T lv sz) (g' := zt_gl T' lv' sz') hq8 (fun y _ e => zt_gl_c (n1 y e).1 (n1 y e).2 (fun h => eo y h))
    rw [zt_gl_n hq, zt_gl_i m1 (by omega), h2] at a
    omega
theorem zt_coll_W {R t q : Nat} (H : zt_W rt T lv sz R) (ht : t < 2) (hq : rt t = q) (hq1 : T q = 1) (hq8 : q < 80) (hl : 0 < lv q) (hz : sz q = 0) (hc : lv (rt' t) + 1 = lv q)
    (n1 : ∀ z, z ≠ q → T' z = T z) (n2 : T' q ≠ 1) (r2 : ∀ z, z ≠ t → rt' z = rt z) : zt_W rt' T' lv sz R := by
  have ⟨h1, h2⟩ := H
  refine And.intro (fun W => ?_) ?_
  · have a := zt_sm_1 (g := zt_gi T lv sz W) (g' := zt_gi T' lv sz W) hq8 (fun y _ e => zt_gi_c (n1 y e) rfl (fun _ => rfl))
    have b := zt_sm_1 (g := zt_ga T lv W) (g' := zt_ga T' lv W) hq8 (fun y _ e => zt_ga_c (n1 y e) rfl)
    have c := h1 W
    rw [zt_ga_n n2, zt_ga_t hq1] at b
    rw [zt_gi_n n2, zt_gi_i hq1 hl, hz, Nat.zero_add, Nat.mul_one] at a
    by_cases e : t = 0
    · rw [e] at hq r2 hc
      rw [r2 1 (by omega), hc]
      rw [hq] at c
      omega
    · have e' : t = 1 := by omega
      rw [e'] at hq r2 hc
      rw [r2 0 (by omega), hc]
      rw [hq] at c
      omega
  · have a := zt_sm_1 (g := zt_gl T lv sz) (g' := zt_gl T' lv sz) hq8 (fun y _ e => zt_gl_c (n1 y e) rfl (fun _ => rfl))
    rw [zt_gl_n n2, zt_gl_i hq1 hl, h2] at a
    omega
/-- the least sizes: e may be short (e = 80: none) -/
def zt_mn (rt T lv tr sz : Nat → Nat) (e : Nat) : Prop := ∀ x, T x = 1 → (x ≠ rt (tr x) → 1 ≤ sz x ∧ (x ≠ e → 2 ≤ sz x)) ∧ (x = rt (tr x) → 0 < lv x → x ≠ e → 1 ≤ sz x)
/-- the largest sizes: e may hold five -/
def zt_mx (T sz : Nat → Nat) (e : Nat) : Prop := ∀ x, T x = 1 → sz x ≤ 5 ∧ (x ≠ e → sz x ≤ 4)
/-- the number of nodes -/
def zt_cnt (T : Nat → Nat) : Nat := zt_sm (fun x => if T x = 1 then 1 else 0) 80
theorem zt_few {R : Nat} (G : zt_G rt T lv tr lo hi sz ky ch) (H : zt_W rt T lv sz R) (S : zt_mn rt T lv tr sz 80) : 4 * zt_cnt T ≤ 3 * R + 8 := by
  have ⟨h1, h2⟩ := H
  have ⟨g1, g2, g3, g4⟩ := G
  have c := h1 (fun _ => 1)
  have r0 := (g1 _ (g2 0 (by omega)).1).1
  have r1 := (g1 _ (g2 1 (by omega)).1).1
  have ea : zt_cnt T = zt_sm (zt_ga T lv (fun _ => 1)) 80 := rfl
  have h := zt_sm_le (g := fun x => 6 * zt_ga T lv (fun _ => 1) x) (g' := fun x => (3 * zt_gl T lv sz x + 2 * zt_gi T lv sz (fun _ => 1) x) + ((if x = rt 0 then 6 else 0) + (if x = rt 1 then 6 else 0))) (n := 80) (fun x hx => by
    show 6 * zt_ga T lv (fun _ => 1) x ≤ (3 * zt_gl T lv sz x + 2 * zt_gi T lv sz (fun _ => 1) x) + ((if x = rt 0 then 6 else 0) + (if x = rt 1 then 6 else 0))
    by_cases ht : T x = 1
    · rw [zt_ga_t ht]
      by_cases e0 : x = rt 0
      · rw [if_pos e0]; omega
      · by_cases e1 : x = rt 1
        · rw [if_pos e1]; omega
        · have hn : x ≠ rt (tr x) := by
            have := (g1 x ht).2.1
            have hc : tr x = 0 ∨ tr x = 1 := by omega
            rcases hc with hc | hc <;> rw [hc] <;> assumption
          have := ((S x ht).1 hn).2 (by omega)
          by_cases hl : lv x = 0
          · rw [zt_gl_l ht hl]; omega
          · rw [zt_gi_i ht (by omega)]; omega
    · rw [zt_ga_n ht]; omega)
  rw [zt_sm_k, zt_sm_a, zt_sm_a, zt_sm_a, zt_sm_k, zt_sm_k, zt_sm_i r0, zt_sm_i r1] at h
  omega
theorem zt_arith {a b c d : Nat} (h1 : c + a + b = d) (h2 : d ≤ c + 2 * 80) : a ≤ 160 ∧ b ≤ 160 := by omega
theorem zt_high {R : Nat} (G : zt_G rt T lv tr lo hi sz ky ch) (H : zt_W rt T lv sz R) (S : zt_mn rt T lv tr sz 80) {t : Nat} (ht : t < 2) : lv (rt t) ≤ 6 := by
  have ⟨h1, h2⟩ := H
  have ⟨g1, g2, g3, g4⟩ := G
  have c := h1 (fun n => 2 ^ n)
  have h := zt_sm_le (g := zt_ga T lv (fun n => 2 ^ n)) (g' := fun x => zt_gi T lv sz (fun n => 2 ^ n) x + 2 * (fun _ => 1) x) (n := 80) (fun x hx => by
    show zt_ga T lv (fun n => 2 ^ n) x ≤ zt_gi T lv sz (fun n => 2 ^ n) x + 2 * 1
    by_cases ht : T x = 1
    · rw [zt_ga_t ht]
      by_cases hl : lv x = 0
      · rw [hl]; omega
      · rw [zt_gi_i ht (by omega)]
        have hs : 1 ≤ sz x := by
          by_cases hn : x = rt (tr x)
          · exact (S x ht).2 hn (by omega) (by omega)
          · exact ((S x ht).1 hn).1
        have : 2 ^ lv x * 2 ≤ 2 ^ lv x * (sz x + 1) := Nat.mul_le_mul_left _ (by omega)
        have e : 2 ^ (lv x + 1) = 2 ^ lv x * 2 := Nat.pow_succ 2 (lv x)
        show 2 ^ (lv x + 1) ≤ 2 ^ lv x * (sz x + 1) + 2 * 1
        rw [e]; exact Nat.le_trans this (Nat.le_add_right _ _)
    · rw [zt_ga_n ht]; omega)
  rw [zt_sm_a, zt_sm_k] at h
  have u : zt_sm (fun _ => 1) 80 = 80 := by decide
  rw [u] at h
  have c' : zt_sm (zt_gi T lv sz (fun n => 2 ^ n)) 80 + 2 ^ (lv (rt 0) + 1) + 2 ^ (lv (rt 1) + 1) = zt_sm (zt_ga T lv (fun n => 2 ^ n)) 80 := c
  have q := zt_arith c' h
  have b : 2 ^ (lv (rt t) + 1) ≤ 160 := by
    have hc : t = 0 ∨ t = 1 := by omega
    rcases hc with hc | hc <;> rw [hc]
    · exact q.1
    · exact q.2
  by_cases hh : lv (rt t) ≤ 6
  · exact hh
  · exfalso
    have w : 2 ^ 8 ≤ 2 ^ (lv (rt t) + 1) := Nat.pow_le_pow_right (by omega) (by omega)
    exact absurd (Nat.le_trans w b) (by decide)
theorem zt_free (h : zt_cnt T < 80) : ∃ n, n < 80 ∧ T n ≠ 1 ∧ ∀ j, j < n → T j = 1 := by
  have e : ∃ n, n < 80 ∧ T n ≠ 1 := by
    by_cases c : ∃ n, n < 80 ∧ T n ≠ 1
    · exact c
    · exfalso
      have := zt_sm_f (g := fun x => if T x = 1 then 1 else 0) (n := 80) (fun x hx => by
        by_cases ht : T x = 1
        · show 1 ≤ (if T x = 1 then 1 else 0); rw [if_pos ht]; omega
        · exact absurd ⟨x, hx, ht⟩ c)
      unfold zt_cnt at h
      omega
  obtain ⟨k, hk, hm⟩ := pk_least (fun n => n < 80 ∧ T n ≠ 1) e
  refine ⟨k, hk.1, hk.2, fun j hj => ?_⟩
  by_cases c : T j = 1
  · exact c
  · exact absurd ⟨by omega, c⟩ (hm j hj)
theorem zt_cnt1 {r : Nat} (hr : T r ≠ 1) (hr8 : r < 80) (n1 : ∀ z, z ≠ r → T' z = T z) (n2 : T' r = 1) : zt_cnt T' = zt_cnt T + 1 := by
  have a := zt_sm_1 (g := fun x => if T x = 1 then 1 else 0) (g' := fun x => if T' x = 1 then 1 else 0) hr8 (fun y _ e => by
    show (if T' y = 1 then 1 else 0) = (if T y = 1 then 1 else 0)
    rw [n1 y e])
  rw [if_neg hr, if_pos n2] at a
  exact a
end
end
section
/-! the moves on the whole invariant -/
def zt_I (rt T lf lv tr lo hi sz af : Nat → Nat) (ky ch : Nat → Nat → Nat) (vl : Nat → Nat → Int64) (M : Nat → Nat → Option Int64) (R : Nat) : Prop :=
  zt_G rt T lv tr lo hi sz ky ch ∧ zt_L T lv tr lo hi sz ky vl M ∧ zt_A T lv tr lo hi af ∧ zt_W rt T lv sz R ∧ (∀ x, T x = 1 → (lf x = 1 ∧ lv x = 0) ∨ (lf x = 0 ∧ 0 < lv x))
section
variable {rt T lf lv tr lo hi sz af rt' T' lf' lv' tr' lo' hi' sz' af' : Nat → Nat} {ky ch ky' ch' : Nat → Nat → Nat} {vl vl' : Nat → Nat → Int64} {M M' : Nat → Nat → Option Int64} {R : Nat}
theorem zq_split {p i x r m : Nat} (I : zt_I rt T lf lv tr lo hi sz af ky ch vl M R) (hp : T p = 1) (hl : 0 < lv p) (hi0 : i ≤ sz p) (hx : ch p i = x) (hr : T r ≠ 1) (hr8 : r < 80) (h0 : 0 < m) (hm : m < sz x)
    (eT : ∀ z, z ≠ r → T' z = T z ∧ lf' z = lf z) (eTr : T' r = 1 ∧ lf' r = lf x)
    (ep : sz' p = sz p + 1)
    (ekp : ∀ j, j ≤ sz p → (j < i → ky' p j = ky p j) ∧ (j = i → ky' p j = ky x m) ∧ (∀ k, j = k + 1 → i < j → ky' p j = ky p k))
    (ecp : ∀ j, j ≤ sz p + 1 → (j ≤ i → ch' p j = ch p j) ∧ (j = i + 1 → ch' p j = r) ∧ (∀ k, j = k + 1 → i + 1 < j → ch' p j = ch p k))
    (eo : ∀ y, T y = 1 → y ≠ p → y ≠ x → sz' y = sz y ∧ (∀ j, j < sz y → ky' y j = ky y j ∧ vl' y j = vl y j) ∧ (∀ j, j ≤ sz y → ch' y j = ch y j))
    (ex1 : sz' x = m) (ex2 : ∀ j, j < m → ky' x j = ky x j ∧ (lv x = 0 → vl' x j = vl x j)) (ex3 : 0 < lv x → ∀ j, j ≤ m → ch' x j = ch x j)
    (er0 : lv x = 0 → sz' r + m = sz x ∧ (∀ j, j < sz' r → ky' r j = ky x (m + j) ∧ vl' r j = vl x (m + j)) ∧ af' x = r + 1 ∧ af' r = af x)
    (er1 : 0 < lv x → sz' r + m + 1 = sz x ∧ (∀ j, j < sz' r → ky' r j = ky x (m + 1 + j)) ∧ (∀ j, j ≤ sz' r → ch' r j = ch x (m + 1 + j)))
    (ea : ∀ y, T y = 1 → lv y = 0 → y ≠ x → af' y = af y) :
    ∃ lv' tr' lo' hi', zt_I rt T' lf' lv' tr' lo' hi' sz' af' ky' ch' vl' M R ∧ (∀ z, z ≠ r → lv' z = lv z ∧ tr' z = tr z) ∧ lv' r = lv x ∧ tr' r = tr x := by
  have ⟨G, L, A, W, F⟩ := I
  have ⟨g1, g2, g3, g4⟩ := G
  have X : zt_ok T lv tr lo hi sz ky p i x := hx ▸ g3 p i hp hl hi0
  have ⟨X1, X2, X3, X4, X5, X6, X7⟩ := X
  have old : ∀ y, T y = 1 → y ≠ r := fun y hy e => hr (e ▸ hy)
  have xr : x ≠ r := old x X1
  have xp : x ≠ p := fun e => by rw [e] at X3; omega
  have hs : lo x < ky x m ∧ ky x m < hi x := by
    by_cases c : lv x = 0
    · have ⟨l1, l2, l3⟩ := L x X1 c
      have := l1 0 (by omega)
      have := l1 m hm
      have := l2 0 m h0 hm
      omega
    · exact zt_kin G X1 (by omega) hm
  have n1 : ∀ z, z ≠ r → T' z = T z ∧ zt_u lv r (lv x) z = lv z ∧ zt_u tr r (tr x) z = tr z ∧ zt_u lo r (ky x m) z = lo z := fun z hz => ⟨(eT z hz).1, zt_un hz, zt_un hz, zt_un hz⟩
  have n2 : T' r = 1 ∧ zt_u lv r (lv x) r = lv x ∧ zt_u tr r (tr x) r = tr x ∧ zt_u lo r (ky x m) r = ky x m ∧ zt_u (zt_u hi x (ky x m)) r (hi x) r = hi x := ⟨eTr.1, zt_us, zt_us, zt_us, zt_us⟩
  have n2' : zt_u (zt_u hi x (ky x m)) r (hi x) x = ky x m := by rw [zt_un xr, zt_us]
  have n3 : ∀ z, z ≠ r → z ≠ x → zt_u (zt_u hi x (ky x m)) r (hi x) z = hi z := fun z h1 h2 => by rw [zt_un h1, zt_un h2]
  refine ⟨zt_u lv r (lv x), zt_u tr r (tr x), zt_u lo r (ky x m), zt_u (zt_u hi x (ky x m)) r (hi x), And.intro ?_ (And.intro ?_ (And.intro ?_ (And.intro ?_ ?_))), fun z hz => ⟨zt_un hz, zt_un hz⟩, zt_us, zt_us⟩
  · refine zt_split_G (m := m) (s := ky x m) G hp hl hi0 hx hr hr8 hs.1 hs.2 n1 n2 n2' n3 ep ekp ecp (fun y h1 h2 h3 h4 => ?_) (fun h => ?_)
    · have ⟨a1, a2, a3⟩ := eo y h1 h3 h4
      exact ⟨a1, fun j hj => (a2 j hj).1, a3⟩
    · have ⟨b1, b2, b3⟩ := er1 h
      exact ⟨hm, rfl, ex1, b1, fun j hj => (ex2 j hj).1, ex3 h, b2, b3⟩
  · by_cases c : lv x = 0
    · have ⟨b1, b2, b3, b4⟩ := er0 c
      exact zt_split_L L X1 c hr h0 hm n1 n2.2.2 n2' n3 ex1 b1 (fun j hj => ⟨(ex2 j hj).1, (ex2 j hj).2 c⟩) b2 (fun y h1 h2 h3 => by
        have yp : y ≠ p := fun e => by rw [e] at h2; omega
        have ⟨a1, a2, a3⟩ := eo y h1 yp h3
        exact ⟨a1, a2⟩)
    · refine zt_same_L L (fun y h1 h2 => ?_)
      have yr : y ≠ r := fun e => by rw [e, zt_us] at h2; omega
      rw [(eT y yr).1] at h1
      rw [zt_un yr] at h2
      have yx : y ≠ x := fun e => by rw [e] at h2; omega
      have yp : y ≠ p := fun e => by rw [e] at h2; omega
      have ⟨a1, a2, a3⟩ := eo y h1 yp yx
      exact ⟨h1, h2, zt_un yr, zt_un yr, n3 y yr yx, a1, a2⟩
  · by_cases c : lv x = 0
    · have ⟨b1, b2, b3, b4⟩ := er0 c
      exact zt_split_A G A X1 c hr hs.1 hs.2 n1 n2 n2' n3 b3 b4 ea
    · refine zt_same_A A (fun y h1 h2 => ?_) (fun y h1 h2 => ?_)
      · have yr : y ≠ r := fun e => by rw [e, zt_us] at h2; omega
        rw [(eT y yr).1] at h1
        rw [zt_un yr] at h2
        exact ⟨h1, h2⟩
      · have yr := old y h1
        have yx : y ≠ x := fun e => by rw [e] at h2; omega
        exact ⟨by rw [(eT y yr).1]; exact h1, by rw [zt_un yr]; exact h2, zt_un yr, zt_un yr, n3 y yr yx, ea y h1 h2 yx⟩
  · exact zt_split_W W hp X1 hr (g1 p hp).1 (g1 x X1).1 hr8 X3 (fun t ht => old _ (g2 t ht).1) (fun z hz => ⟨(eT z hz).1, zt_un hz⟩) ⟨eTr.1, zt_us⟩ ep (fun y h1 h2 h3 => (eo y h1 h2 h3).1) (fun h => by have := (er0 h).1; omega) (fun h => by have := (er1 h).1; omega)
  · intro y hy
    by_cases e : y = r
    · rw [e, eTr.2, zt_us]; exact F x X1
    · rw [(eT y e).2, zt_un e]
      rw [(eT y e).1] at hy
      exact F y hy
theorem zq_merge {p i x r : Nat} (I : zt_I rt T lf lv tr lo hi sz af ky ch vl M R) (hp : T p = 1) (hl : 0 < lv p) (hi0 : i < sz p) (hx : ch p i = x) (hr : ch p (i + 1) = r)
    (eT : ∀ z, z ≠ r → T' z = T z ∧ lf' z = lf z) (eTr : T' r ≠ 1)
    (ep : sz' p + 1 = sz p)
    (ekp : ∀ j, j < sz' p → (j < i → ky' p j = ky p j) ∧ (i ≤ j → ky' p j = ky p (j + 1)))
    (ecp : ∀ j, j ≤ sz' p → (j ≤ i → ch' p j = ch p j) ∧ (i < j → ch' p j = ch p (j + 1)))
    (eo : ∀ y, T y = 1 → y ≠ p → y ≠ x → y ≠ r → sz' y = sz y ∧ (∀ j, j < sz y → ky' y j = ky y j ∧ vl' y j = vl y j) ∧ (∀ j, j ≤ sz y → ch' y j = ch y j))
    (ex2 : ∀ j, j < sz x → ky' x j = ky x j ∧ (lv x = 0 → vl' x j = vl x j))
    (er0 : lv x = 0 → sz' x = sz x + sz r ∧ (∀ j, j < sz r → ky' x (sz x + j) = ky r j ∧ vl' x (sz x + j) = vl r j) ∧ af' x = af r)
    (er1 : 0 < lv x → sz' x = sz x + 1 + sz r ∧ ky' x (sz x) = ky p i ∧ (∀ j, j < sz r → ky' x (sz x + 1 + j) = ky r j) ∧ (∀ j, j ≤ sz x → ch' x j = ch x j) ∧ (∀ j, j ≤ sz r → ch' x (sz x + 1 + j) = ch r j))
    (ea : ∀ y, T y = 1 → lv y = 0 → y ≠ x → y ≠ r → af' y = af y) :
    ∃ hi', zt_I rt T' lf' lv tr lo hi' sz' af' ky' ch' vl' M R := by
  have ⟨G, L, A, W, F⟩ := I
  have ⟨g1, g2, g3, g4⟩ := G
  have X : zt_ok T lv tr lo hi sz ky p i x := hx ▸ g3 p i hp hl (by omega)
  have ⟨X1, X2, X3, X4, X5, X6, X7⟩ := X
  have Y : zt_ok T lv tr lo hi sz ky p (i + 1) r := hr ▸ g3 p (i + 1) hp hl (by omega)
  have ⟨Y1, Y2, Y3, Y4, Y5, Y6, Y7⟩ := Y
  have gx := g1 x X1
  have gr := g1 r Y1
  have b1 := X7 (by omega)
  have b2 := Y5 i rfl
  have xr : x ≠ r := fun e => by rw [e] at gx b1; omega
  have n1 : ∀ z, z ≠ r → T' z = T z := fun z hz => (eT z hz).1
  have n3 : ∀ z, z ≠ x → zt_u hi x (hi r) z = hi z := fun z hz => zt_un hz
  have n4 : zt_u hi x (hi r) x = hi r := zt_us
  refine ⟨zt_u hi x (hi r), And.intro ?_ (And.intro ?_ (And.intro ?_ (And.intro ?_ ?_)))⟩
  · refine zt_merge_G G hp hl hi0 hx hr n1 eTr n3 n4 ep ekp ecp (fun y h1 h2 h3 h4 h5 => ?_) (fun h => ?_)
    · have ⟨a1, a2, a3⟩ := eo y h1 h3 h4 h5
      exact ⟨a1, fun j hj => (a2 j hj).1, a3⟩
    · have ⟨c1, c2, c3, c4, c5⟩ := er1 h
      exact ⟨c1, fun j hj => (ex2 j hj).1, c2, c3, c4, c5⟩
  · by_cases c : lv x = 0
    · have ⟨c1, c2, c3⟩ := er0 c
      exact zt_merge_L L X1 c Y1 (by omega) (by omega) (by omega) (by omega) (by omega) n1 eTr n3 n4 c1 (fun j hj => ⟨(ex2 j hj).1, (ex2 j hj).2 c⟩) c2 (fun y h1 h2 h3 h4 => by
        have yp : y ≠ p := fun e => by rw [e] at h2; omega
        have ⟨a1, a2, a3⟩ := eo y h1 yp h3 h4
        exact ⟨a1, a2⟩)
    · refine zt_same_L L (fun y h1 h2 => ?_)
      have yr : y ≠ r := fun e => eTr (e ▸ h1)
      rw [n1 y yr] at h1
      have yx : y ≠ x := fun e => by rw [e] at h2; omega
      have yp : y ≠ p := fun e => by rw [e] at h2; omega
      have ⟨a1, a2, a3⟩ := eo y h1 yp yx yr
      exact ⟨h1, h2, rfl, rfl, n3 y yx, a1, a2⟩
  · by_cases c : lv x = 0
    · have ⟨c1, c2, c3⟩ := er0 c
      exact zt_merge_A G A X1 c Y1 (by omega) (by omega) (by omega) n1 eTr n3 n4 c3 ea
    · refine zt_same_A A (fun y h1 h2 => ?_) (fun y h1 h2 => ?_)
      · have yr : y ≠ r := fun e => eTr (e ▸ h1)
        rw [n1 y yr] at h1
        exact ⟨h1, h2⟩
      · have yx : y ≠ x := fun e => by rw [e] at h2; omega
        have yr : y ≠ r := fun e => by rw [e] at h2; omega
        exact ⟨by rw [n1 y yr]; exact h1, h2, rfl, rfl, n3 y yx, ea y h1 h2 yx yr⟩
  · exact zt_merge_W W hp X1 Y1 (g1 p hp).1 gx.1 gr.1 xr X3 (by omega) n1 eTr ep (fun y h1 h2 h3 h4 => (eo y h1 h2 h3 h4).1) (fun h => (er0 h).1) (fun h => (er1 h).1)
  · intro y hy
    have yr : y ≠ r := fun e => eTr (e ▸ hy)
    rw [n1 y yr] at hy
    rw [(eT y yr).2]
    exact F y hy
theorem zq_grow {t q : Nat} (I : zt_I rt T lf lv tr lo hi sz af ky ch vl M R) (ht : t < 2) (hq : T q ≠ 1) (hq8 : q < 80)
    (eT : ∀ z, z ≠ q → T' z = T z ∧ lf' z = lf z) (eTq : T' q = 1 ∧ lf' q = 0) (r1 : rt' t = q) (r2 : ∀ z, z ≠ t → rt' z = rt z) (e1 : sz' q = 0) (e2 : ch' q 0 = rt t)
    (eo : ∀ y, T y = 1 → sz' y = sz y ∧ (∀ j, j < sz y → ky' y j = ky y j ∧ vl' y j = vl y j) ∧ (∀ j, j ≤ sz y → ch' y j = ch y j))
    (ea : ∀ y, T y = 1 → lv y = 0 → af' y = af y) :
    ∃ lv' tr' lo' hi', zt_I rt' T' lf' lv' tr' lo' hi' sz' af' ky' ch' vl' M R ∧ (∀ z, z ≠ q → lv' z = lv z ∧ tr' z = tr z) ∧ lv' q = lv (rt t) + 1 ∧ tr' q = t := by
  have ⟨G, L, A, W, F⟩ := I
  have ⟨g1, g2, g3, g4⟩ := G
  have old : ∀ y, T y = 1 → y ≠ q := fun y hy e => hq (e ▸ hy)
  refine ⟨zt_u lv q (lv (rt t) + 1), zt_u tr q t, zt_u lo q 0, zt_u hi q 40000, And.intro ?_ (And.intro ?_ (And.intro ?_ (And.intro ?_ ?_))), fun z hz => ⟨zt_un hz, zt_un hz⟩, zt_us, zt_us⟩
  · exact zt_grow_G G ht hq hq8 (fun z hz => ⟨(eT z hz).1, zt_un hz, zt_un hz, zt_un hz, zt_un hz⟩) ⟨eTq.1, zt_us, zt_us, zt_us, zt_us⟩ r1 r2 e1 e2 (fun y h1 h2 => by
      have ⟨a1, a2, a3⟩ := eo y h1
      exact ⟨a1, fun j hj => (a2 j hj).1, a3⟩)
  · refine zt_same_L L (fun y h1 h2 => ?_)
    have yq : y ≠ q := fun e => by rw [e, zt_us] at h2; omega
    rw [(eT y yq).1] at h1
    rw [zt_un yq] at h2
    have ⟨a1, a2, a3⟩ := eo y h1
    exact ⟨h1, h2, zt_un yq, zt_un yq, zt_un yq, a1, a2⟩
  · refine zt_same_A A (fun y h1 h2 => ?_) (fun y h1 h2 => ?_)
    · have yq : y ≠ q := fun e => by rw [e, zt_us] at h2; omega
      rw [(eT y yq).1] at h1
      rw [zt_un yq] at h2
      exact ⟨h1, h2⟩
    · have yq := old y h1
      exact ⟨by rw [(eT y yq).1]; exact h1, by rw [zt_un yq]; exact h2, zt_un yq, zt_un yq, zt_un yq, ea y h1 h2⟩
  · exact zt_grow_W W ht hq hq8 (fun t ht => old _ (g2 t ht).1) (fun z hz => ⟨(eT z hz).1, zt_un hz⟩) ⟨eTq.1, zt_us⟩ r1 r2 e1 (fun y h => (eo y h).1)
  · intro y hy
    by_cases e : y = q
    · rw [e, eTq.2, zt_us]; right; omega
    · rw [(eT y e).2, zt_un e]
      rw [(eT y e).1] at hy
      exact F y hy
theorem zq_coll {t q : Nat} (I : zt_I rt T lf lv tr lo hi sz af ky ch vl M R) (ht : t < 2) (hq : rt t = q) (hl : 0 < lv q) (hz : sz q = 0)
    (n1 : ∀ z, z ≠ q → T' z = T z) (n2 : T' q ≠ 1) (r1 : rt' t = ch q 0) (r2 : ∀ z, z ≠ t → rt' z = rt z) :
    zt_I rt' T' lf lv tr lo hi sz af ky ch vl M R := by
  have ⟨G, L, A, W, F⟩ := I
  have ⟨g1, g2, g3, g4⟩ := G
  have Rq := g2 t ht
  rw [hq] at Rq
  have ⟨c1, c2, c3, c4, c5, c6, c7⟩ := g3 q 0 Rq.1 hl (by omega)
  have tt : ∀ z, T' z = 1 → z ≠ q := fun z h e => n2 (e ▸ h)
  refine And.intro ?_ (And.intro ?_ (And.intro ?_ (And.intro ?_ ?_)))
  · exact zt_coll_G G ht hq hl hz n1 n2 r1 r2
  · refine zt_same_L L (fun y h1 h2 => ?_)
    have yq := tt y h1
    rw [n1 y yq] at h1
    exact ⟨h1, h2, rfl, rfl, rfl, rfl, fun _ _ => ⟨rfl, rfl⟩⟩
  · refine zt_same_A A (fun y h1 h2 => ?_) (fun y h1 h2 => ?_)
    · have yq := tt y h1
      rw [n1 y yq] at h1
      exact ⟨h1, h2⟩
    · have yq : y ≠ q := fun e => by rw [e] at h2; omega
      exact ⟨by rw [n1 y yq]; exact h1, h2, rfl, rfl, rfl, rfl⟩
  · exact zt_coll_W W ht hq Rq.1 (g1 q Rq.1).1 hl hz (by rw [r1]; exact c3) n1 n2 r2
  · intro y hy
    have yq := tt y hy
    rw [n1 y yq] at hy
    exact F y hy
/-- the key, value, child at place j of two neighbours and, between inner ones, the key above -/
def zt_ck (ky : Nat → Nat → Nat) (sz : Nat → Nat) (l p i x r j : Nat) : Nat := if j < sz x then ky x j else if l = 0 then ky r (j - sz x) else if j = sz x then ky p i else ky r (j - sz x - 1)
def zt_cv (vl : Nat → Nat → Int64) (sz : Nat → Nat) (x r j : Nat) : Int64 := if j < sz x then vl x j else vl r (j - sz x)
def zt_cc (ch : Nat → Nat → Nat) (sz : Nat → Nat) (x r j : Nat) : Nat := if j ≤ sz x then ch x j else ch r (j - sz x - 1)
theorem zq_rebal {p i x r m : Nat} (I : zt_I rt T lf lv tr lo hi sz af ky ch vl M R) (hp : T p = 1) (hl : 0 < lv p) (hi0 : i < sz p) (hx : ch p i = x) (hr : ch p (i + 1) = r) (h0 : 0 < m) (hm : m < sz x + sz r ∨ (0 < lv x ∧ m < sz x + 1 + sz r))
    (ep : sz' p = sz p) (ekp : ∀ j, j < sz p → j ≠ i → ky' p j = ky p j) (ekp' : ky' p i = zt_ck ky sz (lv x) p i x r m) (ecp : ∀ j, j ≤ sz p → ch' p j = ch p j)
    (eo : ∀ y, T y = 1 → y ≠ p → y ≠ x → y ≠ r → sz' y = sz y ∧ (∀ j, j < sz y → ky' y j = ky y j ∧ vl' y j = vl y j) ∧ (∀ j, j ≤ sz y → ch' y j = ch y j))
    (ex1 : sz' x = m) (ex2 : ∀ j, j < m → ky' x j = zt_ck ky sz (lv x) p i x r j ∧ (lv x = 0 → vl' x j = zt_cv vl sz x r j)) (ex3 : 0 < lv x → ∀ j, j ≤ m → ch' x j = zt_cc ch sz x r j)
    (er0 : lv x = 0 → sz' r + m = sz x + sz r ∧ (∀ j, j < sz' r → ky' r j = zt_ck ky sz (lv x) p i x r (m + j) ∧ vl' r j = zt_cv vl sz x r (m + j)))
    (er1 : 0 < lv x → sz' r + m = sz x + sz r ∧ (∀ j, j < sz' r → ky' r j = zt_ck ky sz (lv x) p i x r (m + 1 + j)) ∧ (∀ j, j ≤ sz' r → ch' r j = zt_cc ch sz x r (m + 1 + j))) :
    ∃ lv' tr' lo' hi', zt_I rt T lf lv' tr' lo' hi' sz' af ky' ch' vl' M R ∧ (∀ z, T z = 1 → lv' z = lv z ∧ tr' z = tr z) := by
  have ⟨G, L, A, W, F⟩ := I
  have ⟨g1, g2, g3, g4⟩ := G
  have X : zt_ok T lv tr lo hi sz ky p i x := hx ▸ g3 p i hp hl (by omega)
  have ⟨X1, X2, X3, X4, X5, X6, X7⟩ := X
  have Y : zt_ok T lv tr lo hi sz ky p (i + 1) r := hr ▸ g3 p (i + 1) hp hl (by omega)
  have ⟨Y1, Y2, Y3, Y4, Y5, Y6, Y7⟩ := Y
  have gx := g1 x X1
  have gr := g1 r Y1
  have b1 := X7 (by omega)
  have b2 := Y5 i rfl
  have xr : x ≠ r := fun e => by rw [e] at gx b1; omega
  have xp : x ≠ p := fun e => by rw [e] at X3; omega
  have pr : p ≠ r := fun e => by rw [← e] at Y3; omega
  have lxr : lv r = lv x := by omega
  obtain ⟨hi1, I1⟩ := zq_merge (T' := zt_u T r 0) (lf' := lf) (sz' := zt_u (zt_u sz p (sz p - 1)) x (if lv x = 0 then sz x + sz r else sz x + 1 + sz r)) (af' := zt_u af x (af r))
    (ky' := fun y j => if y = x then zt_ck ky sz (lv x) p i x r j else if y = p then (if j < i then ky p j else ky p (j + 1)) else ky y j)
    (ch' := fun y j => if y = x then zt_cc ch sz x r j else if y = p then (if j ≤ i then ch p j else ch p (j + 1)) else ch y j)
    (vl' := fun y j => if y = x then zt_cv vl sz x r j else vl y j) I hp hl hi0 hx hr (fun z hz => ⟨zt_un hz, rfl⟩) (by rw [zt_us]; omega)
    (by rw [zt_un (Ne.symm xp), zt_us]; omega)
    (fun j hj => ⟨fun h => by simp only [if_neg (Ne.symm xp), if_true, if_pos h], fun h => by simp only [if_neg (Ne.symm xp), if_true, if_neg (Nat.not_lt.mpr h)]⟩)
    (fun j hj => ⟨fun h => by simp only [if_neg (Ne.symm xp), if_true, if_pos h], fun h => by simp only [if_neg (Ne.symm xp), if_true, if_neg (Nat.not_le.mpr h)]⟩)
    (fun y h1 h2 h3 h4 => ⟨by rw [zt_un h3, zt_un h2], fun j hj => ⟨by simp only [if_neg h3, if_neg h2], by simp only [if_neg h3]⟩, fun j hj => by simp only [if_neg h3, if_neg h2]⟩)
    (fun j hj => ⟨by simp only [if_true, zt_ck, if_pos hj], fun _ => by simp only [if_true, zt_cv, if_pos hj]⟩)
    (fun h => ⟨by rw [zt_us, if_pos h], fun j hj => ⟨by simp only [if_true, zt_ck, if_neg (show ¬ sz x + j < sz x by omega), if_pos h, Nat.add_sub_cancel_left], by simp only [if_true, zt_cv, if_neg (show ¬ sz x + j < sz x by omega), Nat.add_sub_cancel_left]⟩, zt_us⟩)
    (fun h => ⟨by rw [zt_us, if_neg (by omega)], by simp only [if_true, zt_ck, if_neg (show ¬ sz x < sz x by omega), if_neg (show ¬ lv x = 0 by omega)], fun j hj => by simp only [if_true, zt_ck, if_neg (show ¬ sz x + 1 + j < sz x by omega), if_neg (show ¬ lv x = 0 by omega), if_neg (show ¬ sz x + 1 + j = sz x by omega), show sz x + 1 + j - sz x - 1 = j from by omega],
      fun j hj => by simp only [if_true, zt_cc, if_pos hj], fun j hj => by simp only [if_true, zt_cc, if_neg (show ¬ sz x + 1 + j ≤ sz x by omega), show sz x + 1 + j - sz x - 1 = j from by omega]⟩)
    (fun y h1 h2 h3 h4 => zt_un h3)
  have Tp1 : zt_u T r 0 p = 1 := by rw [zt_un pr]; exact hp
  have szp : zt_u (zt_u sz p (sz p - 1)) x (if lv x = 0 then sz x + sz r else sz x + 1 + sz r) p = sz p - 1 := by rw [zt_un (Ne.symm xp), zt_us]
  have szx : zt_u (zt_u sz p (sz p - 1)) x (if lv x = 0 then sz x + sz r else sz x + 1 + sz r) x = if lv x = 0 then sz x + sz r else sz x + 1 + sz r := zt_us
  have Told : ∀ z, zt_u T r 0 z = 1 → z ≠ r ∧ T z = 1 := fun z h => by
    by_cases e : z = r
    · rw [e, zt_us] at h; omega
    · rw [zt_un e] at h; exact ⟨e, h⟩
  obtain ⟨lv2, tr2, lo2, hi2, I2, d1, d2, d3⟩ := zq_split (T' := T) (lf' := lf) (sz' := sz') (af' := af) (ky' := ky') (ch' := ch') (vl' := vl') (p := p) (i := i) (x := x) (r := r) (m := m) I1 Tp1 hl (by rw [szp]; omega)
    (by simp only [if_neg (Ne.symm xp), if_true, if_pos (Nat.le_refl i)]; exact hx) (by rw [zt_us]; omega) gr.1 h0 (by
      rw [szx]
      by_cases c : lv x = 0
      · rw [if_pos c]; omega
      · rw [if_neg c]; omega)
    (fun z hz => ⟨(zt_un hz).symm, rfl⟩) ⟨Y1, by
      have f1 := F x X1
      have f2 := F r Y1
      omega⟩
    (by rw [szp, ep]; omega)
    (fun j hj => by
      rw [szp] at hj
      simp only [if_neg (Ne.symm xp), if_true]
      refine ⟨fun h => ?_, fun h => ?_, fun k hk h => ?_⟩
      · rw [if_pos h]; exact ekp j (by omega) (by omega)
      · rw [h]; exact ekp'
      · rw [if_neg (by omega), ← hk]; exact ekp j (by omega) (by omega))
    (fun j hj => by
      rw [szp] at hj
      simp only [if_neg (Ne.symm xp), if_true]
      refine ⟨fun h => ?_, fun h => ?_, fun k hk h => ?_⟩
      · rw [if_pos h]; exact ecp j (by omega)
      · rw [ecp j (by omega), h]; exact hr
      · rw [if_neg (by omega), ← hk]; exact ecp j (by omega))
    (fun y h1 h2 h3 => by
      have ⟨h4, h5⟩ := Told y h1
      rw [zt_un h3, zt_un h2]
      simp only [if_neg h3, if_neg h2]
      exact eo y h5 h2 h3 h4)
    ex1 (fun j hj => by simp only [if_true]; exact ex2 j hj) (fun h j hj => by simp only [if_true]; exact ex3 h j hj)
    (fun h => by
      rw [szx, if_pos h, zt_us]
      simp only [if_true]
      refine ⟨(er0 h).1, (er0 h).2, ?_, by trivial⟩
      obtain ⟨y, q1, q2, q3, q4, q5⟩ := (A x X1 h).2 (by omega)
      have gy := g1 y q2
      have : y = r := g4 y r q2 Y1 (by omega) (by omega) (by omega) (by omega)
      rw [q1, this])
    (fun h => by
      rw [szx, if_neg (by omega)]
      simp only [if_true]
      have ⟨e1, e2, e3⟩ := er1 h
      exact ⟨by omega, e2, e3⟩)
    (fun y h1 h2 h3 => (zt_un h3).symm)
  refine ⟨lv2, tr2, lo2, hi2, I2, fun z hz => ?_⟩
  by_cases e : z = r
  · rw [e, d2, d3]; omega
  · exact d1 z e
end
end
section
/-! shifts and copies in arrays; index arithmetic -/
def zt_sh {α : Type} (f : Nat → α) (a b : Nat) : Nat → α := fun j => if a < j ∧ j ≤ b then f (j - 1) else f j
def zt_sl {α : Type} (f : Nat → α) (a b : Nat) : Nat → α := fun j => if a ≤ j ∧ j < b then f (j + 1) else f j
def zt_cp {α : Type} (f : Nat → α) (d s n : Nat) : Nat → α := fun j => if d ≤ j ∧ j < d + n then f (s + (j - d)) else f j
section
variable {α : Type} {f : Nat → α} {a b d s n j : Nat}
theorem zt_shi (h : a < j ∧ j ≤ b) : zt_sh f a b j = f (j - 1) := if_pos h
theorem zt_sho (h : j ≤ a ∨ b < j) : zt_sh f a b j = f j := if_neg (by omega)
theorem zt_sli (h : a ≤ j ∧ j < b) : zt_sl f a b j = f (j + 1) := if_pos h
theorem zt_slo (h : j < a ∨ b ≤ j) : zt_sl f a b j = f j := if_neg (by omega)
theorem zt_cpi (h : d ≤ j ∧ j < d + n) : zt_cp f d s n j = f (s + (j - d)) := if_pos h
theorem zt_cpo (h : j < d ∨ d + n ≤ j) : zt_cp f d s n j = f j := if_neg (by omega)
theorem zt_sh0 : zt_sh f a a = f := funext fun j => zt_sho (by omega)
theorem zt_sl0 : zt_sl f a a = f := funext fun j => zt_slo (by omega)
theorem zt_cp0 : zt_cp f d s 0 = f := funext fun j => zt_cpo (by omega)
theorem zt_shs (h : a < b) : zt_u (zt_sh f (a + 1) b) (a + 1) (zt_sh f (a + 1) b a) = zt_sh f a b := by
  funext j
  by_cases h1 : j = a + 1
  · rw [h1, zt_us, zt_sho (by omega), zt_shi (by omega)]; rfl
  · rw [zt_un h1]
    by_cases h2 : a + 1 < j ∧ j ≤ b
    · rw [zt_shi h2, zt_shi (by omega)]
    · rw [zt_sho (by omega), zt_sho (by omega)]
theorem zt_sls (h : a ≤ b) : zt_u (zt_sl f a b) b (zt_sl f a b (b + 1)) = zt_sl f a (b + 1) := by
  funext j
  by_cases h1 : j = b
  · rw [h1, zt_us, zt_slo (by omega), zt_sli (by omega)]
  · rw [zt_un h1]
    by_cases h2 : a ≤ j ∧ j < b
    · rw [zt_sli h2, zt_sli (by omega)]
    · rw [zt_slo (by omega), zt_slo (by omega)]
theorem zt_cps (h : s + n < d ∨ d ≤ s) : zt_u (zt_cp f d s n) (d + n) (zt_cp f d s n (s + n)) = zt_cp f d s (n + 1) := by
  funext j
  by_cases h1 : j = d + n
  · rw [h1, zt_us, zt_cpo (by omega), zt_cpi (by omega), show d + n - d = n from by omega]
  · rw [zt_un h1]
    by_cases h2 : d ≤ j ∧ j < d + n
    · rw [zt_cpi h2, zt_cpi (by omega)]
    · rw [zt_cpo (by omega), zt_cpo (by omega)]
end
theorem zs_5 (x : Nat) : (5 : Int32) * nI x = nI (5 * x) := pk_mul 5 x
theorem zs_6 (x : Nat) : (6 : Int32) * nI x = nI (6 * x) := pk_mul 6 x
theorem zs_5a (x i : Nat) : (5 : Int32) * nI x + nI i = nI (5 * x + i) := by rw [zs_5, nI_add]
theorem zs_6a (x i : Nat) : (6 : Int32) * nI x + nI i = nI (6 * x + i) := by rw [zs_6, nI_add]
theorem zs_ak (a k : Nat) : nI a + nI k = nI (a + k) := nI_add a k
theorem zs_s1 {a : Nat} (h : 1 ≤ a) : nI a - 1 = nI (a - 1) := pk_sub (b := 1) h
theorem zs_s2 {a : Nat} (h : 2 ≤ a) : nI a - 2 = nI (a - 2) := pk_sub (b := 2) h
theorem zs_s3 {a : Nat} (h : 3 ≤ a) : nI a - 3 = nI (a - 3) := pk_sub (b := 3) h
theorem zs_m1 {a : Nat} (h : 1 ≤ a) : nI a + (-1) = nI (a - 1) := sb_m1 h
/-- the index of a read or a store: its bound and its number -/
theorem zs_ix {x : Int32} {n N : Nat} (e : x = nI n) (h : n < N) (hN : N < 2 ^ 31) : vp_in x N ∧ x.toNatClampNeg = n := by
  rw [e]; exact ⟨vp_in_nI h hN, nI_clamp (by omega)⟩
/-- a read that is only bounded -/
theorem zs_i {x : Int32} {n N : Nat} {P : Prop} (e : x = nI n) (h : n < N) (hN : N < 2 ^ 31) (p : P) : vp_in x N ∧ P := ⟨(zs_ix e h hN).1, p⟩
/-- a read that is named -/
theorem zs_r {α : Type} {a : Nat → α} {x : Int32} {n N : Nat} {v : α} {P : α → Prop} (e : x = nI n) (h : n < N) (hN : N < 2 ^ 31) (hv : a n = v) (p : P v) : vp_in x N ∧ ∀ y, y = a x.toNatClampNeg → P y := by
  have ⟨h1, h2⟩ := zs_ix e h hN
  rw [h2, hv]; exact ⟨h1, nm_e p⟩
/-- a store -/
theorem zs_w {a : Nat → Int32} {x v v' : Int32} {n N : Nat} {P : (Nat → Int32) → Prop} (e : x = nI n) (h : n < N) (hN : N < 2 ^ 31) (hv : v = v') (p : P (upd a n v')) : vp_in x N ∧ ∀ y, y = upd a x.toNatClampNeg v → P y := by
  have ⟨h1, h2⟩ := zs_ix e h hN
  rw [h2, hv]; exact ⟨h1, nm_e p⟩
theorem zs_wL {a : Nat → Int64} {x : Int32} {v v' : Int64} {n N : Nat} {P : (Nat → Int64) → Prop} (e : x = nI n) (h : n < N) (hN : N < 2 ^ 31) (hv : v = v') (p : P (vp_updL a n v')) : vp_in x N ∧ ∀ y, y = vp_updL a x.toNatClampNeg v → P y := by
  have ⟨h1, h2⟩ := zs_ix e h hN
  rw [h2, hv]; exact ⟨h1, nm_e p⟩
/-- a store whose array is known under another name -/
theorem zs_w' {a b : Nat → Int32} {x v : Int32} {n N : Nat} {P : (Nat → Int32) → Prop} (e : x = nI n) (h : n < N) (hN : N < 2 ^ 31) (hb : upd a n v = b) (p : P b) : vp_in x N ∧ ∀ y, y = upd a x.toNatClampNeg v → P y := by
  have ⟨h1, h2⟩ := zs_ix e h hN
  rw [h2, hb]; exact ⟨h1, nm_e p⟩
theorem zs_wL' {a b : Nat → Int64} {x : Int32} {v : Int64} {n N : Nat} {P : (Nat → Int64) → Prop} (e : x = nI n) (h : n < N) (hN : N < 2 ^ 31) (hb : vp_updL a n v = b) (p : P b) : vp_in x N ∧ ∀ y, y = vp_updL a x.toNatClampNeg v → P y := by
  have ⟨h1, h2⟩ := zs_ix e h hN
  rw [h2, hb]; exact ⟨h1, nm_e p⟩
theorem zs_cl {α : Type} {a : Nat → α} {x : Int32} {n : Nat} (e : x = nI n) (h : n < 2 ^ 31) : a x.toNatClampNeg = a n := by rw [e, nI_clamp h]
theorem zs_cn {x : Int32} {n : Nat} (e : x = nI n) (h : n < 2 ^ 31) : x.toNatClampNeg = n := by rw [e, nI_clamp h]
end
section
/-! walks: a node taken, a place opened, splits, a new root, a child put in -/
section
variable {dp pl pa sk gv pr fb : Int32} {rt tk lf sz ky ch af wn ws bu : Nat → Int32} {vl : Nat → Int64}
theorem zw_take_l {post : Int32 → SX → Prop} {b : Int32} {n : Nat} (hn : n < 80) (h1 : ∀ j, j < n → tk j ≠ 0) (h0 : tk n = 0)
    (hp : post (nI n) (dp, pl, pa, sk, gv, pr, fb, rt, upd tk n 1, upd lf n (vp_nar .boolean b), upd sz n 0, ky, vl, ch, upd af n (-1), wn, ws, bu)) :
    ∀ d i m, i + d = n → d < m → wX_takeNode_2 post b dp pl pa sk gv pr fb rt tk lf sz ky vl ch af wn ws bu m (nI i) := by
  intro d
  induction d with
  | zero =>
    intro i m hi hm
    obtain ⟨m, rfl⟩ : ∃ k, m = k + 1 := ⟨m - 1, by omega⟩
    obtain rfl : i = n := by omega
    have c := nI_clamp (n := i) (by omega)
    have q := vp_in_nI hn (by decide)
    refine br_f (nI_ge (b := 80) hn (by decide)) ⟨q, ?_⟩
    rw [c]
    exact br_t h0 ⟨q, nm_e ⟨q, nm_e ⟨q, nm_e ⟨q, nm_e hp⟩⟩⟩⟩
  | succ d ih =>
    intro i m hi hm
    obtain ⟨m, rfl⟩ : ∃ k, m = k + 1 := ⟨m - 1, by omega⟩
    have c := nI_clamp (n := i) (by omega)
    refine br_f (nI_ge (b := 80) (by omega) (by decide)) ⟨vp_in_nI (by omega) (by decide), ?_⟩
    rw [c]
    exact br_f (h1 i (by omega)) (nm_r (nI_1 i) (ih (i + 1) m (by omega) (by omega)))
theorem zw_take {post : Int32 → SX → Prop} {b : Int32} {n : Nat} (hn : n < 80) (h1 : ∀ j, j < n → tk j ≠ 0) (h0 : tk n = 0)
    (hp : post (nI n) (dp, pl, pa, sk, gv, pr, fb, rt, upd tk n 1, upd lf n (vp_nar .boolean b), upd sz n 0, ky, vl, ch, upd af n (-1), wn, ws, bu)) :
    wpX_takeNode post (dp, pl, pa, sk, gv, pr, fb, rt, tk, lf, sz, ky, vl, ch, af, wn, ws, bu) b :=
  Exists.intro (n + 1) (zw_take_l hn h1 h0 hp n 0 (n + 1) (by omega) (by omega))
theorem zw_open_l {post : SX → Prop} {x a s : Nat} (hx : x < 80) (hs : s ≤ 4) (hz : sz x = nI s)
    (hp : post (dp, pl, pa, sk, gv, pr, fb, rt, tk, lf, upd sz x (nI (s + 1)), zt_sh ky (5 * x + a) (5 * x + s), zt_sh vl (5 * x + a) (5 * x + s), ch, af, wn, ws, bu)) :
    ∀ d i m, i = a + d → i ≤ s → d < m → wX_openSlot_7 post (nI x) (nI a) dp pl pa sk gv pr fb m (nI i) rt tk lf sz (zt_sh ky (5 * x + i) (5 * x + s)) (zt_sh vl (5 * x + i) (5 * x + s)) ch af wn ws bu := by
  have c := nI_clamp (n := x) (by omega)
  intro d
  induction d with
  | zero =>
    intro i m hi hi2 hm
    obtain ⟨m, rfl⟩ : ∃ k, m = k + 1 := ⟨m - 1, by omega⟩
    obtain rfl : i = a := by omega
    exact br_t (nI_le (by omega) (by omega)) (zs_i rfl hx (by decide) (zs_w rfl hx (by decide) (by rw [c, hz, nI_1]) hp))
  | succ d ih =>
    intro i m hi hi2 hm
    obtain ⟨m, rfl⟩ : ∃ k, m = k + 1 := ⟨m - 1, by omega⟩
    obtain ⟨i, rfl⟩ : ∃ k, i = k + 1 := ⟨i - 1, by omega⟩
    have e1 : (5 : Int32) * nI x + nI (i + 1) = nI (5 * x + i + 1) := zs_5a x (i + 1)
    have e2 : (5 : Int32) * nI x + nI (i + 1) - 1 = nI (5 * x + i) := by rw [e1, zs_s1 (by omega)]; rfl
    refine br_f (nI_ge (by omega) (by omega)) (zs_i e2 (by omega) (by decide) (zs_w' e1 (by omega) (by decide) ?_ (zs_i e2 (by omega) (by decide) (zs_wL' e1 (by omega) (by decide) ?_ (nm_r ?_ (ih i m (by omega) (by omega) (by omega)))))))
    · rw [zs_cn e2 (by omega)]; exact zt_shs (f := ky) (a := 5 * x + i) (b := 5 * x + s) (by omega)
    · rw [zs_cn e2 (by omega)]; exact zt_shs (f := vl) (a := 5 * x + i) (b := 5 * x + s) (by omega)
    · exact pk_m1 i
theorem zw_open {post : SX → Prop} {x a s : Nat} (hx : x < 80) (hs : s ≤ 4) (ha : a ≤ s) (hz : sz x = nI s)
    (hp : post (dp, pl, pa, sk, gv, pr, fb, rt, tk, lf, upd sz x (nI (s + 1)), zt_sh ky (5 * x + a) (5 * x + s), zt_sh vl (5 * x + a) (5 * x + s), ch, af, wn, ws, bu)) :
    wpX_openSlot post (dp, pl, pa, sk, gv, pr, fb, rt, tk, lf, sz, ky, vl, ch, af, wn, ws, bu) (nI x) (nI a) := by
  have h := zw_open_l hx hs hz hp (s - a) s (s - a + 1) (by omega) (by omega) (by omega)
  rw [zt_sh0, zt_sh0] at h
  exact zs_r rfl hx (by decide) hz (Exists.intro (s - a + 1) h)
theorem zw_spl_l {post : Int32 → SX → Prop} {x r : Nat} (hx : x < 80) (hr : r < 80) (hxr : x ≠ r)
    (hp : post (nI r) (dp, pl, pa, ky (5 * x + 2), gv, pr, fb, rt, tk, lf, upd (upd sz r 3) x 2, zt_cp ky (5 * r) (5 * x + 2) 3, zt_cp vl (5 * r) (5 * x + 2) 3, ch, upd (upd af r (af x)) x (nI r), wn, ws, bu)) :
    ∀ d i m, i + d = 3 → d < m → wX_splitLeaf_8 post (nI x) (nI r) dp pl pa sk gv pr fb m (nI (i + 2)) rt tk lf sz (zt_cp ky (5 * r) (5 * x + 2) i) (zt_cp vl (5 * r) (5 * x + 2) i) ch af wn ws bu := by
  have cx := nI_clamp (n := x) (by omega)
  intro d
  induction d with
  | zero =>
    intro i m hi hm
    obtain ⟨m, rfl⟩ : ∃ k, m = k + 1 := ⟨m - 1, by omega⟩
    obtain rfl : i = 3 := by omega
    refine br_t (nI_le (a := 5) (by omega) (by omega)) (zs_w rfl hr (by decide) rfl (zs_w rfl hx (by decide) rfl (zs_i rfl hx (by decide) (zs_w rfl hr (by decide) (by rw [cx]) (zs_w rfl hx (by decide) rfl (zs_r (n := 5 * r) (zs_5 r) (by omega) (by decide) ?_ hp))))))
    rw [zt_cpi (by omega)]
    exact congrArg ky (by omega)
  | succ d ih =>
    intro i m hi hm
    obtain ⟨m, rfl⟩ : ∃ k, m = k + 1 := ⟨m - 1, by omega⟩
    have e1 : (5 : Int32) * nI x + nI (i + 2) = nI (5 * x + 2 + i) := by rw [zs_5a, show 5 * x + (i + 2) = 5 * x + 2 + i from by omega]
    have e2 : (5 : Int32) * nI r + nI (i + 2) - 2 = nI (5 * r + i) := by rw [zs_5a, zs_s2 (by omega), show 5 * r + (i + 2) - 2 = 5 * r + i from by omega]
    refine br_f (nI_ge (b := 5) (by omega) (by omega)) (zs_i e1 (by omega) (by decide) (zs_w' e2 (by omega) (by decide) ?_ (zs_i e1 (by omega) (by decide) (zs_wL' e2 (by omega) (by decide) ?_ (nm_r ?_ (ih (i + 1) m (by omega) (by omega)))))))
    · rw [zs_cn e1 (by omega)]; exact zt_cps (f := ky) (by omega)
    · rw [zs_cn e1 (by omega)]; exact zt_cps (f := vl) (by omega)
    · rw [nI_1, show i + 2 + 1 = i + 1 + 2 from by omega]
theorem zw_spl {post : Int32 → SX → Prop} {x r : Nat} (hx : x < 80) (hr : r < 80) (hxr : x ≠ r) (h1 : ∀ j, j < r → tk j ≠ 0) (h0 : tk r = 0)
    (hp : post (nI r) (dp, pl, pa, ky (5 * x + 2), gv, pr, fb, rt, upd tk r 1, upd lf r 1, upd (upd (upd sz r 0) r 3) x 2, zt_cp ky (5 * r) (5 * x + 2) 3, zt_cp vl (5 * r) (5 * x + 2) 3, ch, upd (upd (upd af r (-1)) r (af x)) x (nI r), wn, ws, bu)) :
    wpX_splitLeaf post (dp, pl, pa, sk, gv, pr, fb, rt, tk, lf, sz, ky, vl, ch, af, wn, ws, bu) (nI x) := by
  refine zw_take (post := _) hr h1 h0 (Exists.intro 4 ?_)
  have e : upd af r (-1) x = af x := pk_un hxr
  rw [← e] at hp
  have h := zw_spl_l (sk := sk) (tk := upd tk r 1) (lf := upd lf r 1) (sz := upd sz r 0) (af := upd af r (-1)) hx hr hxr hp 3 0 4 (by omega) (by omega)
  rw [zt_cp0, zt_cp0] at h
  exact h
theorem zw_spi_l {post : Int32 → SX → Prop} {x r : Nat} (hx : x < 80) (hr : r < 80) (hxr : x ≠ r)
    (hp : post (nI r) (dp, pl, pa, sk, gv, pr, fb, rt, tk, lf, upd (upd sz r 2) x 2, ky, vl, zt_cp ch (6 * r) (6 * x + 3) 3, af, wn, ws, bu)) :
    ∀ d i m, i + d = 3 → d < m → wX_splitInner_60 post (nI x) (nI r) dp pl pa sk gv pr fb m (nI (i + 3)) rt tk lf sz ky vl (zt_cp ch (6 * r) (6 * x + 3) i) af wn ws bu := by
  intro d
  induction d with
  | zero =>
    intro i m hi hm
    obtain ⟨m, rfl⟩ : ∃ k, m = k + 1 := ⟨m - 1, by omega⟩
    obtain rfl : i = 3 := by omega
    exact br_t (nI_le (a := 6) (by omega) (by omega)) (zs_w rfl hr (by decide) rfl (zs_w rfl hx (by decide) rfl hp))
  | succ d ih =>
    intro i m hi hm
    obtain ⟨m, rfl⟩ : ∃ k, m = k + 1 := ⟨m - 1, by omega⟩
    have e1 : (6 : Int32) * nI x + nI (i + 3) = nI (6 * x + 3 + i) := by rw [zs_6a, show 6 * x + (i + 3) = 6 * x + 3 + i from by omega]
    have e2 : (6 : Int32) * nI r + nI (i + 3) - 3 = nI (6 * r + i) := by rw [zs_6a, zs_s3 (by omega), show 6 * r + (i + 3) - 3 = 6 * r + i from by omega]
    refine br_f (nI_ge (b := 6) (by omega) (by omega)) (zs_i e1 (by omega) (by decide) (zs_w' e2 (by omega) (by decide) ?_ (nm_r ?_ (ih (i + 1) m (by omega) (by omega)))))
    · rw [zs_cn e1 (by omega)]; exact zt_cps (f := ch) (by omega)
    · rw [nI_1, show i + 3 + 1 = i + 1 + 3 from by omega]
theorem zw_spi {post : Int32 → SX → Prop} {x r : Nat} (hx : x < 80) (hr : r < 80) (hxr : x ≠ r) (h1 : ∀ j, j < r → tk j ≠ 0) (h0 : tk r = 0)
    (hp : post (nI r) (dp, pl, pa, ky (5 * x + 2), gv, pr, fb, rt, upd tk r 1, upd lf r 0, upd (upd (upd sz r 0) r 2) x 2, upd (upd ky (5 * r) (ky (5 * x + 3))) (5 * r + 1) (ky (5 * x + 4)), vl, zt_cp ch (6 * r) (6 * x + 3) 3, upd af r (-1), wn, ws, bu)) :
    wpX_splitInner post (dp, pl, pa, sk, gv, pr, fb, rt, tk, lf, sz, ky, vl, ch, af, wn, ws, bu) (nI x) := by
  refine zw_take (post := _) hr h1 h0 ?_
  have a2 : (5 : Int32) * nI x + 2 = nI (5 * x + 2) := zs_5a x 2
  have a3 : (5 : Int32) * nI x + 3 = nI (5 * x + 3) := zs_5a x 3
  have a4 : (5 : Int32) * nI x + 4 = nI (5 * x + 4) := zs_5a x 4
  have b1 : (5 : Int32) * nI r + 1 = nI (5 * r + 1) := zs_5a r 1
  refine zs_r a2 (by omega) (by decide) rfl (zs_i a3 (by omega) (by decide) (zs_w (v' := ky (5 * x + 3)) (zs_5 r) (by omega) (by decide) (zs_cl a3 (by omega)) (zs_i a4 (by omega) (by decide) (zs_w (v' := ky (5 * x + 4)) b1 (by omega) (by decide) ?_ (Exists.intro 4 ?_)))))
  · rw [zs_cn a4 (by omega)]; exact pk_un (by omega)
  · have h := zw_spi_l (sk := ky (5 * x + 2)) (tk := upd tk r 1) (lf := upd lf r 0) (sz := upd sz r 0) (ky := upd (upd ky (5 * r) (ky (5 * x + 3))) (5 * r + 1) (ky (5 * x + 4))) (af := upd af r (-1)) hx hr hxr hp 3 0 4 (by omega) (by omega)
    rw [zt_cp0] at h
    exact h
theorem zw_grow {post : SX → Prop} {t q : Nat} {rr : Int32} (ht : t < 2) (hq : q < 80) (h1 : ∀ j, j < q → tk j ≠ 0) (h0 : tk q = 0)
    (hp : post (dp, pl, pa, sk, gv, pr, fb, upd rt t (nI q), upd tk q 1, upd lf q 0, upd (upd sz q 0) q 1, upd ky (5 * q) sk, vl, upd (upd ch (6 * q) (rt t)) (6 * q + 1) rr, upd af q (-1), wn, ws, bu)) :
    wpX_growRoot post (dp, pl, pa, sk, gv, pr, fb, rt, tk, lf, sz, ky, vl, ch, af, wn, ws, bu) (nI t) rr := by
  refine zw_take (post := _) hq h1 h0 ?_
  have b1 : (6 : Int32) * nI q + 1 = nI (6 * q + 1) := zs_6a q 1
  exact zs_w (zs_5 q) (by omega) (by decide) rfl (zs_i rfl ht (by decide) (zs_w (v' := rt t) (zs_6 q) (by omega) (by decide) (zs_cl rfl (by omega)) (zs_w b1 (by omega) (by decide) rfl (zs_w rfl hq (by decide) rfl (zs_w rfl ht (by decide) rfl hp)))))
theorem zw_ins_l {post : SX → Prop} {x a s : Nat} {rr : Int32} (hx : x < 80) (hs : s ≤ 4) (ha : a ≤ s) (hz : sz x = nI s)
    (hp : post (dp, pl, pa, sk, gv, pr, fb, rt, tk, lf, upd sz x (nI (s + 1)), upd (zt_sh ky (5 * x + a) (5 * x + s)) (5 * x + a) sk, vl, upd (zt_sh ch (6 * x + a + 1) (6 * x + s + 1)) (6 * x + a + 1) rr, af, wn, ws, bu)) :
    ∀ d i m, i = a + d → i ≤ s → d < m → wX_insertChild_8 post (nI x) (nI a) rr dp pl pa sk gv pr fb m (nI i) rt tk lf sz (zt_sh ky (5 * x + i) (5 * x + s)) vl (zt_sh ch (6 * x + i + 1) (6 * x + s + 1)) af wn ws bu := by
  have c := nI_clamp (n := x) (by omega)
  intro d
  induction d with
  | zero =>
    intro i m hi hi2 hm
    obtain ⟨m, rfl⟩ : ∃ k, m = k + 1 := ⟨m - 1, by omega⟩
    obtain rfl : i = a := by omega
    have e2 : (6 : Int32) * nI x + nI i + 1 = nI (6 * x + i + 1) := by rw [zs_6a, nI_1]
    exact br_t (nI_le (by omega) (by omega)) (zs_w (zs_5a x i) (by omega) (by decide) rfl (zs_w e2 (by omega) (by decide) rfl (zs_i rfl hx (by decide) (zs_w rfl hx (by decide) (by rw [c, hz, nI_1]) hp))))
  | succ d ih =>
    intro i m hi hi2 hm
    obtain ⟨m, rfl⟩ : ∃ k, m = k + 1 := ⟨m - 1, by omega⟩
    obtain ⟨i, rfl⟩ : ∃ k, i = k + 1 := ⟨i - 1, by omega⟩
    have e1 : (5 : Int32) * nI x + nI (i + 1) = nI (5 * x + i + 1) := zs_5a x (i + 1)
    have e2 : (5 : Int32) * nI x + nI (i + 1) - 1 = nI (5 * x + i) := by rw [e1, zs_s1 (by omega)]; rfl
    have e3 : (6 : Int32) * nI x + nI (i + 1) = nI (6 * x + i + 1) := zs_6a x (i + 1)
    have e4 : (6 : Int32) * nI x + nI (i + 1) + 1 = nI (6 * x + i + 1 + 1) := by rw [e3, nI_1]
    refine br_f (nI_ge (by omega) (by omega)) (zs_i e2 (by omega) (by decide) (zs_w' e1 (by omega) (by decide) ?_ (zs_i e3 (by omega) (by decide) (zs_w' e4 (by omega) (by decide) ?_ (nm_r ?_ (ih i m (by omega) (by omega) (by omega)))))))
    · rw [zs_cn e2 (by omega)]; exact zt_shs (f := ky) (a := 5 * x + i) (b := 5 * x + s) (by omega)
    · rw [zs_cn e3 (by omega)]; exact zt_shs (f := ch) (a := 6 * x + i + 1) (b := 6 * x + s + 1) (by omega)
    · exact pk_m1 i
theorem zw_ins {post : SX → Prop} {x a s : Nat} {rr : Int32} (hx : x < 80) (hs : s ≤ 4) (ha : a ≤ s) (hz : sz x = nI s)
    (hp : post (dp, pl, pa, sk, gv, pr, fb, rt, tk, lf, upd sz x (nI (s + 1)), upd (zt_sh ky (5 * x + a) (5 * x + s)) (5 * x + a) sk, vl, upd (zt_sh ch (6 * x + a + 1) (6 * x + s + 1)) (6 * x + a + 1) rr, af, wn, ws, bu)) :
    wpX_insertChild post (dp, pl, pa, sk, gv, pr, fb, rt, tk, lf, sz, ky, vl, ch, af, wn, ws, bu) (nI x) (nI a) rr := by
  have h := zw_ins_l hx hs ha hz hp (s - a) s (s - a + 1) (by omega) (by omega) (by omega)
  rw [zt_sh0, zt_sh0] at h
  exact zs_r rfl hx (by decide) hz (Exists.intro (s - a + 1) h)
end
end
section
/-! walks: borrowing and merging -/
section
variable {dp pl pa sk gv pr fb : Int32} {rt tk lf sz ky ch af wn ws bu : Nat → Int32} {vl : Nat → Int64}
theorem zw_brr_l {post : SX → Prop} {y s : Nat} (hy : y < 80) (hs : s ≤ 5) (h0 : 0 < s) (hz : sz y = nI s)
    (hp : post (dp, pl, pa, sk, gv, pr, fb, rt, tk, lf, upd sz y (nI (s - 1)), zt_sl ky (5 * y) (5 * y + (s - 1)), zt_sl vl (5 * y) (5 * y + (s - 1)), ch, af, wn, ws, bu)) :
    ∀ d i m, i + d + 1 = s → d < m → wX_borrowFromRight_234 post (nI y) dp pl pa sk gv pr fb m (nI i) rt tk lf sz (zt_sl ky (5 * y) (5 * y + i)) (zt_sl vl (5 * y) (5 * y + i)) ch af wn ws bu := by
  have c := nI_clamp (n := y) (by omega)
  intro d
  induction d with
  | zero =>
    intro i m hi hm
    obtain ⟨m, rfl⟩ : ∃ k, m = k + 1 := ⟨m - 1, by omega⟩
    obtain rfl : i = s - 1 := by omega
    exact zs_i rfl hy (by decide) (br_t (by rw [c, hz, nI_1]; exact nI_le (by omega) (by omega)) (zs_i rfl hy (by decide) (zs_w rfl hy (by decide) (by rw [c, hz, zs_s1 (by omega)]) hp)))
  | succ d ih =>
    intro i m hi hm
    obtain ⟨m, rfl⟩ : ∃ k, m = k + 1 := ⟨m - 1, by omega⟩
    have e1 : (5 : Int32) * nI y + nI i = nI (5 * y + i) := zs_5a y i
    have e2 : (5 : Int32) * nI y + nI i + 1 = nI (5 * y + i + 1) := by rw [e1, nI_1]
    refine zs_i rfl hy (by decide) ?_
    rw [c, hz]
    refine br_f (by rw [nI_1]; exact nI_ge (by omega) (by omega)) (zs_i e2 (by omega) (by decide) (zs_w' e1 (by omega) (by decide) ?_ (zs_i e2 (by omega) (by decide) (zs_wL' e1 (by omega) (by decide) ?_ (nm_r (nI_1 i) (ih (i + 1) m (by omega) (by omega)))))))
    · rw [zs_cn e2 (by omega)]; exact zt_sls (f := ky) (by omega)
    · rw [zs_cn e2 (by omega)]; exact zt_sls (f := vl) (by omega)
/-- the tail of borrowing from the right: sizes, and the right node closes up -/
theorem zw_brr_t {post : SX → Prop} {x y n s : Nat} (hx : x < 80) (hy : y < 80) (hxy : x ≠ y) (hs : s ≤ 5) (h0 : 0 < s) (hz : sz y = nI s)
    (hp : post (dp, pl, pa, sk, gv, pr, fb, rt, tk, lf, upd (upd sz x (nI (n + 1))) y (nI (s - 1)), zt_sl ky (5 * y) (5 * y + (s - 1)), zt_sl vl (5 * y) (5 * y + (s - 1)), ch, af, wn, ws, bu)) :
    wX_borrowFromRight_221 post (nI x) (nI y) (nI n) dp pl pa sk gv pr fb rt tk lf sz ky vl ch af wn ws bu := by
  have h := zw_brr_l (sz := upd sz x (nI (n + 1))) hy hs h0 (by rw [pk_un (Ne.symm hxy)]; exact hz) hp (s - 1) 0 s (by omega) (by omega)
  rw [show 5 * y + 0 = 5 * y from rfl, zt_sl0, zt_sl0] at h
  exact zs_w rfl hx (by decide) (nI_1 n) (Exists.intro s h)
theorem zw_brr_c {post : SX → Prop} {x y n s : Nat} (hx : x < 80) (hy : y < 80) (hxy : x ≠ y) (hs : s ≤ 5) (h0 : 0 < s) (hz : sz y = nI s)
    (hp : post (dp, pl, pa, sk, gv, pr, fb, rt, tk, lf, upd (upd sz x (nI (n + 1))) y (nI (s - 1)), zt_sl ky (5 * y) (5 * y + (s - 1)), zt_sl vl (5 * y) (5 * y + (s - 1)), zt_sl ch (6 * y) (6 * y + s), af, wn, ws, bu)) :
    ∀ d i m, i + d = s → d < m → wX_borrowFromRight_175 post (nI x) (nI y) (nI n) dp pl pa sk gv pr fb m (nI i) rt tk lf sz ky vl (zt_sl ch (6 * y) (6 * y + i)) af wn ws bu := by
  have c := nI_clamp (n := y) (by omega)
  intro d
  induction d with
  | zero =>
    intro i m hi hm
    obtain ⟨m, rfl⟩ : ∃ k, m = k + 1 := ⟨m - 1, by omega⟩
    obtain rfl : i = s := by omega
    refine zs_i rfl hy (by decide) ?_
    rw [c, hz]
    exact br_t (nI_le (by omega) (by omega)) (zw_brr_t hx hy hxy hs h0 hz hp)
  | succ d ih =>
    intro i m hi hm
    obtain ⟨m, rfl⟩ : ∃ k, m = k + 1 := ⟨m - 1, by omega⟩
    have e1 : (6 : Int32) * nI y + nI i = nI (6 * y + i) := zs_6a y i
    have e2 : (6 : Int32) * nI y + nI i + 1 = nI (6 * y + i + 1) := by rw [e1, nI_1]
    refine zs_i rfl hy (by decide) ?_
    rw [c, hz]
    refine br_f (nI_ge (by omega) (by omega)) (zs_i e2 (by omega) (by decide) (zs_w' e1 (by omega) (by decide) ?_ (nm_r (nI_1 i) (ih (i + 1) m (by omega) (by omega)))))
    rw [zs_cn e2 (by omega)]; exact zt_sls (f := ch) (by omega)
/-- borrowing from the right, leaves -/
theorem zw_brl {post : SX → Prop} {p i x y n s : Nat} (hp8 : p < 80) (hi : i ≤ 4) (hx : x < 80) (hy : y < 80) (hxy : x ≠ y) (hpy : p ≠ y) (hn : n ≤ 4) (hs : s ≤ 5) (h0 : 1 < s) (cx : ch (6 * p + i) = nI x) (cy : ch (6 * p + i + 1) = nI y) (zx : sz x = nI n) (zy : sz y = nI s) (hl : lf x ≠ 0)
    (hp : post (dp, pl, pa, sk, gv, pr, fb, rt, tk, lf, upd (upd sz x (nI (n + 1))) y (nI (s - 1)), zt_sl (upd (upd ky (5 * x + n) (ky (5 * y))) (5 * p + i) (ky (5 * y + 1))) (5 * y) (5 * y + (s - 1)), zt_sl (vp_updL vl (5 * x + n) (vl (5 * y))) (5 * y) (5 * y + (s - 1)), ch, af, wn, ws, bu)) :
    wpX_borrowFromRight post (dp, pl, pa, sk, gv, pr, fb, rt, tk, lf, sz, ky, vl, ch, af, wn, ws, bu) (nI p) (nI i) := by
  have a1 : (6 : Int32) * nI p + nI i + 1 = nI (6 * p + i + 1) := by rw [zs_6a, nI_1]
  have c := nI_clamp (n := x) (by omega)
  have b1 : (5 : Int32) * nI y + 1 = nI (5 * y + 1) := zs_5a y 1
  refine zs_r (zs_6a p i) (by omega) (by decide) cx (zs_r a1 (by omega) (by decide) cy (zs_r rfl hx (by decide) zx (zs_i rfl hx (by decide) (br_f (by rw [c]; exact hl) ?_))))
  refine zs_i (zs_5 y) (by omega) (by decide) (zs_w (v' := ky (5 * y)) (zs_5a x n) (by omega) (by decide) (zs_cl (zs_5 y) (by omega)) (zs_i (zs_5 y) (by omega) (by decide) (zs_wL (v' := vl (5 * y)) (zs_5a x n) (by omega) (by decide) (zs_cl (zs_5 y) (by omega)) (zs_i b1 (by omega) (by decide) (zs_w (v' := ky (5 * y + 1)) (zs_5a p i) (by omega) (by decide) ?_ ?_)))))
  · rw [zs_cn b1 (by omega)]; exact pk_un (by omega)
  · exact zw_brr_t hx hy hxy hs (by omega) zy hp
/-- borrowing from the right, inner nodes -/
theorem zw_bri {post : SX → Prop} {p i x y n s : Nat} (hp8 : p < 80) (hi : i ≤ 4) (hx : x < 80) (hy : y < 80) (hxy : x ≠ y) (hpy : p ≠ y) (hn : n ≤ 4) (hs : s ≤ 5) (h0 : 1 < s) (cx : ch (6 * p + i) = nI x) (cy : ch (6 * p + i + 1) = nI y) (zx : sz x = nI n) (zy : sz y = nI s) (hl : lf x = 0)
    (hp : post (dp, pl, pa, sk, gv, pr, fb, rt, tk, lf, upd (upd sz x (nI (n + 1))) y (nI (s - 1)), zt_sl (upd (upd ky (5 * x + n) (ky (5 * p + i))) (5 * p + i) (ky (5 * y))) (5 * y) (5 * y + (s - 1)), zt_sl vl (5 * y) (5 * y + (s - 1)), zt_sl (upd ch (6 * x + n + 1) (ch (6 * y))) (6 * y) (6 * y + s), af, wn, ws, bu)) :
    wpX_borrowFromRight post (dp, pl, pa, sk, gv, pr, fb, rt, tk, lf, sz, ky, vl, ch, af, wn, ws, bu) (nI p) (nI i) := by
  have a1 : (6 : Int32) * nI p + nI i + 1 = nI (6 * p + i + 1) := by rw [zs_6a, nI_1]
  have a2 : (6 : Int32) * nI x + nI n + 1 = nI (6 * x + n + 1) := by rw [zs_6a, nI_1]
  have c := nI_clamp (n := x) (by omega)
  refine zs_r (zs_6a p i) (by omega) (by decide) cx (zs_r a1 (by omega) (by decide) cy (zs_r rfl hx (by decide) zx (zs_i rfl hx (by decide) (br_t (by rw [c]; exact hl) ?_))))
  refine zs_i (zs_5a p i) (by omega) (by decide) (zs_w (v' := ky (5 * p + i)) (zs_5a x n) (by omega) (by decide) (zs_cl (zs_5a p i) (by omega)) (zs_i (zs_6 y) (by omega) (by decide) (zs_w (v' := ch (6 * y)) a2 (by omega) (by decide) (zs_cl (zs_6 y) (by omega)) (zs_i (zs_5 y) (by omega) (by decide) (zs_w (v' := ky (5 * y)) (zs_5a p i) (by omega) (by decide) ?_ (Exists.intro (s + 1) ?_))))))
  · rw [zs_cn (zs_5 y) (by omega)]; exact pk_un (by omega)
  · have h := zw_brr_c (ky := upd (upd ky (5 * x + n) (ky (5 * p + i))) (5 * p + i) (ky (5 * y))) (ch := upd ch (6 * x + n + 1) (ch (6 * y))) hx hy hxy hs (by omega) zy hp s 0 (s + 1) (by omega) (by omega)
    rw [show 6 * y + 0 = 6 * y from rfl, zt_sl0] at h
    exact h
/-- borrowing from the left, leaves: x the left one, y the node -/
theorem zw_bll {post : SX → Prop} {p i x y n s : Nat} (hp8 : p < 80) (hi : i ≤ 3) (hx : x < 80) (hy : y < 80) (hxy : x ≠ y) (hpy : p ≠ y) (hpx : p ≠ x) (hn : n ≤ 4) (hs : s ≤ 4) (h0 : 1 < n) (cx : ch (6 * p + i) = nI x) (cy : ch (6 * p + i + 1) = nI y) (zx : sz x = nI n) (zy : sz y = nI s) (hl : lf y ≠ 0)
    (hp : post (dp, pl, pa, sk, gv, pr, fb, rt, tk, lf, upd (upd sz y (nI (s + 1))) x (nI (n - 1)), upd (upd (zt_sh ky (5 * y) (5 * y + s)) (5 * y) (ky (5 * x + (n - 1)))) (5 * p + i) (ky (5 * x + (n - 1))), vp_updL (zt_sh vl (5 * y) (5 * y + s)) (5 * y) (vl (5 * x + (n - 1))), ch, af, wn, ws, bu)) :
    wpX_borrowFromLeft post (dp, pl, pa, sk, gv, pr, fb, rt, tk, lf, sz, ky, vl, ch, af, wn, ws, bu) (nI p) (nI (i + 1)) := by
  have a0 : (6 : Int32) * nI p + nI (i + 1) = nI (6 * p + i + 1) := zs_6a p (i + 1)
  have a1 : (6 : Int32) * nI p + nI (i + 1) - 1 = nI (6 * p + i) := by rw [a0, zs_s1 (by omega)]; rfl
  have a2 : (5 : Int32) * nI p + nI (i + 1) - 1 = nI (5 * p + i) := by rw [zs_5a, zs_s1 (by omega)]; rfl
  have c := nI_clamp (n := y) (by omega)
  have cx2 := nI_clamp (n := x) (by omega)
  have a3 := zs_5a x (n - 1)
  refine zs_r a0 (by omega) (by decide) cy (zs_r a1 (by omega) (by decide) cx (zs_i rfl hx (by decide) (nm_r (e' := nI (n - 1)) (by rw [cx2, zx, zs_s1 (by omega)]) ?_)))
  refine zw_open (a := 0) hy hs (by omega) zy (zs_i rfl hy (by decide) (br_f (by rw [c]; exact hl) ?_))
  refine zs_i a3 (by omega) (by decide) (zs_w (v' := ky (5 * x + (n - 1))) (zs_5 y) (by omega) (by decide) ?_ (zs_i a3 (by omega) (by decide) (zs_wL (v' := vl (5 * x + (n - 1))) (zs_5 y) (by omega) (by decide) ?_ (zs_i (zs_5 y) (by omega) (by decide) (zs_w (v' := ky (5 * x + (n - 1))) a2 (by omega) (by decide) ?_ (zs_w rfl hx (by decide) rfl hp))))))
  · rw [zs_cn a3 (by omega)]; exact zt_sho (by omega)
  · rw [zs_cn a3 (by omega)]; exact zt_sho (by omega)
  · rw [zs_cn (zs_5 y) (by omega)]; exact pk_us
theorem zw_bli_l {post : SX → Prop} {p i x y n s : Nat} (hp8 : p < 80) (hi : i ≤ 3) (hx : x < 80) (hy : y < 80) (hxy : x ≠ y) (hpy : p ≠ y) (hn : n ≤ 4) (hs : s ≤ 4) (h0 : 1 < n)
    (hp : post (dp, pl, pa, sk, gv, pr, fb, rt, tk, lf, upd sz x (nI (n - 1)), upd (upd ky (5 * y) (ky (5 * p + i))) (5 * p + i) (ky (5 * x + (n - 1))), vl, upd (zt_sh ch (6 * y) (6 * y + s + 1)) (6 * y) (ch (6 * x + n)), af, wn, ws, bu)) :
    ∀ i' m, i' ≤ s + 1 → i' < m → wX_borrowFromLeft_124 post (nI p) (nI (i + 1)) (nI y) (nI x) (nI (n - 1)) dp pl pa sk gv pr fb m (nI i') rt tk lf sz ky vl (zt_sh ch (6 * y + i') (6 * y + s + 1)) af wn ws bu := by
  intro d
  induction d with
  | zero =>
    intro m hi2 hm
    obtain ⟨m, rfl⟩ : ∃ k, m = k + 1 := ⟨m - 1, by omega⟩
    have a2 : (5 : Int32) * nI p + nI (i + 1) - 1 = nI (5 * p + i) := by rw [zs_5a, zs_s1 (by omega)]; rfl
    have a4 : (6 : Int32) * nI x + nI (n - 1) + 1 = nI (6 * x + n) := by rw [zs_6a, nI_1, show 6 * x + (n - 1) + 1 = 6 * x + n from by omega]
    have a3 := zs_5a x (n - 1)
    refine br_t (nI_le (b := 0) (by omega) (by omega)) (zs_i a4 (by omega) (by decide) (zs_w (v' := ch (6 * x + n)) (zs_6 y) (by omega) (by decide) ?_ (zs_i a2 (by omega) (by decide) (zs_w (v' := ky (5 * p + i)) (zs_5 y) (by omega) (by decide) (zs_cl a2 (by omega)) (zs_i a3 (by omega) (by decide) (zs_w (v' := ky (5 * x + (n - 1))) a2 (by omega) (by decide) ?_ (zs_w rfl hx (by decide) rfl hp)))))))
    · rw [zs_cn a4 (by omega)]; exact zt_sho (by omega)
    · rw [zs_cn a3 (by omega)]; exact pk_un (by omega)
  | succ i' ih =>
    intro m hi2 hm
    obtain ⟨m, rfl⟩ : ∃ k, m = k + 1 := ⟨m - 1, by omega⟩
    have e1 : (6 : Int32) * nI y + nI (i' + 1) = nI (6 * y + i' + 1) := zs_6a y (i' + 1)
    have e2 : (6 : Int32) * nI y + nI (i' + 1) - 1 = nI (6 * y + i') := by rw [e1, zs_s1 (by omega)]; rfl
    refine br_f (nI_ge (a := 0) (by omega) (by omega)) (zs_i e2 (by omega) (by decide) (zs_w' e1 (by omega) (by decide) ?_ (nm_r (pk_m1 i') (ih m (by omega) (by omega)))))
    rw [zs_cn e2 (by omega)]; exact zt_shs (f := ch) (a := 6 * y + i') (b := 6 * y + s + 1) (by omega)
/-- borrowing from the left, inner nodes -/
theorem zw_bli {post : SX → Prop} {p i x y n s : Nat} (hp8 : p < 80) (hi : i ≤ 3) (hx : x < 80) (hy : y < 80) (hxy : x ≠ y) (hpy : p ≠ y) (hpx : p ≠ x) (hn : n ≤ 4) (hs : s ≤ 4) (h0 : 1 < n) (cx : ch (6 * p + i) = nI x) (cy : ch (6 * p + i + 1) = nI y) (zx : sz x = nI n) (zy : sz y = nI s) (hl : lf y = 0)
    (hp : post (dp, pl, pa, sk, gv, pr, fb, rt, tk, lf, upd (upd sz y (nI (s + 1))) x (nI (n - 1)), upd (upd (zt_sh ky (5 * y) (5 * y + s)) (5 * y) (ky (5 * p + i))) (5 * p + i) (ky (5 * x + (n - 1))), zt_sh vl (5 * y) (5 * y + s), upd (zt_sh ch (6 * y) (6 * y + s + 1)) (6 * y) (ch (6 * x + n)), af, wn, ws, bu)) :
    wpX_borrowFromLeft post (dp, pl, pa, sk, gv, pr, fb, rt, tk, lf, sz, ky, vl, ch, af, wn, ws, bu) (nI p) (nI (i + 1)) := by
  have a0 : (6 : Int32) * nI p + nI (i + 1) = nI (6 * p + i + 1) := zs_6a p (i + 1)
  have a1 : (6 : Int32) * nI p + nI (i + 1) - 1 = nI (6 * p + i) := by rw [a0, zs_s1 (by omega)]; rfl
  have c := nI_clamp (n := y) (by omega)
  have cx2 := nI_clamp (n := x) (by omega)
  refine zs_r a0 (by omega) (by decide) cy (zs_r a1 (by omega) (by decide) cx (zs_i rfl hx (by decide) (nm_r (e' := nI (n - 1)) (by rw [cx2, zx, zs_s1 (by omega)]) ?_)))
  refine zw_open (a := 0) hy hs (by omega) zy (zs_i rfl hy (by decide) (br_t (by rw [c]; exact hl) (zs_r rfl hy (by decide) pk_us (Exists.intro (s + 2) ?_))))
  have e1 : zt_sh ky (5 * y) (5 * y + s) (5 * p + i) = ky (5 * p + i) := zt_sho (by omega)
  have e2 : zt_sh ky (5 * y) (5 * y + s) (5 * x + (n - 1)) = ky (5 * x + (n - 1)) := zt_sho (by omega)
  rw [← e1, ← e2] at hp
  have h := zw_bli_l (sz := upd sz y (nI (s + 1))) (ky := zt_sh ky (5 * y) (5 * y + s)) (vl := zt_sh vl (5 * y) (5 * y + s)) hp8 hi hx hy hxy hpy hn hs h0 hp (s + 1) (s + 2) (by omega) (by omega)
  rw [show 6 * y + (s + 1) = 6 * y + s + 1 from rfl, zt_sh0] at h
  exact h
theorem zw_mg_t {post : SX → Prop} {p a s : Nat} (hp8 : p < 80) (hs : s ≤ 5) (ha : a < s) (hz : sz p = nI s)
    (hp : post (dp, pl, pa, sk, gv, pr, fb, rt, tk, lf, upd sz p (nI (s - 1)), zt_sl ky (5 * p + a) (5 * p + (s - 1)), vl, zt_sl ch (6 * p + a + 1) (6 * p + s), af, wn, ws, bu)) :
    ∀ d i m, i + d + 1 = s → a ≤ i → d < m → wX_merge_232 post (nI p) dp pl pa sk gv pr fb m (nI i) rt tk lf sz (zt_sl ky (5 * p + a) (5 * p + i)) vl (zt_sl ch (6 * p + a + 1) (6 * p + i + 1)) af wn ws bu := by
  have c := nI_clamp (n := p) (by omega)
  intro d
  induction d with
  | zero =>
    intro i m hi hai hm
    obtain ⟨m, rfl⟩ : ∃ k, m = k + 1 := ⟨m - 1, by omega⟩
    obtain rfl : i = s - 1 := by omega
    rw [show 6 * p + (s - 1) + 1 = 6 * p + s from by omega]
    exact zs_i rfl hp8 (by decide) (br_t (by rw [c, hz, nI_1]; exact nI_le (by omega) (by omega)) (zs_i rfl hp8 (by decide) (zs_w rfl hp8 (by decide) (by rw [c, hz, zs_s1 (by omega)]) hp)))
  | succ d ih =>
    intro i m hi hai hm
    obtain ⟨m, rfl⟩ : ∃ k, m = k + 1 := ⟨m - 1, by omega⟩
    have e1 : (5 : Int32) * nI p + nI i = nI (5 * p + i) := zs_5a p i
    have e2 : (5 : Int32) * nI p + nI i + 1 = nI (5 * p + i + 1) := by rw [e1, nI_1]
    have e3 : (6 : Int32) * nI p + nI i + 1 = nI (6 * p + i + 1) := by rw [zs_6a, nI_1]
    have e4 : (6 : Int32) * nI p + nI i + 2 = nI (6 * p + i + 1 + 1) := by rw [zs_6a]; exact nI_add _ 2
    refine zs_i rfl hp8 (by decide) ?_
    rw [c, hz]
    refine br_f (by rw [nI_1]; exact nI_ge (by omega) (by omega)) (zs_i e2 (by omega) (by decide) (zs_w' e1 (by omega) (by decide) ?_ (zs_i e4 (by omega) (by decide) (zs_w' e3 (by omega) (by decide) ?_ (nm_r (nI_1 i) (ih (i + 1) m (by omega) (by omega) (by omega)))))))
    · rw [zs_cn e2 (by omega)]; exact zt_sls (f := ky) (by omega)
    · rw [zs_cn e4 (by omega)]; exact zt_sls (f := ch) (by omega)
/-- merging: the copying loop, leaves -/
theorem zw_mg_l {post : SX → Prop} {p a s x y n q : Nat} (hp8 : p < 80) (hs : s ≤ 5) (ha : a < s) (hx : x < 80) (hy : y < 80) (hxy : x ≠ y) (hpx : p ≠ x) (hnq : n + q ≤ 5) (hz : sz p = nI s) (zy : sz y = nI q) (hl : lf x ≠ 0)
    (hp : post (dp, pl, pa, sk, gv, pr, fb, rt, upd tk y 0, lf, upd (upd sz x (nI (n + q))) p (nI (s - 1)), zt_sl (zt_cp ky (5 * x + n) (5 * y) q) (5 * p + a) (5 * p + (s - 1)), zt_cp vl (5 * x + n) (5 * y) q, zt_sl ch (6 * p + a + 1) (6 * p + s), upd af x (af y), wn, ws, bu)) :
    ∀ d i m, i + d = q → d < m → wX_merge_95 post (nI p) (nI a) (nI x) (nI y) dp pl pa sk gv pr fb m (nI (n + i)) (nI i) rt tk lf sz (zt_cp ky (5 * x + n) (5 * y) i) (zt_cp vl (5 * x + n) (5 * y) i) ch af wn ws bu := by
  have c := nI_clamp (n := y) (by omega)
  have cx := nI_clamp (n := x) (by omega)
  intro d
  induction d with
  | zero =>
    intro i m hi hm
    obtain ⟨m, rfl⟩ : ∃ k, m = k + 1 := ⟨m - 1, by omega⟩
    obtain rfl : i = q := by omega
    have h := zw_mg_t (tk := upd tk y 0) (sz := upd sz x (nI (n + i))) (ky := zt_cp ky (5 * x + n) (5 * y) i) (vl := zt_cp vl (5 * x + n) (5 * y) i) (af := upd af x (af y)) hp8 hs ha (by rw [pk_un hpx]; exact hz) hp (s - 1 - a) a (s - a) (by omega) (by omega) (by omega)
    rw [zt_sl0, zt_sl0] at h
    exact zs_i rfl hy (by decide) (br_t (by rw [c, zy]; exact nI_le (by omega) (by omega)) (zs_w rfl hx (by decide) rfl (zs_i rfl hy (by decide) (zs_w (v' := af y) rfl hx (by decide) (by rw [c]) (zs_w (v' := 0) rfl hy (by decide) rfl (Exists.intro (s - a) h))))))
  | succ d ih =>
    intro i m hi hm
    obtain ⟨m, rfl⟩ : ∃ k, m = k + 1 := ⟨m - 1, by omega⟩
    have e1 : (5 : Int32) * nI x + nI (n + i) = nI (5 * x + n + i) := by rw [zs_5a, Nat.add_assoc]
    have e2 : (5 : Int32) * nI y + nI i = nI (5 * y + i) := zs_5a y i
    refine zs_i rfl hy (by decide) ?_
    rw [c, zy]
    refine br_f (nI_ge (by omega) (by omega)) (zs_i e2 (by omega) (by decide) (zs_w' e1 (by omega) (by decide) ?_ (zs_i e2 (by omega) (by decide) (zs_wL' e1 (by omega) (by decide) ?_ (zs_i rfl hx (by decide) (br_f (by rw [cx]; exact hl) (nm_r (nI_1 (n + i)) (nm_r (nI_1 i) (ih (i + 1) m (by omega) (by omega))))))))))
    · rw [zs_cn e2 (by omega)]; exact zt_cps (f := ky) (by omega)
    · rw [zs_cn e2 (by omega)]; exact zt_cps (f := vl) (by omega)
theorem zw_mgl {post : SX → Prop} {p a s x y n q : Nat} (hp8 : p < 80) (hs : s ≤ 5) (ha : a < s) (hx : x < 80) (hy : y < 80) (hxy : x ≠ y) (hpx : p ≠ x) (hnq : n + q ≤ 5) (cx : ch (6 * p + a) = nI x) (cy : ch (6 * p + a + 1) = nI y) (hz : sz p = nI s) (zx : sz x = nI n) (zy : sz y = nI q) (hl : lf x ≠ 0)
    (hp : post (dp, pl, pa, sk, gv, pr, fb, rt, upd tk y 0, lf, upd (upd sz x (nI (n + q))) p (nI (s - 1)), zt_sl (zt_cp ky (5 * x + n) (5 * y) q) (5 * p + a) (5 * p + (s - 1)), zt_cp vl (5 * x + n) (5 * y) q, zt_sl ch (6 * p + a + 1) (6 * p + s), upd af x (af y), wn, ws, bu)) :
    wpX_merge post (dp, pl, pa, sk, gv, pr, fb, rt, tk, lf, sz, ky, vl, ch, af, wn, ws, bu) (nI p) (nI a) := by
  have a1 : (6 : Int32) * nI p + nI a + 1 = nI (6 * p + a + 1) := by rw [zs_6a, nI_1]
  have c := nI_clamp (n := x) (by omega)
  have h := zw_mg_l hp8 hs ha hx hy hxy hpx hnq hz zy hl hp q 0 (q + 1) (by omega) (by omega)
  rw [zt_cp0, zt_cp0, Nat.add_zero] at h
  exact zs_r (zs_6a p a) (by omega) (by decide) cx (zs_r a1 (by omega) (by decide) cy (zs_r rfl hx (by decide) zx (zs_i rfl hx (by decide) (br_f (by rw [c]; exact hl) (Exists.intro (q + 1) h)))))
/-- merging: the copying loop, inner nodes (n: the next place) -/
theorem zw_mg_i {post : SX → Prop} {p a s x y n q : Nat} (hp8 : p < 80) (hs : s ≤ 5) (ha : a < s) (hx : x < 80) (hy : y < 80) (hxy : x ≠ y) (hpx : p ≠ x) (hnq : n + q ≤ 5) (hz : sz p = nI s) (zy : sz y = nI q) (hl : lf x = 0)
    (hp : post (dp, pl, pa, sk, gv, pr, fb, rt, upd tk y 0, lf, upd (upd sz x (nI (n + q))) p (nI (s - 1)), zt_sl (zt_cp ky (5 * x + n) (5 * y) q) (5 * p + a) (5 * p + (s - 1)), zt_cp vl (5 * x + n) (5 * y) q, zt_sl (zt_cp ch (6 * x + n + 1) (6 * y + 1) q) (6 * p + a + 1) (6 * p + s), upd af x (af y), wn, ws, bu)) :
    ∀ d i m, i + d = q → d < m → wX_merge_95 post (nI p) (nI a) (nI x) (nI y) dp pl pa sk gv pr fb m (nI (n + i)) (nI i) rt tk lf sz (zt_cp ky (5 * x + n) (5 * y) i) (zt_cp vl (5 * x + n) (5 * y) i) (zt_cp ch (6 * x + n + 1) (6 * y + 1) i) af wn ws bu := by
  have c := nI_clamp (n := y) (by omega)
  have cx := nI_clamp (n := x) (by omega)
  intro d
  induction d with
  | zero =>
    intro i m hi hm
    obtain ⟨m, rfl⟩ : ∃ k, m = k + 1 := ⟨m - 1, by omega⟩
    obtain rfl : i = q := by omega
    have h := zw_mg_t (tk := upd tk y 0) (sz := upd sz x (nI (n + i))) (ky := zt_cp ky (5 * x + n) (5 * y) i) (vl := zt_cp vl (5 * x + n) (5 * y) i) (ch := zt_cp ch (6 * x + n + 1) (6 * y + 1) i) (af := upd af x (af y)) hp8 hs ha (by rw [pk_un hpx]; exact hz) hp (s - 1 - a) a (s - a) (by omega) (by omega) (by omega)
    rw [zt_sl0, zt_sl0] at h
    exact zs_i rfl hy (by decide) (br_t (by rw [c, zy]; exact nI_le (by omega) (by omega)) (zs_w rfl hx (by decide) rfl (zs_i rfl hy (by decide) (zs_w (v' := af y) rfl hx (by decide) (by rw [c]) (zs_w (v' := 0) rfl hy (by decide) rfl (Exists.intro (s - a) h))))))
  | succ d ih =>
    intro i m hi hm
    obtain ⟨m, rfl⟩ : ∃ k, m = k + 1 := ⟨m - 1, by omega⟩
    have e1 : (5 : Int32) * nI x + nI (n + i) = nI (5 * x + n + i) := by rw [zs_5a, Nat.add_assoc]
    have e2 : (5 : Int32) * nI y + nI i = nI (5 * y + i) := zs_5a y i
    have e3 : (6 : Int32) * nI x + nI (n + i) + 1 = nI (6 * x + n + 1 + i) := by rw [zs_6a, nI_1, show 6 * x + (n + i) + 1 = 6 * x + n + 1 + i from by omega]
    have e4 : (6 : Int32) * nI y + nI i + 1 = nI (6 * y + 1 + i) := by rw [zs_6a, nI_1, show 6 * y + i + 1 = 6 * y + 1 + i from by omega]
    refine zs_i rfl hy (by decide) ?_
    rw [c, zy]
    refine br_f (nI_ge (by omega) (by omega)) (zs_i e2 (by omega) (by decide) (zs_w' e1 (by omega) (by decide) ?_ (zs_i e2 (by omega) (by decide) (zs_wL' e1 (by omega) (by decide) ?_ (zs_i rfl hx (by decide) (br_t (by rw [cx]; exact hl) (zs_i e4 (by omega) (by decide) (zs_w' e3 (by omega) (by decide) ?_ (nm_r (nI_1 (n + i)) (nm_r (nI_1 i) (ih (i + 1) m (by omega) (by omega))))))))))))
    · rw [zs_cn e2 (by omega)]; exact zt_cps (f := ky) (by omega)
    · rw [zs_cn e2 (by omega)]; exact zt_cps (f := vl) (by omega)
    · rw [zs_cn e4 (by omega)]; exact zt_cps (f := ch) (by omega)
theorem zw_mgi {post : SX → Prop} {p a s x y n q : Nat} (hp8 : p < 80) (hs : s ≤ 5) (ha : a < s) (hx : x < 80) (hy : y < 80) (hxy : x ≠ y) (hpx : p ≠ x) (hpy : p ≠ y) (hnq : n + 1 + q ≤ 5) (cx : ch (6 * p + a) = nI x) (cy : ch (6 * p + a + 1) = nI y) (hz : sz p = nI s) (zx : sz x = nI n) (zy : sz y = nI q) (hl : lf x = 0)
    (hp : post (dp, pl, pa, sk, gv, pr, fb, rt, upd tk y 0, lf, upd (upd sz x (nI (n + 1 + q))) p (nI (s - 1)), zt_sl (zt_cp (upd ky (5 * x + n) (ky (5 * p + a))) (5 * x + (n + 1)) (5 * y) q) (5 * p + a) (5 * p + (s - 1)), zt_cp vl (5 * x + (n + 1)) (5 * y) q, zt_sl (zt_cp (upd ch (6 * x + n + 1) (ch (6 * y))) (6 * x + (n + 1) + 1) (6 * y + 1) q) (6 * p + a + 1) (6 * p + s), upd af x (af y), wn, ws, bu)) :
    wpX_merge post (dp, pl, pa, sk, gv, pr, fb, rt, tk, lf, sz, ky, vl, ch, af, wn, ws, bu) (nI p) (nI a) := by
  have a1 : (6 : Int32) * nI p + nI a + 1 = nI (6 * p + a + 1) := by rw [zs_6a, nI_1]
  have a2 : (6 : Int32) * nI x + nI n + 1 = nI (6 * x + n + 1) := by rw [zs_6a, nI_1]
  have c := nI_clamp (n := x) (by omega)
  have h := zw_mg_i (n := n + 1) (ky := upd ky (5 * x + n) (ky (5 * p + a))) (ch := upd ch (6 * x + n + 1) (ch (6 * y))) hp8 hs ha hx hy hxy hpx hnq hz zy hl hp q 0 (q + 1) (by omega) (by omega)
  rw [zt_cp0, zt_cp0, zt_cp0, Nat.add_zero] at h
  exact zs_r (zs_6a p a) (by omega) (by decide) cx (zs_r a1 (by omega) (by decide) cy (zs_r rfl hx (by decide) zx (zs_i rfl hx (by decide) (br_t (by rw [c]; exact hl) (zs_i (zs_5a p a) (by omega) (by decide) (zs_w (v' := ky (5 * p + a)) (zs_5a x n) (by omega) (by decide) (zs_cl (zs_5a p a) (by omega)) (zs_i (zs_6 y) (by omega) (by decide) (zs_w (v' := ch (6 * y)) a2 (by omega) (by decide) (zs_cl (zs_6 y) (by omega)) (nm_r (nI_1 n) (Exists.intro (q + 1) h))))))))))
end
end
section
/-! looking up -/
def zn (K : Nat → Nat) : Nat → Int32 := fun j => nI (K j)
def za (A : Nat → Nat) : Nat → Int32 := fun j => nI (A j) - 1
theorem zn_u {K : Nat → Nat} {a v : Nat} : upd (zn K) a (nI v) = zn (zt_u K a v) := by
  funext j
  by_cases h : j = a
  · rw [h, pk_us]; show nI v = nI (zt_u K a v a); rw [zt_us]
  · rw [pk_un h]; show nI (K j) = nI (zt_u K a v j); rw [zt_un h]
theorem zn_u0 {K : Nat → Nat} {a : Nat} : upd (zn K) a 0 = zn (zt_u K a 0) := zn_u
theorem zn_u1 {K : Nat → Nat} {a : Nat} : upd (zn K) a 1 = zn (zt_u K a 1) := zn_u
theorem zn_u2 {K : Nat → Nat} {a : Nat} : upd (zn K) a 2 = zn (zt_u K a 2) := zn_u
theorem zn_u3 {K : Nat → Nat} {a : Nat} : upd (zn K) a 3 = zn (zt_u K a 3) := zn_u
theorem zn_uz {K K' : Nat → Nat} {a b : Nat} : upd (zn K) a (zn K' b) = zn (zt_u K a (K' b)) := zn_u
theorem zn_sh {K : Nat → Nat} {a b : Nat} : zt_sh (zn K) a b = zn (zt_sh K a b) := by
  funext j; by_cases h : a < j ∧ j ≤ b
  · rw [zt_shi h]; show nI _ = nI (zt_sh K a b j); rw [zt_shi h]
  · rw [zt_sho (by omega)]; show nI _ = nI (zt_sh K a b j); rw [zt_sho (by omega)]
theorem zn_sl {K : Nat → Nat} {a b : Nat} : zt_sl (zn K) a b = zn (zt_sl K a b) := by
  funext j; by_cases h : a ≤ j ∧ j < b
  · rw [zt_sli h]; show nI _ = nI (zt_sl K a b j); rw [zt_sli h]
  · rw [zt_slo (by omega)]; show nI _ = nI (zt_sl K a b j); rw [zt_slo (by omega)]
theorem zn_cp {K : Nat → Nat} {a b n : Nat} : zt_cp (zn K) a b n = zn (zt_cp K a b n) := by
  funext j; by_cases h : a ≤ j ∧ j < a + n
  · rw [zt_cpi h]; show nI _ = nI (zt_cp K a b n j); rw [zt_cpi h]
  · rw [zt_cpo (by omega)]; show nI _ = nI (zt_cp K a b n j); rw [zt_cpo (by omega)]
theorem za_u {A : Nat → Nat} {a v : Nat} : upd (za A) a (nI v - 1) = za (zt_u A a v) := by
  funext j
  by_cases h : j = a
  · rw [h, pk_us]; show nI v - 1 = nI (zt_u A a v a) - 1; rw [zt_us]
  · rw [pk_un h]; show nI (A j) - 1 = nI (zt_u A a v j) - 1; rw [zt_un h]
theorem za_um {A : Nat → Nat} {a : Nat} : upd (za A) a (-1) = za (zt_u A a 0) := za_u (v := 0)
theorem za_un {A : Nat → Nat} {a v : Nat} : upd (za A) a (nI v) = za (zt_u A a (v + 1)) := by rw [← za_u, nI_pred]
theorem za_uz {A A' : Nat → Nat} {a b : Nat} : upd (za A) a (za A' b) = za (zt_u A a (A' b)) := za_u
theorem zn_uL {V : Nat → Int64} {a : Nat} {v : Int64} : vp_updL V a v = zt_u V a v := rfl
/-- the whole pool: e1 may be short, e2 may hold five -/
def zx_N (Rt T L S K C A lv tr lo hi : Nat → Nat) (V : Nat → Int64) (M : Nat → Nat → Option Int64) (R e1 e2 : Nat) : Prop :=
  zt_I Rt T L lv tr lo hi S A (fun x i => K (5 * x + i)) (fun x i => C (6 * x + i)) (fun x i => V (5 * x + i)) M R ∧ zt_mn Rt T lv tr S e1 ∧ zt_mx T S e2 ∧ (∀ j, T j ≤ 1)
/-- the place of the first record at or behind k -/
def zx_pl (T lv tr S K : Nat → Nat) (M : Nat → Nat → Option Int64) (t k : Nat) (pl pa : Int32) : Prop :=
  (pl = -1 ∧ ∀ k', k ≤ k' → k' < 40000 → M t k' = none) ∨ (∃ x i, pl = nI x ∧ pa = nI i ∧ T x = 1 ∧ lv x = 0 ∧ tr x = t ∧ i < S x ∧ k ≤ K (5 * x + i) ∧ ∀ k', k ≤ k' → k' < K (5 * x + i) → M t k' = none)
section
variable {dp pl pa sk gv pr fb : Int32} {wn ws bu : Nat → Int32} {Rt T L S K C A lv tr lo hi : Nat → Nat} {V : Nat → Int64} {M : Nat → Nat → Option Int64} {R e1 e2 : Nat}
theorem zw_pos_l {x k : Nat} (hx : x < 80) (hs : S x ≤ 5) (hk : k < 2 ^ 31) (hK : ∀ j, j < S x → K (5 * x + j) < 2 ^ 31) :
    ∀ d i c m, i + d = S x → c ≤ i → (∀ j, j + 1 = c → K (5 * x + j) < k) → (∀ j, c ≤ j → j < i → k ≤ K (5 * x + j)) → d < m →
    ∃ c', c' ≤ S x ∧ (∀ j, j + 1 = c' → K (5 * x + j) < k) ∧ (∀ j, c' ≤ j → j < S x → k ≤ K (5 * x + j)) ∧ ∀ post : Int32 → Prop, post (nI c') → wX_position_5 post (nI x) (nI k) dp pl pa sk gv pr fb (zn Rt) (zn T) (zn L) (zn S) (zn K) V (zn C) (za A) wn ws bu m (nI c) (nI i) := by
  have cx := nI_clamp (n := x) (by omega)
  have hz : zn S (nI x).toNatClampNeg = nI (S x) := by rw [cx]; rfl
  intro d
  induction d with
  | zero =>
    intro i c m hi hc h1 h2 hm
    obtain ⟨m, rfl⟩ : ∃ k, m = k + 1 := ⟨m - 1, by omega⟩
    refine ⟨c, by omega, h1, fun j a b => h2 j a (by omega), fun post hp => zs_i rfl hx (by decide) (br_t (by rw [hz]; exact nI_le (by omega) (by omega)) hp)⟩
  | succ d ih =>
    intro i c m hi hc h1 h2 hm
    obtain ⟨m, rfl⟩ : ∃ k, m = k + 1 := ⟨m - 1, by omega⟩
    have e1 := zs_5a x i
    have hv : zn K ((5 : Int32) * nI x + nI i).toNatClampNeg = nI (K (5 * x + i)) := by rw [zs_cn e1 (by omega)]; rfl
    have hKi := hK i (by omega)
    by_cases h : k ≤ K (5 * x + i)
    · obtain ⟨c', g1, g2, g3, g4⟩ := ih (i + 1) c m (by omega) (by omega) h1 (fun j a b => by
        by_cases e : j = i
        · rw [e]; exact h
        · exact h2 j a (by omega)) (by omega)
      exact ⟨c', g1, g2, g3, fun post hp => zs_i rfl hx (by decide) (br_f (by rw [hz]; exact nI_ge (by omega) (by omega)) (zs_i e1 (by omega) (by decide) (br_t (by rw [hv]; exact nI_le h hKi) (nm_r (nI_1 i) (g4 post hp)))))⟩
    · obtain ⟨c', g1, g2, g3, g4⟩ := ih (i + 1) (i + 1) m (by omega) (by omega) (fun j e => by
        have : j = i := by omega
        rw [this]; omega) (fun j a b => by omega) (by omega)
      exact ⟨c', g1, g2, g3, fun post hp => zs_i rfl hx (by decide) (br_f (by rw [hz]; exact nI_ge (by omega) (by omega)) (zs_i e1 (by omega) (by decide) (br_f (by rw [hv]; exact nI_ge (by omega) hk) (nm_r (nI_1 i) (nm_r (nI_1 i) (g4 post hp))))))⟩
theorem zw_pos {x k : Nat} (hx : x < 80) (hs : S x ≤ 5) (hk : k < 2 ^ 31) (hK : ∀ j, j < S x → K (5 * x + j) < 2 ^ 31) :
    ∃ c, c ≤ S x ∧ (∀ j, j + 1 = c → K (5 * x + j) < k) ∧ (∀ j, c ≤ j → j < S x → k ≤ K (5 * x + j)) ∧ ∀ post : Int32 → Prop, post (nI c) → wpX_position post (dp, pl, pa, sk, gv, pr, fb, zn Rt, zn T, zn L, zn S, zn K, V, zn C, za A, wn, ws, bu) (nI x) (nI k) := by
  obtain ⟨c, g1, g2, g3, g4⟩ := zw_pos_l (dp := dp) (pl := pl) (pa := pa) (sk := sk) (gv := gv) (pr := pr) (fb := fb) (wn := wn) (ws := ws) (bu := bu) (Rt := Rt) (T := T) (L := L) (S := S) (K := K) (C := C) (A := A) (V := V) hx hs hk hK (S x) 0 0 (S x + 1) (by omega) (by omega) (fun j e => by omega) (fun j a b => by omega) (by omega)
  exact ⟨c, g1, g2, g3, fun post hp => Exists.intro (S x + 1) (g4 post hp)⟩
theorem zw_slot_l {x k j0 : Nat} {x4 : Int32} (hx : x < 80) (hs : S x ≤ 5) (hk : k < 2 ^ 31) (hK : ∀ j, j < S x → K (5 * x + j) < 2 ^ 31) (hj0 : j0 < 8) :
    ∀ d i c m, i + d = S x → c ≤ i → (∀ j, j + 1 = c → K (5 * x + j) ≤ k) → (∀ j, c ≤ j → j < i → k < K (5 * x + j)) → d < m →
    ∃ c', c' ≤ S x ∧ (∀ j, j + 1 = c' → K (5 * x + j) ≤ k) ∧ (∀ j, c' ≤ j → j < S x → k < K (5 * x + j)) ∧ ∀ (post : Int32 → SX → Prop) J, J (nI (C (6 * x + c'))) (x4 + 1) (nI (j0 + 1)) (zn Rt) (zn T) (zn L) (zn S) (zn K) V (zn C) (za A) (upd wn j0 (nI x)) (upd ws j0 (nI c')) bu → wX_descend_37 post J (nI k) (nI x) x4 (nI j0) pl pa sk gv pr fb (zn Rt) (zn T) (zn L) (zn S) (zn K) V (zn C) (za A) wn ws bu m (nI c) (nI i) := by
  have cx := nI_clamp (n := x) (by omega)
  have hz : zn S (nI x).toNatClampNeg = nI (S x) := by rw [cx]; rfl
  intro d
  induction d with
  | zero =>
    intro i c m hi hc h1 h2 hm
    obtain ⟨m, rfl⟩ : ∃ k, m = k + 1 := ⟨m - 1, by omega⟩
    refine ⟨c, by omega, h1, fun j a b => h2 j a (by omega), fun post J hp => zs_i rfl hx (by decide) (br_t (by rw [hz]; exact nI_le (by omega) (by omega)) ?_)⟩
    exact zs_w rfl hj0 (by decide) rfl (zs_w rfl hj0 (by decide) rfl (nm_r (nI_1 j0) (zs_r (zs_6a x c) (by omega) (by decide) rfl (nm_e hp))))
  | succ d ih =>
    intro i c m hi hc h1 h2 hm
    obtain ⟨m, rfl⟩ : ∃ k, m = k + 1 := ⟨m - 1, by omega⟩
    have e1 := zs_5a x i
    have hv : zn K ((5 : Int32) * nI x + nI i).toNatClampNeg = nI (K (5 * x + i)) := by rw [zs_cn e1 (by omega)]; rfl
    have hKi := hK i (by omega)
    by_cases h : k < K (5 * x + i)
    · obtain ⟨c', g1, g2, g3, g4⟩ := ih (i + 1) c m (by omega) (by omega) h1 (fun j a b => by
        by_cases e : j = i
        · rw [e]; exact h
        · exact h2 j a (by omega)) (by omega)
      exact ⟨c', g1, g2, g3, fun post J hp => zs_i rfl hx (by decide) (br_f (by rw [hz]; exact nI_ge (by omega) (by omega)) (zs_i e1 (by omega) (by decide) (br_t (by rw [hv]; exact nI_lt h hKi) (nm_r (nI_1 i) (g4 post J hp)))))⟩
    · obtain ⟨c', g1, g2, g3, g4⟩ := ih (i + 1) (i + 1) m (by omega) (by omega) (fun j e => by
        have : j = i := by omega
        rw [this]; omega) (fun j a b => by omega) (by omega)
      exact ⟨c', g1, g2, g3, fun post J hp => zs_i rfl hx (by decide) (br_f (by rw [hz]; exact nI_ge (by omega) (by omega)) (zs_i e1 (by omega) (by decide) (br_f (by rw [hv]; exact nI_nlt (by omega) hk) (nm_r (nI_1 i) (nm_r (nI_1 i) (g4 post J hp))))))⟩
theorem zx_leaf (N : zx_N Rt T L S K C A lv tr lo hi V M R e1 e2) {x : Nat} (hx : T x = 1) (hl : lv x = 0) : (∀ i, i < S x → lo x ≤ K (5 * x + i) ∧ K (5 * x + i) < hi x ∧ M (tr x) (K (5 * x + i)) = some (V (5 * x + i))) ∧ (∀ i j, i < j → j < S x → K (5 * x + i) < K (5 * x + j)) ∧ (∀ k, lo x ≤ k → k < hi x → M (tr x) k ≠ none → ∃ i, i < S x ∧ K (5 * x + i) = k) := N.1.2.1 x hx hl
theorem zx_ch (N : zx_N Rt T L S K C A lv tr lo hi V M R e1 e2) {x i : Nat} (hx : T x = 1) (hl : 0 < lv x) (hi0 : i ≤ S x) : T (C (6 * x + i)) = 1 ∧ tr (C (6 * x + i)) = tr x ∧ lv (C (6 * x + i)) + 1 = lv x ∧ (i = 0 → lo (C (6 * x + i)) = lo x) ∧ (∀ j, i = j + 1 → lo (C (6 * x + i)) = K (5 * x + j)) ∧ (i = S x → hi (C (6 * x + i)) = hi x) ∧ (i < S x → hi (C (6 * x + i)) = K (5 * x + i)) := N.1.1.2.2.1 x i hx hl hi0
/-- keys that are there are small -/
theorem zx_ksm (N : zx_N Rt T L S K C A lv tr lo hi V M R e1 e2) {x j : Nat} (hx : T x = 1) (hj : j < S x) : lo x ≤ K (5 * x + j) ∧ K (5 * x + j) < hi x ∧ K (5 * x + j) < 40000 := by
  have ⟨⟨G, H, HA, HW, F⟩, N2, N3, N4⟩ := N
  have g := G.1 x hx
  by_cases c : lv x = 0
  · have := (zx_leaf N hx c).1 j hj
    omega
  · have : lo x < K (5 * x + j) ∧ K (5 * x + j) < hi x := zt_kin G hx (by omega) hj
    omega
theorem zw_desc_l (N : zx_N Rt T L S K C A lv tr lo hi V M R e1 e2) {k : Nat} (hk : k < 40000) :
    ∀ l y j m (wn ws : Nat → Int32), lv y = l → T y = 1 → lo y ≤ k → k < hi y → j + l ≤ 7 → l < m →
    ∃ (w s : Nat → Nat) (wn' ws' : Nat → Int32), w j = y ∧ (∀ i, j ≤ i → i ≤ j + l → T (w i) = 1 ∧ tr (w i) = tr y ∧ lv (w i) + i = l + j) ∧ (∀ i, j ≤ i → i < j + l → s i ≤ S (w i) ∧ C (6 * w i + s i) = w (i + 1) ∧ wn' i = nI (w i) ∧ ws' i = nI (s i)) ∧ (∀ i, i < j → wn' i = wn i ∧ ws' i = ws i) ∧ lo (w (j + l)) ≤ k ∧ k < hi (w (j + l)) ∧
      ∀ post : Int32 → SX → Prop, post (nI (w (j + l))) (nI (j + l), pl, pa, sk, gv, pr, fb, zn Rt, zn T, zn L, zn S, zn K, V, zn C, za A, wn', ws', bu) → wX_descend_15 post (nI k) pl pa sk gv pr fb m (nI y) (nI j) (nI j) (zn Rt) (zn T) (zn L) (zn S) (zn K) V (zn C) (za A) wn ws bu := by
  have ⟨⟨G, H, HA, HW, F⟩, N2, N3, N4⟩ := N
  have ⟨g1, g2, g3, g4⟩ := G
  intro l
  induction l with
  | zero =>
    intro y j m wn ws hl hy h1 h2 hj hm
    obtain ⟨m, rfl⟩ : ∃ k, m = k + 1 := ⟨m - 1, by omega⟩
    have y8 := (g1 y hy).1
    have cy := nI_clamp (n := y) (by omega)
    have fy := F y hy
    refine ⟨fun _ => y, fun _ => 0, wn, ws, rfl, fun i a b => ⟨hy, rfl, by show lv y + i = 0 + j; omega⟩, fun i a b => by omega, fun i a => ⟨rfl, rfl⟩, h1, h2, fun post hp => br_c (fun _ => hp) (fun _ => zs_i rfl y8 (by decide) (br_f ?_ hp))⟩
    rw [cy]; show ¬ nI (L y) = 0
    have e : L y = 1 := by omega
    rw [e]; decide
  | succ l ih =>
    intro y j m wn ws hl hy h1 h2 hj hm
    obtain ⟨m, rfl⟩ : ∃ k, m = k + 1 := ⟨m - 1, by omega⟩
    have y8 := (g1 y hy).1
    have cy := nI_clamp (n := y) (by omega)
    have fy := F y hy
    have s5 := (N3 y hy).1
    obtain ⟨c, c1, c2, c3, c4⟩ := zw_slot_l (x4 := nI j) (j0 := j) (pl := pl) (pa := pa) (sk := sk) (gv := gv) (pr := pr) (fb := fb) (wn := wn) (ws := ws) (bu := bu) (Rt := Rt) (T := T) (L := L) (S := S) (K := K) (C := C) (A := A) (V := V) y8 s5 (show k < 2 ^ 31 by omega) (fun i hi => by have := zx_ksm N hy hi; omega) (by omega) (S y) 0 0 (S y + 1) (by omega) (by omega) (fun j e => by omega) (fun j a b => by omega) (by omega)
    have ⟨o1, o2, o3, o4, o5, o6, o7⟩ := zx_ch N hy (show 0 < lv y by omega) c1
    have sl : lo (C (6 * y + c)) ≤ k ∧ k < hi (C (6 * y + c)) := zt_slot G hy (by omega) c1 h1 h2 c2 (fun h => c3 c (by omega) h)
    obtain ⟨w, s, wn', ws', a1, a2, a3, a4, a5, a6, a7⟩ := ih (C (6 * y + c)) (j + 1) m (upd wn j (nI y)) (upd ws j (nI c)) (by omega) o1 sl.1 sl.2 (by omega) (by omega)
    have wj : ∀ i, j < i → (fun i => if i = j then y else w i) i = w i := fun i hi => if_neg (by omega)
    have sj : ∀ i, j < i → (fun i => if i = j then c else s i) i = s i := fun i hi => if_neg (by omega)
    have w0 : (fun i => if i = j then y else w i) j = y := if_pos rfl
    have s0 : (fun i => if i = j then c else s i) j = c := if_pos rfl
    refine ⟨fun i => if i = j then y else w i, fun i => if i = j then c else s i, wn', ws', w0, fun i p q => ?_, fun i p q => ?_, fun i p => ?_, ?_, ?_, fun post hp => ?_⟩
    · by_cases e : i = j
      · rw [e, w0]; exact ⟨hy, rfl, by omega⟩
      · rw [wj i (by omega)]
        have ⟨b1, b2, b3⟩ := a2 i (by omega) (by omega)
        exact ⟨b1, by rw [b2]; exact o2, by omega⟩
    · by_cases e : i = j
      · rw [e, w0, s0, wj (j + 1) (by omega), a1]
        have b := a4 j (by omega)
        rw [b.1, b.2, pk_us, pk_us]
        exact ⟨c1, rfl, rfl, rfl⟩
      · rw [wj i (by omega), sj i (by omega), wj (i + 1) (by omega)]
        exact a3 i (by omega) (by omega)
    · have b := a4 i (by omega)
      rw [b.1, b.2, pk_un (by omega), pk_un (by omega)]; exact ⟨rfl, rfl⟩
    · rw [wj _ (by omega), show j + (l + 1) = j + 1 + l from by omega]; exact a5
    · rw [wj _ (by omega), show j + (l + 1) = j + 1 + l from by omega]; exact a6
    · rw [wj _ (by omega), show j + (l + 1) = j + 1 + l from by omega] at hp
      refine br_f (nI_ge (b := 7) (by omega) (by decide)) (zs_i rfl y8 (by decide) (br_t ?_ (Exists.intro (S y + 1) (c4 post _ ?_))))
      · rw [cy]; show nI (L y) = 0
        have e : L y = 0 := by omega
        rw [e]; rfl
      · rw [nI_1]; exact a7 post hp
theorem zw_desc (N : zx_N Rt T L S K C A lv tr lo hi V M R e1 e2) (hh : ∀ t, t < 2 → lv (Rt t) ≤ 6) {t k : Nat} (ht : t < 2) (hk : k < 40000) :
    ∃ (d : Nat) (w s : Nat → Nat) (wn' ws' : Nat → Int32), d = lv (Rt t) ∧ w 0 = Rt t ∧ (∀ i, i ≤ d → T (w i) = 1 ∧ tr (w i) = t ∧ lv (w i) + i = d) ∧ (∀ i, i < d → s i ≤ S (w i) ∧ C (6 * w i + s i) = w (i + 1) ∧ wn' i = nI (w i) ∧ ws' i = nI (s i)) ∧ lo (w d) ≤ k ∧ k < hi (w d) ∧
      ∀ post : Int32 → SX → Prop, post (nI (w d)) (nI d, pl, pa, sk, gv, pr, fb, zn Rt, zn T, zn L, zn S, zn K, V, zn C, za A, wn', ws', bu) → wpX_descend post (dp, pl, pa, sk, gv, pr, fb, zn Rt, zn T, zn L, zn S, zn K, V, zn C, za A, wn, ws, bu) (nI t) (nI k) := by
  have ⟨⟨G, H, HA, HW, F⟩, N2, N3, N4⟩ := N
  have ⟨g1, g2, g3, g4⟩ := G
  have ⟨r1, r2, r3, r4⟩ := g2 t ht
  have h6 := hh t ht
  obtain ⟨w, s, wn', ws', a1, a2, a3, a4, a5, a6, a7⟩ := zw_desc_l N hk (lv (Rt t)) (Rt t) 0 (lv (Rt t) + 1) wn ws rfl r1 (by omega) (by omega) (by omega) (by omega)
  refine ⟨lv (Rt t), w, s, wn', ws', rfl, a1, fun i hi => ?_, fun i hi => a3 i (by omega) (by omega), by rw [Nat.zero_add] at a5; exact a5, by rw [Nat.zero_add] at a6; exact a6, fun post hp => ?_⟩
  · have ⟨b1, b2, b3⟩ := a2 i (by omega) (by omega)
    exact ⟨b1, by rw [b2]; exact r2, by omega⟩
  · have := a7 post (by rw [Nat.zero_add]; exact hp)
    exact zs_r rfl ht (by decide) rfl (Exists.intro (lv (Rt t) + 1) this)
theorem zx_settle (N : zx_N Rt T L S K C A lv tr lo hi V M R 80 e2) {x c k t : Nat} (hx : T x = 1) (hl : lv x = 0) (ht : tr x = t) (hc : c ≤ S x) (h1 : ∀ j, j < c → K (5 * x + j) < k) (h2 : ∀ j, c ≤ j → j < S x → k ≤ K (5 * x + j)) (hk : lo x ≤ k) (hk' : k ≤ hi x) :
    ∃ pl' pa', zx_pl T lv tr S K M t k pl' pa' ∧ ∀ post : SX → Prop, post (dp, pl', pa', sk, gv, pr, fb, zn Rt, zn T, zn L, zn S, zn K, V, zn C, za A, wn, ws, bu) → wpX_settle post (dp, nI x, nI c, sk, gv, pr, fb, zn Rt, zn T, zn L, zn S, zn K, V, zn C, za A, wn, ws, bu) := by
  have ⟨⟨G, H, HA, HW, F⟩, N2, N3, N4⟩ := N
  have ⟨g1, g2, g3, g4⟩ := G
  have gx := g1 x hx
  have ⟨l1, l2, l3⟩ := zx_leaf N hx hl
  have s5 := (N3 x hx).1
  have cx := nI_clamp (n := x) (by omega)
  have hz : zn S (nI x).toNatClampNeg = nI (S x) := by rw [cx]; rfl
  by_cases e : c < S x
  · refine ⟨nI x, nI c, Or.inr ⟨x, c, rfl, rfl, hx, hl, ht, e, h2 c (by omega) e, fun k' p q => ?_⟩, fun post hp => zs_i rfl gx.1 (by decide) (br_t (by rw [hz]; exact nI_lt e (by omega)) hp)⟩
    by_cases hM : M t k' = none
    · exact hM
    · exfalso
      rw [← ht] at hM
      have := l1 c e
      obtain ⟨i, i1, i2⟩ := l3 k' (by omega) (by omega) hM
      by_cases ic : i < c
      · have := h1 i ic; omega
      · by_cases ic2 : i = c
        · rw [ic2] at i2; omega
        · have := l2 c i (by omega) i1; omega
  · have none1 : ∀ k', k ≤ k' → k' < hi x → M t k' = none := fun k' p q => by
      by_cases hM : M t k' = none
      · exact hM
      · exfalso
        rw [← ht] at hM
        obtain ⟨i, i1, i2⟩ := l3 k' (by omega) (by omega) hM
        have := h1 i (by omega); omega
    have ⟨b1, b2⟩ := HA x hx hl
    have go : ∀ post : SX → Prop, post (dp, nI (A x) - 1, 0, sk, gv, pr, fb, zn Rt, zn T, zn L, zn S, zn K, V, zn C, za A, wn, ws, bu) → wpX_settle post (dp, nI x, nI c, sk, gv, pr, fb, zn Rt, zn T, zn L, zn S, zn K, V, zn C, za A, wn, ws, bu) := fun post hp => zs_i rfl gx.1 (by decide) (br_f (by rw [hz]; exact nI_nlt (by omega) (by omega)) (zs_r rfl gx.1 (by decide) rfl hp))
    by_cases h4 : hi x = 40000
    · refine ⟨nI (A x) - 1, 0, Or.inl ⟨by rw [b1 h4]; rfl, fun k' p q => none1 k' p (by omega)⟩, go⟩
    · obtain ⟨y, y1, y2, y3, y4, y5⟩ := b2 h4
      have gy := g1 y y2
      have ⟨m1, m2, m3⟩ := zx_leaf N y2 y3
      have nr : y ≠ Rt (tr y) := fun e2 => by
        have := (g2 (tr y) gy.2.1).2.2.1
        rw [← e2] at this; omega
      have sy := ((N2 y y2).1 nr).1
      refine ⟨nI (A x) - 1, 0, Or.inr ⟨y, 0, by rw [y1, nI_pred], rfl, y2, y3, by omega, by omega, ?_, fun k' p q => ?_⟩, go⟩
      · have := m1 0 (by omega); omega
      · by_cases q2 : k' < hi x
        · exact none1 k' p q2
        · by_cases hM : M t k' = none
          · exact hM
          · exfalso
            rw [← ht, ← y4] at hM
            have := m1 0 (by omega)
            obtain ⟨i, i1, i2⟩ := m3 k' (by omega) (by omega) hM
            by_cases i0 : i = 0
            · rw [i0] at i2; omega
            · have := m2 0 i (by omega) i1; omega
end
end
section
/-! the moves of putting in, on the flat arrays -/
theorem zt_ue {α : Type} {f : Nat → α} {a y : Nat} {v : α} (h : y = a) : zt_u f a v y = v := if_pos h
section
variable {dp pl pa sk gv pr fb : Int32} {wn ws bu : Nat → Int32} {Rt T L S K C A lv tr lo hi : Nat → Nat} {V : Nat → Int64} {M : Nat → Nat → Option Int64} {R e1 e2 : Nat}
theorem zx_mk (h1 : zt_G Rt T lv tr lo hi S (fun x i => K (5 * x + i)) (fun x i => C (6 * x + i))) (h2 : zt_L T lv tr lo hi S (fun x i => K (5 * x + i)) (fun x i => V (5 * x + i)) M) (h3 : zt_A T lv tr lo hi A) (h4 : zt_W Rt T lv S R) (h5 : ∀ x, T x = 1 → (L x = 1 ∧ lv x = 0) ∨ (L x = 0 ∧ 0 < lv x)) (h6 : zt_mn Rt T lv tr S e1) (h7 : zt_mx T S e2) (h8 : ∀ j, T j ≤ 1) : zx_N Rt T L S K C A lv tr lo hi V M R e1 e2 :=
  And.intro (And.intro h1 (And.intro h2 (And.intro h3 (And.intro h4 h5)))) (And.intro h6 (And.intro h7 h8))
theorem zf_ins (N : zx_N Rt T L S K C A lv tr lo hi V M R 80 80) {x a k : Nat} {v : Int64} (hx : T x = 1) (hl : lv x = 0) (hk : lo x ≤ k) (hk' : k < hi x) (ha : a ≤ S x) (h1 : ∀ j, j < a → K (5 * x + j) < k) (h2 : ∀ j, a ≤ j → j < S x → k < K (5 * x + j)) :
    zx_N Rt T L (zt_u S x (S x + 1)) (zt_u (zt_sh K (5 * x + a) (5 * x + S x)) (5 * x + a) k) C A lv tr lo hi (zt_u (zt_sh V (5 * x + a) (5 * x + S x)) (5 * x + a) v) (zt_mu M (tr x) k (some v)) (R + 1) 80 x := by
  have ⟨⟨G, H, HA, HW, F⟩, N2, N3, N4⟩ := N
  have s4 : ∀ y, T y = 1 → S y ≤ 4 := fun y hy => (N3 y hy).2 (by have := (G.1 y hy).1; omega)
  have x8 := (G.1 x hx).1
  have sx := s4 x hx
  have other : ∀ y, T y = 1 → y ≠ x → zt_u S x (S x + 1) y = S y ∧ ∀ j, j < S y → zt_u (zt_sh K (5 * x + a) (5 * x + S x)) (5 * x + a) k (5 * y + j) = K (5 * y + j) ∧ zt_u (zt_sh V (5 * x + a) (5 * x + S x)) (5 * x + a) v (5 * y + j) = V (5 * y + j) := by
    intro y hy e
    have := s4 y hy
    refine ⟨zt_un e, fun j hj => ⟨?_, ?_⟩⟩ <;> rw [zt_un (by omega), zt_sho (by omega)]
  obtain ⟨R', r1, r2⟩ := zt_leaf_W (sz' := zt_u S x (S x + 1)) HW hx x8 hl (fun y h e => (other y h e).1)
  rw [zt_us] at r1
  obtain rfl : R' = R + 1 := by omega
  refine zx_mk ?_ ?_ HA r2 F ?_ ?_ N4
  · exact zt_leaf_G G hl (fun y a1 a2 a3 => ⟨(other y a1 a3).1, fun j hj => ((other y a1 a3).2 j hj).1, fun j hj => rfl⟩)
  · refine zt_put_L G H hx hl hk hk' ha h1 h2 (fun y a1 a2 a3 => other y a1 a3) zt_us (fun j hj => ⟨?_, ?_⟩) ⟨zt_us, zt_us⟩ (fun j a1 a2 => ⟨?_, ?_⟩)
    · rw [zt_un (by omega), zt_sho (by omega)]
    · rw [zt_un (by omega), zt_sho (by omega)]
    · rw [zt_un (by omega), zt_shi (by omega)]; rfl
    · rw [zt_un (by omega), zt_shi (by omega)]; rfl
  · intro y hy
    have := N2 y hy
    by_cases e : y = x
    · rw [e] at this ⊢; rw [zt_us]
      exact ⟨fun q => by have := this.1 q; omega, fun q => by omega⟩
    · rw [zt_un e]; exact this
  · intro y hy
    have := N3 y hy
    by_cases e : y = x
    · rw [e, zt_us]; exact ⟨by omega, fun q => absurd rfl q⟩
    · rw [zt_un e]; exact ⟨this.1, fun _ => s4 y hy⟩
theorem zf_set (N : zx_N Rt T L S K C A lv tr lo hi V M R 80 80) {x a k : Nat} {v : Int64} (hx : T x = 1) (hl : lv x = 0) (ha : a < S x) (hka : K (5 * x + a) = k) :
    zx_N Rt T L S K C A lv tr lo hi (zt_u V (5 * x + a) v) (zt_mu M (tr x) k (some v)) R 80 80 := by
  have ⟨⟨G, H, HA, HW, F⟩, N2, N3, N4⟩ := N
  have sx := (N3 x hx).1
  refine zx_mk G ?_ HA HW F N2 N3 N4
  refine zt_set_L G H hx hl ha hka (fun y a1 a2 a3 j hj => ?_) (fun j a1 a2 => ?_) zt_us
  · have := (N3 y a1).1
    rw [zt_un (by omega)]
  · rw [zt_un (by omega)]
/-- sizes after a split -/
theorem zf_mn {S' T' lv' tr' : Nat → Nat} {p x r : Nat} (N2 : zt_mn Rt T lv tr S 80) (r1 : ∀ y, T' y = 1 → y = r ∨ T y = 1) (n1 : ∀ z, z ≠ r → lv' z = lv z ∧ tr' z = tr z) (hr : 2 ≤ S' r) (hx : 2 ≤ S' x) (hp : S' p = S p + 1) (eo : ∀ y, T y = 1 → y ≠ p → y ≠ x → y ≠ r → S' y = S y) : zt_mn Rt T' lv' tr' S' 80 := by
  intro y hy
  by_cases e : y = r
  · rw [e]; exact ⟨fun _ => ⟨by omega, fun _ => hr⟩, fun _ _ _ => by omega⟩
  · have ht : T y = 1 := (r1 y hy).resolve_left e
    by_cases ex : y = x
    · rw [ex]; exact ⟨fun _ => ⟨by omega, fun _ => hx⟩, fun _ _ _ => by omega⟩
    · rw [(n1 y e).1, (n1 y e).2]
      have := N2 y ht
      by_cases ep : y = p
      · rw [ep] at this ⊢; rw [hp]
        exact ⟨fun q => by have := this.1 q; omega, fun _ _ _ => by omega⟩
      · rw [eo y ht ep ex e]; exact this
/-- a leaf splits below a parent -/
theorem zf_slp (N : zx_N Rt T L S K C A lv tr lo hi V M R 80 e2) {p i x r : Nat} (hp : T p = 1) (hl : 0 < lv p) (hi0 : i ≤ S p) (hx : C (6 * p + i) = x) (hlx : lv x = 0) (hsx : S x = 5) (he : e2 = x) (hr : T r = 0) (hr8 : r < 80) :
    ∃ lv' tr' lo' hi', zx_N Rt (zt_u T r 1) (zt_u L r 1) (zt_u (zt_u (zt_u (zt_u S r 0) r 3) x 2) p (S p + 1)) (zt_u (zt_sh (zt_cp K (5 * r) (5 * x + 2) 3) (5 * p + i) (5 * p + S p)) (5 * p + i) (K (5 * x + 2))) (zt_u (zt_sh C (6 * p + i + 1) (6 * p + S p + 1)) (6 * p + i + 1) r) (zt_u (zt_u (zt_u A r 0) r (A x)) x (r + 1)) lv' tr' lo' hi' (zt_cp V (5 * r) (5 * x + 2) 3) M R 80 p ∧ (∀ z, T z = 1 → lv' z = lv z ∧ tr' z = tr z) := by
  have ⟨I, N2, N3, N4⟩ := N
  have ⟨G, H, HA, HW, F⟩ := I
  have ⟨x1, x2, x3, x4, x5, x6, x7⟩ := zx_ch N hp hl hi0
  rw [hx] at x1 x2 x3 x4 x5 x6 x7
  have p8 := (G.1 p hp).1
  have x8 := (G.1 x x1).1
  have xp : x ≠ p := fun e => by rw [e] at x3; omega
  have sp : S p ≤ 4 := (N3 p hp).2 (by omega)
  have old : ∀ y, T y = 1 → y ≠ r := fun y hy e => by rw [e] at hy; omega
  have xr := old x x1
  have pr := old p hp
  have fx := F x x1
  have s4 : ∀ y, T y = 1 → y ≠ x → S y ≤ 4 := fun y hy e => (N3 y hy).2 (by omega)
  obtain ⟨lv', tr', lo', hi', I', d1, d2, d3⟩ := zq_split (m := 2) (T' := zt_u T r 1) (lf' := zt_u L r 1) (sz' := zt_u (zt_u (zt_u (zt_u S r 0) r 3) x 2) p (S p + 1)) (af' := zt_u (zt_u (zt_u A r 0) r (A x)) x (r + 1)) (ky' := fun y j => zt_u (zt_sh (zt_cp K (5 * r) (5 * x + 2) 3) (5 * p + i) (5 * p + S p)) (5 * p + i) (K (5 * x + 2)) (5 * y + j)) (ch' := fun y j => zt_u (zt_sh C (6 * p + i + 1) (6 * p + S p + 1)) (6 * p + i + 1) r (6 * y + j)) (vl' := fun y j => zt_cp V (5 * r) (5 * x + 2) 3 (5 * y + j))
    I hp hl hi0 hx (by omega) hr8 (by omega) (by omega) (fun z hz => ⟨zt_un hz, zt_un hz⟩) ⟨zt_us, by rw [zt_us]; omega⟩ zt_us
    (fun j hj => ⟨fun h => by rw [zt_un (by omega), zt_sho (by omega), zt_cpo (by omega)], fun h => by rw [h, zt_us], fun k hk h => by rw [zt_un (by omega), zt_shi (by omega), zt_cpo (by omega)]; exact congrArg K (by omega)⟩)
    (fun j hj => ⟨fun h => by rw [zt_un (by omega), zt_sho (by omega)], fun h => by rw [zt_ue (by omega)], fun k hk h => by rw [zt_un (by omega), zt_shi (by omega)]; exact congrArg C (by omega)⟩)
    (fun y a1 a2 a3 => by
      have yr := old y a1
      have := s4 y a1 a3
      refine ⟨by rw [zt_un a2, zt_un a3, zt_un yr, zt_un yr], fun j hj => ⟨?_, ?_⟩, fun j hj => ?_⟩
      · rw [zt_un (by omega), zt_sho (by omega), zt_cpo (by omega)]
      · rw [zt_cpo (by omega)]
      · rw [zt_un (by omega), zt_sho (by omega)])
    (by rw [zt_un xp, zt_us])
    (fun j hj => ⟨by rw [zt_un (by omega), zt_sho (by omega), zt_cpo (by omega)], fun _ => by rw [zt_cpo (by omega)]⟩)
    (fun h => by omega)
    (fun _ => by
      refine ⟨by rw [zt_un pr.symm, zt_un xr.symm, zt_us]; omega, fun j hj => ?_, zt_us, by rw [zt_un xr.symm, zt_us]⟩
      rw [zt_un pr.symm, zt_un xr.symm, zt_us] at hj
      refine ⟨?_, ?_⟩
      · rw [zt_un (by omega), zt_sho (by omega), zt_cpi (by omega)]; exact congrArg K (by omega)
      · rw [zt_cpi (by omega)]; exact congrArg V (by omega))
    (fun h => by omega)
    (fun y a1 a2 a3 => by rw [zt_un a3, zt_un (old y a1), zt_un (old y a1)])
  refine ⟨lv', tr', lo', hi', And.intro I' (And.intro ?_ (And.intro ?_ ?_)), fun z hz => d1 z (old z hz)⟩
  · refine zf_mn (p := p) (x := x) (r := r) N2 (fun y hy => ?_) d1 ?_ ?_ zt_us (fun y a1 a2 a3 a4 => by rw [zt_un a2, zt_un a3, zt_un a4, zt_un a4])
    · by_cases e : y = r
      · exact Or.inl e
      · rw [zt_un e] at hy; exact Or.inr hy
    · rw [zt_un pr.symm, zt_un xr.symm, zt_us]; omega
    · rw [zt_un xp, zt_us]; omega
  · intro y hy
    by_cases e : y = p
    · rw [e, zt_us]; exact ⟨by omega, fun q => absurd rfl q⟩
    · rw [zt_un e]
      by_cases e2 : y = x
      · rw [e2, zt_us]; omega
      · rw [zt_un e2]
        by_cases e3 : y = r
        · rw [e3, zt_us]; omega
        · rw [zt_un e3] at hy
          rw [zt_un e3, zt_un e3]
          have := s4 y hy e2
          omega
  · intro j
    by_cases e : j = r
    · rw [e, zt_us]; omega
    · rw [zt_un e]; exact N4 j
/-- an inner node splits below a parent -/
theorem zf_sip (N : zx_N Rt T L S K C A lv tr lo hi V M R 80 e2) {p i x r : Nat} (hp : T p = 1) (hl : 0 < lv p) (hi0 : i ≤ S p) (hx : C (6 * p + i) = x) (hlx : 0 < lv x) (hsx : S x = 5) (he : e2 = x) (hr : T r = 0) (hr8 : r < 80) :
    ∃ lv' tr' lo' hi', zx_N Rt (zt_u T r 1) (zt_u L r 0) (zt_u (zt_u (zt_u (zt_u S r 0) r 2) x 2) p (S p + 1)) (zt_u (zt_sh (zt_u (zt_u K (5 * r) (K (5 * x + 3))) (5 * r + 1) (K (5 * x + 4))) (5 * p + i) (5 * p + S p)) (5 * p + i) (K (5 * x + 2))) (zt_u (zt_sh (zt_cp C (6 * r) (6 * x + 3) 3) (6 * p + i + 1) (6 * p + S p + 1)) (6 * p + i + 1) r) (zt_u A r 0) lv' tr' lo' hi' V M R 80 p ∧ (∀ z, T z = 1 → lv' z = lv z ∧ tr' z = tr z) := by
  have ⟨I, N2, N3, N4⟩ := N
  have ⟨G, H, HA, HW, F⟩ := I
  have ⟨x1, x2, x3, x4, x5, x6, x7⟩ := zx_ch N hp hl hi0
  rw [hx] at x1 x2 x3 x4 x5 x6 x7
  have p8 := (G.1 p hp).1
  have x8 := (G.1 x x1).1
  have xp : x ≠ p := fun e => by rw [e] at x3; omega
  have sp : S p ≤ 4 := (N3 p hp).2 (by omega)
  have old : ∀ y, T y = 1 → y ≠ r := fun y hy e => by rw [e] at hy; omega
  have xr := old x x1
  have pr := old p hp
  have fx := F x x1
  have s4 : ∀ y, T y = 1 → y ≠ x → S y ≤ 4 := fun y hy e => (N3 y hy).2 (by omega)
  have Sr : zt_u (zt_u (zt_u (zt_u S r 0) r 2) x 2) p (S p + 1) r = 2 := by rw [zt_un pr.symm, zt_un xr.symm, zt_us]
  obtain ⟨lv', tr', lo', hi', I', d1, d2, d3⟩ := zq_split (m := 2) (T' := zt_u T r 1) (lf' := zt_u L r 0) (sz' := zt_u (zt_u (zt_u (zt_u S r 0) r 2) x 2) p (S p + 1)) (af' := zt_u A r 0) (ky' := fun y j => zt_u (zt_sh (zt_u (zt_u K (5 * r) (K (5 * x + 3))) (5 * r + 1) (K (5 * x + 4))) (5 * p + i) (5 * p + S p)) (5 * p + i) (K (5 * x + 2)) (5 * y + j)) (ch' := fun y j => zt_u (zt_sh (zt_cp C (6 * r) (6 * x + 3) 3) (6 * p + i + 1) (6 * p + S p + 1)) (6 * p + i + 1) r (6 * y + j)) (vl' := fun y j => V (5 * y + j))
    I hp hl hi0 hx (by omega) hr8 (by omega) (by omega) (fun z hz => ⟨zt_un hz, zt_un hz⟩) ⟨zt_us, by rw [zt_us]; omega⟩ zt_us
    (fun j hj => ⟨fun h => by rw [zt_un (by omega), zt_sho (by omega), zt_un (by omega), zt_un (by omega)], fun h => by rw [h, zt_us], fun k hk h => by rw [zt_un (by omega), zt_shi (by omega), zt_un (by omega), zt_un (by omega)]; exact congrArg K (by omega)⟩)
    (fun j hj => ⟨fun h => by rw [zt_un (by omega), zt_sho (by omega), zt_cpo (by omega)], fun h => by rw [zt_ue (by omega)], fun k hk h => by rw [zt_un (by omega), zt_shi (by omega), zt_cpo (by omega)]; exact congrArg C (by omega)⟩)
    (fun y a1 a2 a3 => by
      have yr := old y a1
      have := s4 y a1 a3
      refine ⟨by rw [zt_un a2, zt_un a3, zt_un yr, zt_un yr], fun j hj => ⟨?_, rfl⟩, fun j hj => ?_⟩
      · rw [zt_un (by omega), zt_sho (by omega), zt_un (by omega), zt_un (by omega)]
      · rw [zt_un (by omega), zt_sho (by omega), zt_cpo (by omega)])
    (by rw [zt_un xp, zt_us])
    (fun j hj => ⟨by rw [zt_un (by omega), zt_sho (by omega), zt_un (by omega), zt_un (by omega)], fun _ => rfl⟩)
    (fun _ j hj => by rw [zt_un (by omega), zt_sho (by omega), zt_cpo (by omega)])
    (fun h => by omega)
    (fun _ => by
      rw [Sr]
      refine ⟨by omega, fun j hj => ?_, fun j hj => ?_⟩
      · rw [zt_un (by omega), zt_sho (by omega)]
        have c : j = 0 ∨ j = 1 := by omega
        rcases c with c | c
        · rw [c, zt_un (by omega), zt_ue (by omega)]
        · rw [c, zt_ue (by omega)]
      · rw [zt_un (by omega), zt_sho (by omega), zt_cpi (by omega)]; exact congrArg C (by omega))
    (fun y a1 a2 a3 => by rw [zt_un (old y a1)])
  refine ⟨lv', tr', lo', hi', And.intro I' (And.intro ?_ (And.intro ?_ ?_)), fun z hz => d1 z (old z hz)⟩
  · refine zf_mn (p := p) (x := x) (r := r) N2 (fun y hy => ?_) d1 ?_ ?_ zt_us (fun y a1 a2 a3 a4 => by rw [zt_un a2, zt_un a3, zt_un a4, zt_un a4])
    · by_cases e : y = r
      · exact Or.inl e
      · rw [zt_un e] at hy; exact Or.inr hy
    · rw [Sr]; omega
    · rw [zt_un xp, zt_us]; omega
  · intro y hy
    by_cases e : y = p
    · rw [e, zt_us]; exact ⟨by omega, fun q => absurd rfl q⟩
    · rw [zt_un e]
      by_cases e2 : y = x
      · rw [e2, zt_us]; omega
      · rw [zt_un e2]
        by_cases e3 : y = r
        · rw [e3, zt_us]; omega
        · rw [zt_un e3] at hy
          rw [zt_un e3, zt_un e3]
          have := s4 y hy e2
          omega
  · intro j
    by_cases e : j = r
    · rw [e, zt_us]; omega
    · rw [zt_un e]; exact N4 j
end
end
section
/-! the root splits below a new root -/
section
variable {dp pl pa sk gv pr fb : Int32} {wn ws bu : Nat → Int32} {Rt T L S K C A lv tr lo hi : Nat → Nat} {V : Nat → Int64} {M : Nat → Nat → Option Int64} {R e1 e2 : Nat}
theorem zf_mng {Rt' S' T' lv' tr' : Nat → Nat} {t q x r : Nat} (N2 : zt_mn Rt T lv tr S 80) (hx : Rt t = x) (r1 : ∀ y, T' y = 1 → y = q ∨ y = r ∨ T y = 1) (n1 : ∀ z, z ≠ r → z ≠ q → lv' z = lv z ∧ tr' z = tr z) (tq : tr' q = t) (tx : tr x = t) (rq : Rt' t = q) (ro : ∀ z, z ≠ t → Rt' z = Rt z) (qx : q ≠ x)
    (hq : S' q = 1) (hr : 2 ≤ S' r) (hx2 : 2 ≤ S' x) (eo : ∀ y, T y = 1 → y ≠ q → y ≠ x → y ≠ r → S' y = S y) : zt_mn Rt' T' lv' tr' S' 80 := by
  intro y hy
  by_cases eq : y = q
  · rw [eq, tq]; exact ⟨fun e => absurd rq.symm e, fun _ _ _ => by omega⟩
  · by_cases er : y = r
    · rw [er]; exact ⟨fun _ => ⟨by omega, fun _ => hr⟩, fun _ _ _ => by omega⟩
    · by_cases ex : y = x
      · rw [ex]; exact ⟨fun _ => ⟨by omega, fun _ => hx2⟩, fun _ _ _ => by omega⟩
      · have ht : T y = 1 := by
          rcases r1 y hy with h | h | h
          · exact absurd h eq
          · exact absurd h er
          · exact h
        rw [(n1 y er eq).1, (n1 y er eq).2, eo y ht eq ex er]
        have := N2 y ht
        by_cases et : tr y = t
        · rw [et, rq]
          rw [et, hx] at this
          exact ⟨fun _ => this.1 ex, fun e => absurd e eq⟩
        · rw [ro _ et]; exact this
theorem zf_slg (N : zx_N Rt T L S K C A lv tr lo hi V M R 80 e2) {t x r q : Nat} (ht : t < 2) (hx : Rt t = x) (hlx : lv x = 0) (hsx : S x = 5) (he : e2 = x) (hr : T r = 0) (hr8 : r < 80) (hq : T q = 0) (hq8 : q < 80) (hqr : q ≠ r) :
    ∃ lv' tr' lo' hi', zx_N (zt_u Rt t q) (zt_u (zt_u T r 1) q 1) (zt_u (zt_u L r 1) q 0) (zt_u (zt_u (zt_u (zt_u (zt_u S r 0) r 3) x 2) q 0) q 1) (zt_u (zt_cp K (5 * r) (5 * x + 2) 3) (5 * q) (K (5 * x + 2))) (zt_u (zt_u C (6 * q) x) (6 * q + 1) r) (zt_u (zt_u (zt_u (zt_u A r 0) r (A x)) x (r + 1)) q 0) lv' tr' lo' hi' (zt_cp V (5 * r) (5 * x + 2) 3) M R 80 80 := by
  have ⟨I, N2, N3, N4⟩ := N
  have ⟨G, H, HA, HW, F⟩ := I
  have ⟨x1, x2, x3, x4⟩ := G.2.1 t ht
  rw [hx] at x1 x2 x3 x4
  have x8 := (G.1 x x1).1
  have old : ∀ y, T y = 1 → y ≠ r := fun y hy e => by rw [e] at hy; omega
  have oldq : ∀ y, T y = 1 → y ≠ q := fun y hy e => by rw [e] at hy; omega
  have xr := old x x1
  have xq := oldq x x1
  have fx := F x x1
  have s4 : ∀ y, T y = 1 → y ≠ x → S y ≤ 4 := fun y hy e => (N3 y hy).2 (by omega)
  have s5 : ∀ y, T y = 1 → S y ≤ 5 := fun y hy => (N3 y hy).1
  obtain ⟨lv1, tr1, lo1, hi1, I1, d1, d2, d3⟩ := zq_grow (t := t) (q := q) (T' := zt_u T q 1) (lf' := zt_u L q 0) (rt' := zt_u Rt t q) (sz' := zt_u S q 0) (af' := A) (ky' := fun y j => K (5 * y + j)) (ch' := fun y j => zt_u C (6 * q) x (6 * y + j)) (vl' := fun y j => V (5 * y + j)) I ht (by omega) hq8
    (fun z hz => ⟨zt_un hz, zt_un hz⟩) ⟨zt_us, zt_us⟩ zt_us (fun z hz => zt_un hz) zt_us (by rw [zt_ue (by omega)]; exact hx.symm)
    (fun y hy => by
      have yq := oldq y hy
      have := s5 y hy
      exact ⟨zt_un yq, fun j hj => ⟨rfl, rfl⟩, fun j hj => by rw [zt_un (by omega)]⟩)
    (fun y _ _ => rfl)
  have lx1 : lv1 x = 0 := by rw [(d1 x xq).1]; exact hlx
  have Sr : zt_u (zt_u (zt_u (zt_u (zt_u S r 0) r 3) x 2) q 0) q 1 r = 3 := by rw [zt_un hqr.symm, zt_un hqr.symm, zt_un xr.symm, zt_us]
  have Sx : zt_u (zt_u (zt_u (zt_u (zt_u S r 0) r 3) x 2) q 0) q 1 x = 2 := by rw [zt_un xq, zt_un xq, zt_us]
  obtain ⟨lv', tr', lo', hi', I', f1, f2, f3⟩ := zq_split (m := 2) (p := q) (i := 0) (x := x) (r := r) (T' := zt_u (zt_u T r 1) q 1) (lf' := zt_u (zt_u L r 1) q 0) (sz' := zt_u (zt_u (zt_u (zt_u (zt_u S r 0) r 3) x 2) q 0) q 1) (af' := zt_u (zt_u (zt_u (zt_u A r 0) r (A x)) x (r + 1)) q 0) (ky' := fun y j => zt_u (zt_cp K (5 * r) (5 * x + 2) 3) (5 * q) (K (5 * x + 2)) (5 * y + j)) (ch' := fun y j => zt_u (zt_u C (6 * q) x) (6 * q + 1) r (6 * y + j)) (vl' := fun y j => zt_cp V (5 * r) (5 * x + 2) 3 (5 * y + j))
    I1 zt_us (by omega) (by omega) (by rw [zt_ue (by omega)]) (by rw [zt_un hqr.symm]; omega) hr8 (by omega) (by rw [zt_un xq]; omega)
    (fun z hz => by
      by_cases e : z = q
      · rw [e, zt_us, zt_us, zt_us, zt_us]; exact ⟨rfl, rfl⟩
      · rw [zt_un e, zt_un e, zt_un e, zt_un e, zt_un hz, zt_un hz]; exact ⟨rfl, rfl⟩)
    ⟨by rw [zt_un hqr.symm, zt_us], by rw [zt_un hqr.symm, zt_us, zt_un xq]; omega⟩
    (by rw [zt_us, zt_us])
    (fun j hj => by
      rw [zt_us] at hj
      refine ⟨fun h => by omega, fun h => by rw [zt_ue (by omega)], fun k hk h => by omega⟩)
    (fun j hj => by
      rw [zt_us] at hj
      refine ⟨fun h => ?_, fun h => by rw [zt_ue (by omega)], fun k hk h => by omega⟩
      rw [zt_un (by omega)])
    (fun y a1 a2 a3 => by
      rw [zt_un a2] at a1
      have yr := old y a1
      have := s4 y a1 a3
      have e0 : zt_u S q 0 y = S y := zt_un a2
      rw [e0]
      refine ⟨by rw [zt_un a2, zt_un a2, zt_un a3, zt_un yr, zt_un yr], fun j hj => ⟨?_, ?_⟩, fun j hj => ?_⟩
      · rw [zt_un (by omega), zt_cpo (by omega)]
      · rw [zt_cpo (by omega)]
      · rw [zt_un (by omega)])
    Sx
    (fun j hj => ⟨by rw [zt_un (by omega), zt_cpo (by omega)], fun _ => by rw [zt_cpo (by omega)]⟩)
    (fun h => by omega)
    (fun _ => by
      rw [Sr, zt_un xq]
      refine ⟨by omega, fun j hj => ⟨?_, ?_⟩, by rw [zt_un xq, zt_us], by rw [zt_un hqr.symm, zt_un xr.symm, zt_us]⟩
      · rw [zt_un (by omega), zt_cpi (by omega)]; exact congrArg K (by omega)
      · rw [zt_cpi (by omega)]; exact congrArg V (by omega))
    (fun h => by omega)
    (fun y a1 a2 a3 => by
      by_cases e : y = q
      · rw [e] at a2; omega
      · rw [zt_un e] at a1
        rw [zt_un e, zt_un a3, zt_un (old y a1), zt_un (old y a1)])
  refine ⟨lv', tr', lo', hi', And.intro I' (And.intro ?_ (And.intro ?_ ?_))⟩
  · refine zf_mng (t := t) (q := q) (x := x) (r := r) N2 hx (fun y hy => ?_) (fun z a1 a2 => ?_) ?_ x2 zt_us (fun z hz => zt_un hz) (Ne.symm xq) zt_us ?_ ?_ (fun y a1 a2 a3 a4 => by rw [zt_un a2, zt_un a2, zt_un a3, zt_un a4, zt_un a4])
    · by_cases e : y = q
      · exact Or.inl e
      · by_cases e' : y = r
        · exact Or.inr (Or.inl e')
        · rw [zt_un e, zt_un e'] at hy; exact Or.inr (Or.inr hy)
    · rw [(f1 z a1).1, (f1 z a1).2, (d1 z a2).1, (d1 z a2).2]; exact ⟨rfl, rfl⟩
    · rw [(f1 q hqr).2]; exact d3
    · rw [Sr]; omega
    · rw [Sx]; omega
  · intro y hy
    by_cases e : y = q
    · rw [e, zt_us]; omega
    · rw [zt_un e, zt_un e]
      by_cases e2 : y = x
      · rw [e2, zt_us]; omega
      · rw [zt_un e2]
        by_cases e3 : y = r
        · rw [e3, zt_us]; omega
        · rw [zt_un e, zt_un e3] at hy
          rw [zt_un e3, zt_un e3]
          have := s4 y hy e2
          omega
  · intro j
    by_cases e : j = q
    · rw [e, zt_us]; omega
    · rw [zt_un e]
      by_cases e : j = r
      · rw [e, zt_us]; omega
      · rw [zt_un e]; exact N4 j
theorem zf_sig (N : zx_N Rt T L S K C A lv tr lo hi V M R 80 e2) {t x r q : Nat} (ht : t < 2) (hx : Rt t = x) (hlx : 0 < lv x) (hsx : S x = 5) (he : e2 = x) (hr : T r = 0) (hr8 : r < 80) (hq : T q = 0) (hq8 : q < 80) (hqr : q ≠ r) :
    ∃ lv' tr' lo' hi', zx_N (zt_u Rt t q) (zt_u (zt_u T r 1) q 1) (zt_u (zt_u L r 0) q 0) (zt_u (zt_u (zt_u (zt_u (zt_u S r 0) r 2) x 2) q 0) q 1) (zt_u (zt_u (zt_u K (5 * r) (K (5 * x + 3))) (5 * r + 1) (K (5 * x + 4))) (5 * q) (K (5 * x + 2))) (zt_u (zt_u (zt_cp C (6 * r) (6 * x + 3) 3) (6 * q) x) (6 * q + 1) r) (zt_u (zt_u A r 0) q 0) lv' tr' lo' hi' V M R 80 80 := by
  have ⟨I, N2, N3, N4⟩ := N
  have ⟨G, H, HA, HW, F⟩ := I
  have ⟨x1, x2, x3, x4⟩ := G.2.1 t ht
  rw [hx] at x1 x2 x3 x4
  have x8 := (G.1 x x1).1
  have old : ∀ y, T y = 1 → y ≠ r := fun y hy e => by rw [e] at hy; omega
  have oldq : ∀ y, T y = 1 → y ≠ q := fun y hy e => by rw [e] at hy; omega
  have xr := old x x1
  have xq := oldq x x1
  have fx := F x x1
  have s4 : ∀ y, T y = 1 → y ≠ x → S y ≤ 4 := fun y hy e => (N3 y hy).2 (by omega)
  have s5 : ∀ y, T y = 1 → S y ≤ 5 := fun y hy => (N3 y hy).1
  obtain ⟨lv1, tr1, lo1, hi1, I1, d1, d2, d3⟩ := zq_grow (t := t) (q := q) (T' := zt_u T q 1) (lf' := zt_u L q 0) (rt' := zt_u Rt t q) (sz' := zt_u S q 0) (af' := A) (ky' := fun y j => K (5 * y + j)) (ch' := fun y j => zt_u C (6 * q) x (6 * y + j)) (vl' := fun y j => V (5 * y + j)) I ht (by omega) hq8
    (fun z hz => ⟨zt_un hz, zt_un hz⟩) ⟨zt_us, zt_us⟩ zt_us (fun z hz => zt_un hz) zt_us (by rw [zt_ue (by omega)]; exact hx.symm)
    (fun y hy => by
      have yq := oldq y hy
      have := s5 y hy
      exact ⟨zt_un yq, fun j hj => ⟨rfl, rfl⟩, fun j hj => by rw [zt_un (by omega)]⟩)
    (fun y _ _ => rfl)
  have lx1 : 0 < lv1 x := by rw [(d1 x xq).1]; exact hlx
  have Sr : zt_u (zt_u (zt_u (zt_u (zt_u S r 0) r 2) x 2) q 0) q 1 r = 2 := by rw [zt_un hqr.symm, zt_un hqr.symm, zt_un xr.symm, zt_us]
  have Sx : zt_u (zt_u (zt_u (zt_u (zt_u S r 0) r 2) x 2) q 0) q 1 x = 2 := by rw [zt_un xq, zt_un xq, zt_us]
  obtain ⟨lv', tr', lo', hi', I', f1, f2, f3⟩ := zq_split (m := 2) (p := q) (i := 0) (x := x) (r := r) (T' := zt_u (zt_u T r 1) q 1) (lf' := zt_u (zt_u L r 0) q 0) (sz' := zt_u (zt_u (zt_u (zt_u (zt_u S r 0) r 2) x 2) q 0) q 1) (af' := zt_u (zt_u A r 0) q 0) (ky' := fun y j => zt_u (zt_u (zt_u K (5 * r) (K (5 * x + 3))) (5 * r + 1) (K (5 * x + 4))) (5 * q) (K (5 * x + 2)) (5 * y + j)) (ch' := fun y j => zt_u (zt_u (zt_cp C (6 * r) (6 * x + 3) 3) (6 * q) x) (6 * q + 1) r (6 * y + j)) (vl' := fun y j => V (5 * y + j))
    I1 zt_us (by omega) (by omega) (by rw [zt_ue (by omega)]) (by rw [zt_un hqr.symm]; omega) hr8 (by omega) (by rw [zt_un xq]; omega)
    (fun z hz => by
      by_cases e : z = q
      · rw [e, zt_us, zt_us, zt_us, zt_us]; exact ⟨rfl, rfl⟩
      · rw [zt_un e, zt_un e, zt_un e, zt_un e, zt_un hz, zt_un hz]; exact ⟨rfl, rfl⟩)
    ⟨by rw [zt_un hqr.symm, zt_us], by rw [zt_un hqr.symm, zt_us, zt_un xq]; omega⟩
    (by rw [zt_us, zt_us])
    (fun j hj => by
      rw [zt_us] at hj
      refine ⟨fun h => by omega, fun h => by rw [zt_ue (by omega)], fun k hk h => by omega⟩)
    (fun j hj => by
      rw [zt_us] at hj
      refine ⟨fun h => ?_, fun h => by rw [zt_ue (by omega)], fun k hk h => by omega⟩
      rw [zt_un (by omega), zt_ue (by omega), zt_ue (by omega)])
    (fun y a1 a2 a3 => by
      rw [zt_un a2] at a1
      have yr := old y a1
      have := s4 y a1 a3
      have e0 : zt_u S q 0 y = S y := zt_un a2
      rw [e0]
      refine ⟨by rw [zt_un a2, zt_un a2, zt_un a3, zt_un yr, zt_un yr], fun j hj => ⟨?_, rfl⟩, fun j hj => ?_⟩
      · rw [zt_un (by omega), zt_un (by omega), zt_un (by omega)]
      · rw [zt_un (by omega), zt_un (by omega), zt_un (by omega), zt_cpo (by omega)])
    Sx
    (fun j hj => ⟨by rw [zt_un (by omega), zt_un (by omega), zt_un (by omega)], fun _ => rfl⟩)
    (fun _ j hj => by rw [zt_un (by omega), zt_un (by omega), zt_un (by omega), zt_cpo (by omega)])
    (fun h => by omega)
    (fun _ => by
      rw [Sr, zt_un xq]
      refine ⟨by omega, fun j hj => ?_, fun j hj => ?_⟩
      · rw [zt_un (by omega)]
        have c : j = 0 ∨ j = 1 := by omega
        rcases c with c | c
        · rw [c, zt_un (by omega), zt_ue (by omega)]
        · rw [c, zt_ue (by omega)]
      · rw [zt_un (by omega), zt_un (by omega), zt_un (by omega), zt_cpi (by omega)]; exact congrArg C (by omega))
    (fun y a1 a2 a3 => by
      by_cases e : y = q
      · rw [e] at a2; omega
      · rw [zt_un e] at a1
        rw [zt_un e, zt_un (old y a1)])
  refine ⟨lv', tr', lo', hi', And.intro I' (And.intro ?_ (And.intro ?_ ?_))⟩
  · refine zf_mng (t := t) (q := q) (x := x) (r := r) N2 hx (fun y hy => ?_) (fun z a1 a2 => ?_) ?_ x2 zt_us (fun z hz => zt_un hz) (Ne.symm xq) zt_us ?_ ?_ (fun y a1 a2 a3 a4 => by rw [zt_un a2, zt_un a2, zt_un a3, zt_un a4, zt_un a4])
    · by_cases e : y = q
      · exact Or.inl e
      · by_cases e' : y = r
        · exact Or.inr (Or.inl e')
        · rw [zt_un e, zt_un e'] at hy; exact Or.inr (Or.inr hy)
    · rw [(f1 z a1).1, (f1 z a1).2, (d1 z a2).1, (d1 z a2).2]; exact ⟨rfl, rfl⟩
    · rw [(f1 q hqr).2]; exact d3
    · rw [Sr]; omega
    · rw [Sx]; omega
  · intro y hy
    by_cases e : y = q
    · rw [e, zt_us]; omega
    · rw [zt_un e, zt_un e]
      by_cases e2 : y = x
      · rw [e2, zt_us]; omega
      · rw [zt_un e2]
        by_cases e3 : y = r
        · rw [e3, zt_us]; omega
        · rw [zt_un e, zt_un e3] at hy
          rw [zt_un e3, zt_un e3]
          have := s4 y hy e2
          omega
  · intro j
    by_cases e : j = q
    · rw [e, zt_us]; omega
    · rw [zt_un e]
      by_cases e : j = r
      · rw [e, zt_us]; omega
      · rw [zt_un e]; exact N4 j
end
end
section
/-! putRecord -/
/-- an X state whose trees hold M, R records in all -/
def zx_X (M : Nat → Nat → Option Int64) (R : Nat) (gv pr fb : Int32) (bu : Nat → Int32) (u : SX) : Prop :=
  ∃ (dp pl pa sk : Int32) (wn ws : Nat → Int32) (Rt T L S K C A lv tr lo hi : Nat → Nat) (V : Nat → Int64), u = (dp, pl, pa, sk, gv, pr, fb, zn Rt, zn T, zn L, zn S, zn K, V, zn C, za A, wn, ws, bu) ∧ zx_N Rt T L S K C A lv tr lo hi V M R 80 80
section
variable {dp pl pa sk gv pr fb : Int32} {rt tk lf sz ky ch af wn ws bu : Nat → Int32} {vl : Nat → Int64}
theorem zw_140g {post : SX → Prop} {J : Int32 → Int32 → Int32 → Int32 → Int32 → Int32 → Int32 → Int32 → Int32 → (Nat → Int32) → (Nat → Int32) → (Nat → Int32) → (Nat → Int32) → (Nat → Int32) → (Nat → Int64) → (Nat → Int32) → (Nat → Int32) → (Nat → Int32) → (Nat → Int32) → (Nat → Int32) → Prop} {x5 rr : Int32} {t q : Nat} (ht : t < 2) (hq : q < 80) (h1 : ∀ j, j < q → tk j ≠ 0) (h0 : tk q = 0)
    (hJ : J x5 (-1) dp pl pa sk gv pr fb (upd rt t (nI q)) (upd tk q 1) (upd lf q 0) (upd (upd sz q 0) q 1) (upd ky (5 * q) sk) vl (upd (upd ch (6 * q) (rt t)) (6 * q + 1) rr) (upd af q (-1)) wn ws bu) :
    wX_putRecord_140 post J (nI t) x5 0 rr dp pl pa sk gv pr fb rt tk lf sz ky vl ch af wn ws bu :=
  br_t rfl (zw_grow ht hq h1 h0 (nm_r rfl hJ))
theorem zw_140p {post : SX → Prop} {J : Int32 → Int32 → Int32 → Int32 → Int32 → Int32 → Int32 → Int32 → Int32 → (Nat → Int32) → (Nat → Int32) → (Nat → Int32) → (Nat → Int32) → (Nat → Int32) → (Nat → Int64) → (Nat → Int32) → (Nat → Int32) → (Nat → Int32) → (Nat → Int32) → (Nat → Int32) → Prop} {x1 x5 rr : Int32} {l p a s : Nat} (hl : l < 8) (hw : wn l = nI p) (hs : ws l = nI a) (hp8 : p < 80) (hs4 : s ≤ 4) (ha : a ≤ s) (hz : sz p = nI s)
    (hJ : J (nI p) (nI l) dp pl pa sk gv pr fb rt tk lf (upd sz p (nI (s + 1))) (upd (zt_sh ky (5 * p + a) (5 * p + s)) (5 * p + a) sk) vl (upd (zt_sh ch (6 * p + a + 1) (6 * p + s + 1)) (6 * p + a + 1) rr) af wn ws bu) :
    wX_putRecord_140 post J x1 x5 (nI (l + 1)) rr dp pl pa sk gv pr fb rt tk lf sz ky vl ch af wn ws bu := by
  have e : nI (l + 1) - 1 = nI l := nI_pred l
  refine br_f (nI_ne0 (by omega) (by omega)) (zs_r e hl (by decide) hw (zs_i e hl (by decide) ?_))
  rw [zs_cn e (by omega), hs]
  exact zw_ins hp8 hs4 ha hz (nm_r (pk_m1 l) hJ)
end
section
variable {dp pl pa sk gv pr fb : Int32} {wn ws bu : Nat → Int32} {Rt T L S K C A lv tr lo hi : Nat → Nat} {V : Nat → Int64} {M : Nat → Nat → Option Int64} {R e1 e2 : Nat}
theorem zx_Xi (N : zx_N Rt T L S K C A lv tr lo hi V M R 80 80) : zx_X M R gv pr fb bu (dp, pl, pa, sk, gv, pr, fb, zn Rt, zn T, zn L, zn S, zn K, V, zn C, za A, wn, ws, bu) :=
  ⟨dp, pl, pa, sk, wn, ws, Rt, T, L, S, K, C, A, lv, tr, lo, hi, V, rfl, N⟩
theorem zw_put_l {post : SX → Prop} {t : Nat} {w s : Nat → Nat} (ht : t < 2) (hR : R ≤ 101) (hp : ∀ u, zx_X M R gv pr fb bu u → post u) :
    ∀ l (Rt T L S K C A lv tr lo hi : Nat → Nat) (V : Nat → Int64) (sk : Int32) x m, zx_N Rt T L S K C A lv tr lo hi V M R 80 x → w 0 = Rt t → w l = x → (∀ i, i ≤ l → T (w i) = 1 ∧ tr (w i) = t ∧ lv (w i) + i = lv (Rt t)) →
      (∀ i, i < l → s i ≤ S (w i) ∧ C (6 * w i + s i) = w (i + 1) ∧ wn i = nI (w i) ∧ ws i = nI (s i)) → l ≤ 7 → l + 1 < m → wX_putRecord_99 post (nI t) m (nI x) (nI l) dp pl pa sk gv pr fb (zn Rt) (zn T) (zn L) (zn S) (zn K) V (zn C) (za A) wn ws bu := by
  intro l
  induction l with
  | zero =>
    intro Rt T L S K C A lv tr lo hi V sk x m N hw0 hwx hw1 hw2 hl7 hm
    obtain ⟨m, rfl⟩ : ∃ k, m = k + 1 + 1 := ⟨m - 2, by omega⟩
    have ⟨I, N2, N3, N4⟩ := N
    have ⟨G, H, HA, HW, F⟩ := I
    have ⟨x1, x2, x3⟩ := hw1 0 (by omega)
    rw [hwx] at x1 x2 x3
    have x8 := (G.1 x x1).1
    have fx := F x x1
    have cx := nI_clamp (n := x) (by omega)
    have sx := N3 x x1
    have hz : zn S (nI x).toNatClampNeg = nI (S x) := by rw [cx]; rfl
    have hlf : zn L (nI x).toNatClampNeg = nI (L x) := by rw [cx]; rfl
    by_cases h4 : S x ≤ 4
    · refine br_f (nI_pos (n := 0) (by decide)) (zs_i rfl x8 (by decide) (br_t (by rw [hz]; exact nI_le (b := 4) h4 (by decide)) (hp _ (zx_Xi (And.intro I (And.intro N2 (And.intro ?_ N4)))))))
      intro y hy
      have := N3 y hy
      by_cases e : y = x
      · rw [e]; exact ⟨sx.1, fun _ => h4⟩
      · exact ⟨this.1, fun _ => this.2 e⟩
    · have few := zt_few G HW N2
      obtain ⟨r, r8, r1, r2⟩ := zt_free (T := T) (by omega)
      have r0 : T r = 0 := by have := N4 r; omega
      have rfull : ∀ j, j < r → zn T j ≠ 0 := fun j hj => by show ¬ nI (T j) = 0; rw [r2 j hj]; decide
      have rz : zn T r = 0 := by show nI (T r) = 0; rw [r0]; rfl
      have xr : x ≠ r := fun e => by rw [e] at x1; omega
      have c1 := zt_cnt1 (T := T) (T' := zt_u T r 1) r1 r8 (fun z hz => zt_un hz) zt_us
      obtain ⟨q, q8, q1, q2⟩ := zt_free (T := zt_u T r 1) (by omega)
      have qr : q ≠ r := fun e => by rw [e, zt_us] at q1; exact q1 rfl
      have q0 : T q = 0 := by rw [zt_un qr] at q1; have := N4 q; omega
      have qfull : ∀ j, j < q → zn (zt_u T r 1) j ≠ 0 := fun j hj => by show ¬ nI (zt_u T r 1 j) = 0; rw [q2 j hj]; decide
      have qz : zn (zt_u T r 1) q = 0 := by show nI (zt_u T r 1 q) = 0; rw [zt_un qr, q0]; rfl
      have hxR : Rt t = x := by rw [← hw0]; exact hwx
      have rtx : zn Rt t = nI x := by show nI (Rt t) = nI x; rw [hxR]
      have big : ¬ zn S (nI x).toNatClampNeg ≤ 4 := by rw [hz]; exact nI_ge (a := 4) (by omega) (by omega)
      by_cases hlx : lv x = 0
      · have ⟨lv', tr', lo', hi', N'⟩ := zf_slg N ht hxR hlx (by omega) rfl r0 r8 q0 q8 qr
        refine br_f (nI_pos (n := 0) (by decide)) (zs_i rfl x8 (by decide) (br_f big (zs_i rfl x8 (by decide) (br_f (by rw [hlf]; exact nI_ne0 (by omega) (by omega)) (zw_spl x8 r8 xr rfull rz ?_)))))
        refine zw_140g ht q8 (by rw [zn_u1]; exact qfull) (by rw [zn_u1]; exact qz) (br_t (by decide) (hp _ ?_))
        rw [rtx]
        simp only [zn_u, zn_u0, zn_u1, zn_u2, zn_u3, zn_uz, zn_cp, za_um, za_un, za_uz, zn_uL]
        exact zx_Xi N'
      · have ⟨lv', tr', lo', hi', N'⟩ := zf_sig N ht hxR (by omega) (by omega) rfl r0 r8 q0 q8 qr
        refine br_f (nI_pos (n := 0) (by decide)) (zs_i rfl x8 (by decide) (br_f big (zs_i rfl x8 (by decide) (br_t (by rw [hlf, show L x = 0 from by omega]; rfl) (zw_spi x8 r8 xr rfull rz ?_)))))
        refine zw_140g ht q8 (by rw [zn_u1]; exact qfull) (by rw [zn_u1]; exact qz) (br_t (by decide) (hp _ ?_))
        rw [rtx]
        simp only [zn_u, zn_u0, zn_u1, zn_u2, zn_u3, zn_uz, zn_cp, za_um, za_un, za_uz, zn_uL]
        exact zx_Xi N'
  | succ l ih =>
    intro Rt T L S K C A lv tr lo hi V sk x m N hw0 hwx hw1 hw2 hl7 hm
    obtain ⟨m, rfl⟩ : ∃ k, m = k + 1 := ⟨m - 1, by omega⟩
    have ⟨I, N2, N3, N4⟩ := N
    have ⟨G, H, HA, HW, F⟩ := I
    have ⟨x1, x2, x3⟩ := hw1 (l + 1) (by omega)
    rw [hwx] at x1 x2 x3
    have x8 := (G.1 x x1).1
    have fx := F x x1
    have cx := nI_clamp (n := x) (by omega)
    have sx := N3 x x1
    have hz : zn S (nI x).toNatClampNeg = nI (S x) := by rw [cx]; rfl
    have hlf : zn L (nI x).toNatClampNeg = nI (L x) := by rw [cx]; rfl
    by_cases h4 : S x ≤ 4
    · refine br_f (nI_pos (n := l + 1) (by omega)) (zs_i rfl x8 (by decide) (br_t (by rw [hz]; exact nI_le (b := 4) h4 (by decide)) (hp _ (zx_Xi (And.intro I (And.intro N2 (And.intro ?_ N4)))))))
      intro y hy
      have := N3 y hy
      by_cases e : y = x
      · rw [e]; exact ⟨sx.1, fun _ => h4⟩
      · exact ⟨this.1, fun _ => this.2 e⟩
    · have few := zt_few G HW N2
      obtain ⟨r, r8, r1, r2⟩ := zt_free (T := T) (by omega)
      have r0 : T r = 0 := by have := N4 r; omega
      have rfull : ∀ j, j < r → zn T j ≠ 0 := fun j hj => by show ¬ nI (T j) = 0; rw [r2 j hj]; decide
      have rz : zn T r = 0 := by show nI (T r) = 0; rw [r0]; rfl
      have xr : x ≠ r := fun e => by rw [e] at x1; omega
      have big : ¬ zn S (nI x).toNatClampNeg ≤ 4 := by rw [hz]; exact nI_ge (a := 4) (by omega) (by omega)
      have ⟨p1, p2, p3⟩ := hw1 l (by omega)
      have ⟨s1, s2, s3, s4⟩ := hw2 l (by omega)
      rw [hwx] at s2
      generalize hpe : w l = p at p1 p2 p3 s1 s2 s3
      have p8 := (G.1 p p1).1
      have px : p ≠ x := fun e => by rw [e] at p3; omega
      have pr2 : p ≠ r := fun e => by rw [e] at p1; omega
      have sp := (N3 p p1).2 px
      have way : ∀ (T' lv' tr' S' C' : Nat → Nat), (∀ z, T z = 1 → T' z = 1 ∧ lv' z = lv z ∧ tr' z = tr z) → (∀ z, T z = 1 → z ≠ p → z ≠ x → S' z = S z ∧ ∀ j, j ≤ S z → C' (6 * z + j) = C (6 * z + j)) →
          (∀ i, i ≤ l → T' (w i) = 1 ∧ tr' (w i) = t ∧ lv' (w i) + i = lv' (Rt t)) ∧ (∀ i, i < l → s i ≤ S' (w i) ∧ C' (6 * w i + s i) = w (i + 1) ∧ wn i = nI (w i) ∧ ws i = nI (s i)) := by
        intro T' lv' tr' S' C' h1 h2
        constructor
        · intro i hi0
          have ⟨a1, a2, a3⟩ := hw1 i (by omega)
          have ⟨b1, b2, b3⟩ := h1 _ a1
          have ⟨c1, c2, c3⟩ := h1 _ (G.2.1 t ht).1
          exact ⟨b1, by omega, by omega⟩
        · intro i hi0
          have ⟨a1, a2, a3⟩ := hw1 i (by omega)
          have ⟨d1, d2, d3, d4⟩ := hw2 i (by omega)
          have ip : w i ≠ p := fun e => by rw [e] at a3; omega
          have ix : w i ≠ x := fun e => by rw [e] at a3; omega
          have ⟨e1, e2⟩ := h2 _ a1 ip ix
          exact ⟨by omega, by rw [e2 _ d1]; exact d2, d3, d4⟩
      have old : ∀ y, T y = 1 → y ≠ r := fun y hy e => by rw [e] at hy; omega
      by_cases hlx : lv x = 0
      · have ⟨lv', tr', lo', hi', N', d1⟩ := zf_slp N p1 (by omega) s1 s2 hlx (by omega) rfl r0 r8
        refine br_f (nI_pos (n := l + 1) (by omega)) (zs_i rfl x8 (by decide) (br_f big (zs_i rfl x8 (by decide) (br_f (by rw [hlf]; exact nI_ne0 (by omega) (by omega)) (zw_spl x8 r8 xr rfull rz ?_)))))
        refine zw_140p (s := S p) (by omega) s3 s4 p8 sp s1 (by rw [pk_un px, pk_un pr2, pk_un pr2]; rfl) ?_
        simp only [zn_u, zn_u0, zn_u1, zn_u2, zn_u3, zn_uz, zn_cp, zn_sh, za_um, za_un, za_uz, zn_uL]
        have ⟨y1, y2⟩ := way (zt_u T r 1) lv' tr' (zt_u (zt_u (zt_u (zt_u S r 0) r 3) x 2) p (S p + 1)) (zt_u (zt_sh C (6 * p + s l + 1) (6 * p + S p + 1)) (6 * p + s l + 1) r) (fun z hz => ⟨by rw [zt_un (old z hz)]; exact hz, d1 z hz⟩) (fun z hz a1 a2 => ⟨by rw [zt_un a1, zt_un a2, zt_un (old z hz), zt_un (old z hz)], fun j hj => by
          have := (N3 z hz).1
          rw [zt_un (by omega), zt_sho (by omega)]⟩)
        exact ih _ _ _ _ _ _ _ lv' tr' lo' hi' _ _ p m N' hw0 hpe y1 y2 (by omega) (by omega)
      · have ⟨lv', tr', lo', hi', N', d1⟩ := zf_sip N p1 (by omega) s1 s2 (by omega) (by omega) rfl r0 r8
        refine br_f (nI_pos (n := l + 1) (by omega)) (zs_i rfl x8 (by decide) (br_f big (zs_i rfl x8 (by decide) (br_t (by rw [hlf, show L x = 0 from by omega]; rfl) (zw_spi x8 r8 xr rfull rz ?_)))))
        refine zw_140p (s := S p) (by omega) s3 s4 p8 sp s1 (by rw [pk_un px, pk_un pr2, pk_un pr2]; rfl) ?_
        simp only [zn_u, zn_u0, zn_u1, zn_u2, zn_u3, zn_uz, zn_cp, zn_sh, za_um, za_un, za_uz, zn_uL]
        have ⟨y1, y2⟩ := way (zt_u T r 1) lv' tr' (zt_u (zt_u (zt_u (zt_u S r 0) r 2) x 2) p (S p + 1)) (zt_u (zt_sh (zt_cp C (6 * r) (6 * x + 3) 3) (6 * p + s l + 1) (6 * p + S p + 1)) (6 * p + s l + 1) r) (fun z hz => ⟨by rw [zt_un (old z hz)]; exact hz, d1 z hz⟩) (fun z hz a1 a2 => ⟨by rw [zt_un a1, zt_un a2, zt_un (old z hz), zt_un (old z hz)], fun j hj => by
          have := (N3 z hz).1
          have := old z hz
          rw [zt_un (by omega), zt_sho (by omega), zt_cpo (by omega)]⟩)
        exact ih _ _ _ _ _ _ _ lv' tr' lo' hi' _ _ p m N' hw0 hpe y1 y2 (by omega) (by omega)
/-- the tail of putRecord: a new record -/
theorem zw_put_n (N : zx_N Rt T L S K C A lv tr lo hi V M R 80 80) {post : SX → Prop} {t k x a d : Nat} {v : Int64} {w s : Nat → Nat} (ht : t < 2) (hR : R ≤ 100) (hp : ∀ u, zx_X (zt_mu M t k (some v)) (R + 1) gv pr fb bu u → post u)
    (hw0 : w 0 = Rt t) (hwx : w d = x) (hw1 : ∀ i, i ≤ d → T (w i) = 1 ∧ tr (w i) = t ∧ lv (w i) + i = lv (Rt t)) (hw2 : ∀ i, i < d → s i ≤ S (w i) ∧ C (6 * w i + s i) = w (i + 1) ∧ wn i = nI (w i) ∧ ws i = nI (s i)) (hd : d = lv (Rt t)) (hd7 : d ≤ 7)
    (hk : lo x ≤ k) (hk' : k < hi x) (ha : a ≤ S x) (h1 : ∀ j, j < a → K (5 * x + j) < k) (h2 : ∀ j, a ≤ j → j < S x → k < K (5 * x + j)) :
    wX_putRecord_59 post (nI t) (nI k) v (nI x) (nI a) (nI d) pl pa sk gv pr fb (zn Rt) (zn T) (zn L) (zn S) (zn K) V (zn C) (za A) wn ws bu := by
  have ⟨I, N2, N3, N4⟩ := N
  have ⟨G, H, HA, HW, F⟩ := I
  have ⟨x1, x2, x3⟩ := hw1 d (by omega)
  rw [hwx] at x1 x2 x3
  have hlx : lv x = 0 := by omega
  have x8 := (G.1 x x1).1
  have sx : S x ≤ 4 := (N3 x x1).2 (by omega)
  have N' := zf_ins (v := v) N x1 hlx hk hk' ha h1 h2
  rw [x2] at N'
  refine zw_open (s := S x) x8 sx ha rfl (zs_w (zs_5a x a) (by omega) (by decide) rfl (zs_wL (zs_5a x a) (by omega) (by decide) rfl (Exists.intro (d + 2) ?_)))
  simp only [zn_u, zn_sh, zn_uL]
  refine zw_put_l (w := w) (s := s) ht (by omega) hp d _ _ _ _ _ _ _ lv tr lo hi _ _ x (d + 2) N' hw0 hwx hw1 (fun i hi0 => ?_) hd7 (by omega)
  have ⟨a1, a2, a3⟩ := hw1 i (by omega)
  have ix : w i ≠ x := fun e => by rw [e] at a3; omega
  rw [zt_un ix]
  exact hw2 i hi0
/-- putRecord -/
theorem zw_put (N : zx_N Rt T L S K C A lv tr lo hi V M R 80 80) {post : SX → Prop} {t k : Nat} {v : Int64} (ht : t < 2) (hk : k < 40000) (hR : R ≤ 100) (h0 : M t k = none → ∀ u, zx_X (zt_mu M t k (some v)) (R + 1) gv pr fb bu u → post u) (h1 : M t k ≠ none → ∀ u, zx_X (zt_mu M t k (some v)) R gv pr fb bu u → post u) :
    wpX_putRecord post (dp, pl, pa, sk, gv, pr, fb, zn Rt, zn T, zn L, zn S, zn K, V, zn C, za A, wn, ws, bu) (nI t) (nI k) v := by
  have ⟨I, N2, N3, N4⟩ := N
  have ⟨G, H, HA, HW, F⟩ := I
  obtain ⟨d, w, s, wn', ws', e0, e1, e2, e3, e4, e5, e6⟩ := zw_desc (dp := dp) (pl := pl) (pa := pa) (sk := sk) (gv := gv) (pr := pr) (fb := fb) (wn := wn) (ws := ws) (bu := bu) N (fun t ht => zt_high G HW N2 ht) ht hk
  have h6 := zt_high G HW N2 ht
  have ⟨x1, x2, x3⟩ := e2 d (by omega)
  have hlx : lv (w d) = 0 := by omega
  have x8 := (G.1 _ x1).1
  have ⟨l1, l2, l3⟩ := zx_leaf N x1 hlx
  have s5 := (N3 _ x1).1
  obtain ⟨c, c1, c2, c3, c4⟩ := zw_pos (dp := nI d) (pl := pl) (pa := pa) (sk := sk) (gv := gv) (pr := pr) (fb := fb) (wn := wn') (ws := ws') (bu := bu) (Rt := Rt) (T := T) (L := L) (S := S) (K := K) (C := C) (A := A) (V := V) (x := w d) (k := k) x8 s5 (by omega) (fun j hj => by have := zx_ksm N x1 hj; omega)
  have cx := nI_clamp (n := w d) (by omega)
  have hz : zn S (nI (w d)).toNatClampNeg = nI (S (w d)) := by rw [cx]; rfl
  have lowk : ∀ j, j < c → K (5 * w d + j) < k := fun j hj => by
    have a := c2 (c - 1) (by omega)
    by_cases e : j = c - 1
    · rw [e]; exact a
    · have := l2 j (c - 1) (by omega) (by omega); omega
  refine e6 _ (c4 _ (zs_i rfl x8 (by decide) ?_))
  have none1 : (∀ j, c ≤ j → j < S (w d) → K (5 * w d + j) ≠ k) → M t k = none := fun h => by
    by_cases hM : M t k = none
    · exact hM
    · exfalso
      rw [← x2] at hM
      obtain ⟨i, i1, i2⟩ := l3 k e4 e5 hM
      by_cases ic : i < c
      · have := lowk i ic; omega
      · exact h i (by omega) i1 i2
  by_cases hc : c < S (w d)
  · have hv : zn K ((5 : Int32) * nI (w d) + nI c).toNatClampNeg = nI (K (5 * w d + c)) := by rw [zs_cn (zs_5a (w d) c) (by omega)]; rfl
    have kc := c3 c (by omega) hc
    have ks := zx_ksm N x1 hc
    refine br_f (by rw [hz]; exact nI_ge hc (by omega)) (zs_i (zs_5a (w d) c) (by omega) (by decide) ?_)
    by_cases hkk : K (5 * w d + c) = k
    · refine br_t (by rw [hv, hkk]) (zs_wL (zs_5a (w d) c) (by omega) (by decide) rfl (h1 ?_ _ ?_))
      · have := (l1 c hc).2.2
        rw [hkk, x2] at this
        rw [this]; exact fun e => nomatch e
      · have N' := zf_set (v := v) N x1 hlx hc hkk
        rw [x2] at N'
        exact zx_Xi N'
    · have inc : ∀ j, c ≤ j → j < S (w d) → k < K (5 * w d + j) := fun j a b => by
        by_cases e : j = c
        · rw [e]; omega
        · have := l2 c j (by omega) b; omega
      refine br_f (by rw [hv]; exact fun e => hkk ((nI_eq (by omega) (by omega)).mp e)) (zw_put_n (w := w) (s := s) N ht hR (h0 (none1 (fun j a b => by have := inc j a b; omega))) e1 rfl (fun i hi0 => ?_) e3 e0 (by omega) e4 e5 c1 lowk inc)
      have ⟨a1, a2, a3⟩ := e2 i hi0
      exact ⟨a1, a2, by omega⟩
  · refine br_t (by rw [hz]; exact nI_le (by omega) (by omega)) (zw_put_n (w := w) (s := s) N ht hR (h0 (none1 (fun j a b => by omega))) e1 rfl (fun i hi0 => ?_) e3 e0 (by omega) e4 e5 c1 lowk (fun j a b => by omega))
    have ⟨a1, a2, a3⟩ := e2 i hi0
    exact ⟨a1, a2, by omega⟩
end
end
section
/-! the moves of taking out, on the flat arrays -/
section
variable {dp pl pa sk gv pr fb : Int32} {wn ws bu : Nat → Int32} {Rt T L S K C A lv tr lo hi : Nat → Nat} {V : Nat → Int64} {M : Nat → Nat → Option Int64} {R e1 e2 : Nat}
theorem zf_drop (N : zx_N Rt T L S K C A lv tr lo hi V M R 80 80) {x a k : Nat} (hx : T x = 1) (hl : lv x = 0) (ha : a < S x) (hka : K (5 * x + a) = k) :
    ∃ R', R' + 1 = R ∧ zx_N Rt T L (zt_u S x (S x - 1)) (zt_sl K (5 * x + a) (5 * x + (S x - 1))) C A lv tr lo hi (zt_sl V (5 * x + a) (5 * x + (S x - 1))) (zt_mu M (tr x) k none) R' x 80 := by
  have ⟨⟨G, H, HA, HW, F⟩, N2, N3, N4⟩ := N
  have s4 : ∀ y, T y = 1 → S y ≤ 4 := fun y hy => (N3 y hy).2 (by have := (G.1 y hy).1; omega)
  have x8 := (G.1 x hx).1
  have sx := s4 x hx
  have other : ∀ y, T y = 1 → y ≠ x → zt_u S x (S x - 1) y = S y ∧ ∀ j, j < S y → zt_sl K (5 * x + a) (5 * x + (S x - 1)) (5 * y + j) = K (5 * y + j) ∧ zt_sl V (5 * x + a) (5 * x + (S x - 1)) (5 * y + j) = V (5 * y + j) := by
    intro y hy e
    have := s4 y hy
    refine ⟨zt_un e, fun j hj => ⟨?_, ?_⟩⟩ <;> rw [zt_slo (by omega)]
  obtain ⟨R', r1, r2⟩ := zt_leaf_W (sz' := zt_u S x (S x - 1)) HW hx x8 hl (fun y h e => (other y h e).1)
  rw [zt_us] at r1
  refine ⟨R', by omega, zx_mk ?_ ?_ HA r2 F ?_ ?_ N4⟩
  · exact zt_leaf_G G hl (fun y a1 a2 a3 => ⟨(other y a1 a3).1, fun j hj => ((other y a1 a3).2 j hj).1, fun j hj => rfl⟩)
  · refine zt_drop_L G H hx hl ha hka (fun y a1 a2 a3 => other y a1 a3) (by rw [zt_us]; omega) (fun j hj => ⟨?_, ?_⟩) (fun j a1 a2 => ?_)
    · rw [zt_slo (by omega)]
    · rw [zt_slo (by omega)]
    · rw [zt_us] at a2
      exact ⟨by rw [zt_sli (by omega)]; rfl, by rw [zt_sli (by omega)]; rfl⟩
  · intro y hy
    have := N2 y hy
    by_cases e : y = x
    · rw [e] at this ⊢; rw [zt_us]
      exact ⟨fun q => ⟨by have := (this.1 q).2 (by omega); omega, fun q => absurd rfl q⟩, fun q => by omega⟩
    · rw [zt_un e]
      have y8 := (G.1 y hy).1
      exact ⟨fun q => ⟨(this.1 q).1, fun _ => (this.1 q).2 (by omega)⟩, fun a b _ => this.2 a b (by omega)⟩
  · intro y hy
    have := s4 y hy
    by_cases e : y = x
    · rw [e, zt_us]; omega
    · rw [zt_un e]; omega
theorem zf_mn2 {S' lv' tr' : Nat → Nat} {x y e : Nat} (G : zt_G Rt T lv tr lo hi S (fun x i => K (5 * x + i)) (fun x i => C (6 * x + i))) (N2 : zt_mn Rt T lv tr S e) (he : e = x ∨ e = y) (n1 : ∀ z, T z = 1 → lv' z = lv z ∧ tr' z = tr z) (hx : 2 ≤ S' x) (hy : 2 ≤ S' y) (eo : ∀ z, T z = 1 → z ≠ x → z ≠ y → S' z = S z) : zt_mn Rt T lv' tr' S' 80 := by
  intro z hz
  rw [(n1 z hz).1, (n1 z hz).2]
  by_cases ex : z = x
  · rw [ex]; exact ⟨fun _ => ⟨by omega, fun _ => hx⟩, fun _ _ _ => by omega⟩
  · by_cases ey : z = y
    · rw [ey]; exact ⟨fun _ => ⟨by omega, fun _ => hy⟩, fun _ _ _ => by omega⟩
    · rw [eo z hz ex ey]
      have := N2 z hz
      have hne : z ≠ e := by rcases he with h | h <;> rw [h] <;> assumption
      exact ⟨fun q => ⟨(this.1 q).1, fun _ => (this.1 q).2 hne⟩, fun a b _ => this.2 a b hne⟩
/-- two neighbours below p -/
theorem zf_two (N : zx_N Rt T L S K C A lv tr lo hi V M R e1 e2) {p i x y : Nat} (hp : T p = 1) (hl : 0 < lv p) (hi0 : i < S p) (hx : C (6 * p + i) = x) (hy : C (6 * p + i + 1) = y) : T x = 1 ∧ T y = 1 ∧ tr x = tr p ∧ tr y = tr p ∧ lv x + 1 = lv p ∧ lv y = lv x ∧ x ≠ y ∧ p ≠ x ∧ p ≠ y ∧ p < 80 ∧ x < 80 ∧ y < 80 ∧ L y = L x ∧ (∀ t, t < 2 → Rt t ≠ x) ∧ (∀ t, t < 2 → Rt t ≠ y) := by
  have ⟨I, N2, N3, N4⟩ := N
  have ⟨G, H, HA, HW, F⟩ := I
  have ⟨x1, x2, x3, x4, x5, x6, x7⟩ := zx_ch N hp hl (i := i) (by omega)
  have ⟨y1, y2, y3, y4, y5, y6, y7⟩ := zx_ch N hp hl (i := i + 1) (by omega)
  have r1 : ∀ t, t < 2 → Rt t ≠ C (6 * p + i) := fun t ht => zt_noroot G hp hl (i := i) (by omega) ht
  have r2 : ∀ t, t < 2 → Rt t ≠ C (6 * p + (i + 1)) := fun t ht => zt_noroot G hp hl (i := i + 1) (by omega) ht
  rw [hx] at x1 x2 x3 x4 x5 x6 x7 r1
  rw [show 6 * p + (i + 1) = 6 * p + i + 1 from rfl, hy] at y1 y2 y3 y4 y5 y6 y7 r2
  have gx := G.1 x x1
  have gy := G.1 y y1
  have b1 := x7 (by omega)
  have b2 := y5 i rfl
  have fx := F x x1
  have fy := F y y1
  exact ⟨x1, y1, x2, y2, x3, by omega, fun e => by rw [e] at b1 gx; omega, fun e => by rw [e] at x3; omega, fun e => by rw [← e] at y3; omega, (G.1 p hp).1, gx.1, gy.1, by omega, r1, r2⟩
/-- borrowing from the right, leaves -/
theorem zf_brl (N : zx_N Rt T L S K C A lv tr lo hi V M R e1 80) {p i x y : Nat} (hp : T p = 1) (hl : 0 < lv p) (hi0 : i < S p) (hx : C (6 * p + i) = x) (hy : C (6 * p + i + 1) = y) (hlx : lv x = 0) (he : e1 = x) (sx : S x = 1) (sy : 2 < S y) :
    ∃ lv' tr' lo' hi', zx_N Rt T L (zt_u (zt_u S x (S x + 1)) y (S y - 1)) (zt_sl (zt_u (zt_u K (5 * x + S x) (K (5 * y))) (5 * p + i) (K (5 * y + 1))) (5 * y) (5 * y + (S y - 1))) C A lv' tr' lo' hi' (zt_sl (zt_u V (5 * x + S x) (V (5 * y))) (5 * y) (5 * y + (S y - 1))) M R 80 80 ∧ (∀ z, T z = 1 → lv' z = lv z ∧ tr' z = tr z) := by
  have ⟨I, N2, N3, N4⟩ := N
  have ⟨G, H, HA, HW, F⟩ := I
  have ⟨x1, y1, x2, y2, x3, y3, xy, px, py, p8, x8, y8, fxy, rx, ry⟩ := zf_two N hp hl hi0 hx hy
  have s4 : ∀ y, T y = 1 → S y ≤ 4 := fun y hy => (N3 y hy).2 (by have := (G.1 y hy).1; omega)
  have sp := s4 p hp
  have sy4 := s4 y y1
  have Sy : zt_u (zt_u S x (S x + 1)) y (S y - 1) y = S y - 1 := zt_us
  obtain ⟨lv', tr', lo', hi', I', d1⟩ := zq_rebal (m := S x + 1) (sz' := zt_u (zt_u S x (S x + 1)) y (S y - 1)) (ky' := fun z j => zt_sl (zt_u (zt_u K (5 * x + S x) (K (5 * y))) (5 * p + i) (K (5 * y + 1))) (5 * y) (5 * y + (S y - 1)) (5 * z + j)) (ch' := fun z j => C (6 * z + j)) (vl' := fun z j => zt_sl (zt_u V (5 * x + S x) (V (5 * y))) (5 * y) (5 * y + (S y - 1)) (5 * z + j))
    I hp hl hi0 hx hy (by omega) (by omega) (by rw [zt_un py, zt_un px])
    (fun j hj hji => by rw [zt_slo (by omega), zt_un (by omega), zt_un (by omega)])
    (by rw [zt_slo (by omega), zt_us]; unfold zt_ck; rw [if_neg (by omega), if_pos hlx]; exact congrArg K (by omega))
    (fun j hj => rfl)
    (fun z a1 a2 a3 a4 => by
      have := s4 z a1
      refine ⟨by rw [zt_un a4, zt_un a3], fun j hj => ⟨?_, ?_⟩, fun j hj => rfl⟩
      · rw [zt_slo (by omega), zt_un (by omega), zt_un (by omega)]
      · rw [zt_slo (by omega), zt_un (by omega)])
    (by rw [zt_un xy, zt_us])
    (fun j hj => by
      have c : j < S x ∨ j = S x := by omega
      refine ⟨?_, fun _ => ?_⟩
      · unfold zt_ck
        rcases c with c | c
        · rw [zt_slo (by omega), zt_un (by omega), zt_un (by omega), if_pos c]
        · rw [zt_slo (by omega), zt_un (by omega), zt_ue (by omega), if_neg (by omega), if_pos hlx]; exact congrArg K (by omega)
      · unfold zt_cv
        rcases c with c | c
        · rw [zt_slo (by omega), zt_un (by omega), if_pos c]
        · rw [zt_slo (by omega), zt_ue (by omega), if_neg (by omega)]; exact congrArg V (by omega))
    (fun h => by omega)
    (fun _ => by
      rw [Sy]
      refine ⟨by omega, fun j hj => ⟨?_, ?_⟩⟩
      · unfold zt_ck
        rw [zt_sli (by omega), zt_un (by omega), zt_un (by omega), if_neg (by omega), if_pos hlx]; exact congrArg K (by omega)
      · unfold zt_cv
        rw [zt_sli (by omega), zt_un (by omega), if_neg (by omega)]; exact congrArg V (by omega))
    (fun h => by omega)
  refine ⟨lv', tr', lo', hi', And.intro I' (And.intro ?_ (And.intro ?_ N4)), d1⟩
  · exact zf_mn2 G N2 (Or.inl he) d1 (by rw [zt_un xy, zt_us]; omega) (by rw [zt_us]; omega) (fun z a1 a2 a3 => by rw [zt_un a3, zt_un a2])
  · intro z hz
    have := s4 z hz
    by_cases ey : z = y
    · rw [ey, zt_us]; omega
    · rw [zt_un ey]
      by_cases ex : z = x
      · rw [ex, zt_us]; omega
      · rw [zt_un ex]; omega
/-- borrowing from the right, inner nodes -/
theorem zf_bri (N : zx_N Rt T L S K C A lv tr lo hi V M R e1 80) {p i x y : Nat} (hp : T p = 1) (hl : 0 < lv p) (hi0 : i < S p) (hx : C (6 * p + i) = x) (hy : C (6 * p + i + 1) = y) (hlx : 0 < lv x) (he : e1 = x) (sx : S x = 1) (sy : 2 < S y) :
    ∃ lv' tr' lo' hi', zx_N Rt T L (zt_u (zt_u S x (S x + 1)) y (S y - 1)) (zt_sl (zt_u (zt_u K (5 * x + S x) (K (5 * p + i))) (5 * p + i) (K (5 * y))) (5 * y) (5 * y + (S y - 1))) (zt_sl (zt_u C (6 * x + S x + 1) (C (6 * y))) (6 * y) (6 * y + S y)) A lv' tr' lo' hi' (zt_sl V (5 * y) (5 * y + (S y - 1))) M R 80 80 ∧ (∀ z, T z = 1 → lv' z = lv z ∧ tr' z = tr z) := by
  have ⟨I, N2, N3, N4⟩ := N
  have ⟨G, H, HA, HW, F⟩ := I
  have ⟨x1, y1, x2, y2, x3, y3, xy, px, py, p8, x8, y8, fxy, rx, ry⟩ := zf_two N hp hl hi0 hx hy
  have s4 : ∀ y, T y = 1 → S y ≤ 4 := fun y hy => (N3 y hy).2 (by have := (G.1 y hy).1; omega)
  have sp := s4 p hp
  have sy4 := s4 y y1
  have Sy : zt_u (zt_u S x (S x + 1)) y (S y - 1) y = S y - 1 := zt_us
  have nl : ¬ lv x = 0 := by omega
  obtain ⟨lv', tr', lo', hi', I', d1⟩ := zq_rebal (m := S x + 1) (sz' := zt_u (zt_u S x (S x + 1)) y (S y - 1)) (ky' := fun z j => zt_sl (zt_u (zt_u K (5 * x + S x) (K (5 * p + i))) (5 * p + i) (K (5 * y))) (5 * y) (5 * y + (S y - 1)) (5 * z + j)) (ch' := fun z j => zt_sl (zt_u C (6 * x + S x + 1) (C (6 * y))) (6 * y) (6 * y + S y) (6 * z + j)) (vl' := fun z j => zt_sl V (5 * y) (5 * y + (S y - 1)) (5 * z + j))
    I hp hl hi0 hx hy (by omega) (by omega) (by rw [zt_un py, zt_un px])
    (fun j hj hji => by rw [zt_slo (by omega), zt_un (by omega), zt_un (by omega)])
    (by rw [zt_slo (by omega), zt_us]; unfold zt_ck; rw [if_neg (by omega), if_neg nl, if_neg (by omega)]; exact congrArg K (by omega))
    (fun j hj => by rw [zt_slo (by omega), zt_un (by omega)])
    (fun z a1 a2 a3 a4 => by
      have := s4 z a1
      refine ⟨by rw [zt_un a4, zt_un a3], fun j hj => ⟨?_, ?_⟩, fun j hj => ?_⟩
      · rw [zt_slo (by omega), zt_un (by omega), zt_un (by omega)]
      · rw [zt_slo (by omega)]
      · rw [zt_slo (by omega), zt_un (by omega)])
    (by rw [zt_un xy, zt_us])
    (fun j hj => by
      have c : j < S x ∨ j = S x := by omega
      refine ⟨?_, fun h => absurd h nl⟩
      unfold zt_ck
      rcases c with c | c
      · rw [zt_slo (by omega), zt_un (by omega), zt_un (by omega), if_pos c]
      · rw [zt_slo (by omega), zt_un (by omega), zt_ue (by omega), if_neg (by omega), if_neg nl, if_pos c])
    (fun _ j hj => by
      have c : j ≤ S x ∨ j = S x + 1 := by omega
      unfold zt_cc
      rcases c with c | c
      · rw [zt_slo (by omega), zt_un (by omega), if_pos c]
      · rw [zt_slo (by omega), zt_ue (by omega), if_neg (by omega)]; exact congrArg C (by omega))
    (fun h => absurd h nl)
    (fun _ => by
      rw [Sy]
      refine ⟨by omega, fun j hj => ?_, fun j hj => ?_⟩
      · unfold zt_ck
        rw [zt_sli (by omega), zt_un (by omega), zt_un (by omega), if_neg (by omega), if_neg nl, if_neg (by omega)]; exact congrArg K (by omega)
      · unfold zt_cc
        rw [zt_sli (by omega), zt_un (by omega), if_neg (by omega)]; exact congrArg C (by omega))
  refine ⟨lv', tr', lo', hi', And.intro I' (And.intro ?_ (And.intro ?_ N4)), d1⟩
  · exact zf_mn2 G N2 (Or.inl he) d1 (by rw [zt_un xy, zt_us]; omega) (by rw [zt_us]; omega) (fun z a1 a2 a3 => by rw [zt_un a3, zt_un a2])
  · intro z hz
    have := s4 z hz
    by_cases ey : z = y
    · rw [ey, zt_us]; omega
    · rw [zt_un ey]
      by_cases ex : z = x
      · rw [ex, zt_us]; omega
      · rw [zt_un ex]; omega
/-- borrowing from the left, leaves -/
theorem zf_bll (N : zx_N Rt T L S K C A lv tr lo hi V M R e1 80) {p i x y : Nat} (hp : T p = 1) (hl : 0 < lv p) (hi0 : i < S p) (hx : C (6 * p + i) = x) (hy : C (6 * p + i + 1) = y) (hlx : lv x = 0) (he : e1 = y) (sx : 2 < S x) (sy : S y = 1) :
    ∃ lv' tr' lo' hi', zx_N Rt T L (zt_u (zt_u S y (S y + 1)) x (S x - 1)) (zt_u (zt_u (zt_sh K (5 * y) (5 * y + S y)) (5 * y) (K (5 * x + (S x - 1)))) (5 * p + i) (K (5 * x + (S x - 1)))) C A lv' tr' lo' hi' (zt_u (zt_sh V (5 * y) (5 * y + S y)) (5 * y) (V (5 * x + (S x - 1)))) M R 80 80 ∧ (∀ z, T z = 1 → lv' z = lv z ∧ tr' z = tr z) := by
  have ⟨I, N2, N3, N4⟩ := N
  have ⟨G, H, HA, HW, F⟩ := I
  have ⟨x1, y1, x2, y2, x3, y3, xy, px, py, p8, x8, y8, fxy, rx, ry⟩ := zf_two N hp hl hi0 hx hy
  have s4 : ∀ y, T y = 1 → S y ≤ 4 := fun y hy => (N3 y hy).2 (by have := (G.1 y hy).1; omega)
  have sp := s4 p hp
  have sx4 := s4 x x1
  have Sy : zt_u (zt_u S y (S y + 1)) x (S x - 1) y = S y + 1 := by rw [zt_un xy.symm, zt_us]
  obtain ⟨lv', tr', lo', hi', I', d1⟩ := zq_rebal (m := S x - 1) (sz' := zt_u (zt_u S y (S y + 1)) x (S x - 1)) (ky' := fun z j => zt_u (zt_u (zt_sh K (5 * y) (5 * y + S y)) (5 * y) (K (5 * x + (S x - 1)))) (5 * p + i) (K (5 * x + (S x - 1))) (5 * z + j)) (ch' := fun z j => C (6 * z + j)) (vl' := fun z j => zt_u (zt_sh V (5 * y) (5 * y + S y)) (5 * y) (V (5 * x + (S x - 1))) (5 * z + j))
    I hp hl hi0 hx hy (by omega) (by omega) (by rw [zt_un px, zt_un py])
    (fun j hj hji => by rw [zt_un (by omega), zt_un (by omega), zt_sho (by omega)])
    (by rw [zt_us]; unfold zt_ck; rw [if_pos (by omega)])
    (fun j hj => rfl)
    (fun z a1 a2 a3 a4 => by
      have := s4 z a1
      refine ⟨by rw [zt_un a3, zt_un a4], fun j hj => ⟨?_, ?_⟩, fun j hj => rfl⟩
      · rw [zt_un (by omega), zt_un (by omega), zt_sho (by omega)]
      · rw [zt_un (by omega), zt_sho (by omega)])
    (by rw [zt_us])
    (fun j hj => by
      refine ⟨?_, fun _ => ?_⟩
      · unfold zt_ck
        rw [zt_un (by omega), zt_un (by omega), zt_sho (by omega), if_pos (by omega)]
      · unfold zt_cv
        rw [zt_un (by omega), zt_sho (by omega), if_pos (by omega)])
    (fun h => by omega)
    (fun _ => by
      rw [Sy]
      refine ⟨by omega, fun j hj => ?_⟩
      have c : j = 0 ∨ 0 < j := by omega
      refine ⟨?_, ?_⟩
      · unfold zt_ck
        rcases c with c | c
        · rw [zt_un (by omega), zt_ue (by omega), if_pos (by omega)]; exact congrArg K (by omega)
        · rw [zt_un (by omega), zt_un (by omega), zt_shi (by omega), if_neg (by omega), if_pos hlx]; exact congrArg K (by omega)
      · unfold zt_cv
        rcases c with c | c
        · rw [zt_ue (by omega), if_pos (by omega)]; exact congrArg V (by omega)
        · rw [zt_un (by omega), zt_shi (by omega), if_neg (by omega)]; exact congrArg V (by omega))
    (fun h => by omega)
  refine ⟨lv', tr', lo', hi', And.intro I' (And.intro ?_ (And.intro ?_ N4)), d1⟩
  · exact zf_mn2 G N2 (Or.inr he) d1 (by rw [zt_us]; omega) (by rw [Sy]; omega) (fun z a1 a2 a3 => by rw [zt_un a2, zt_un a3])
  · intro z hz
    have := s4 z hz
    by_cases ex : z = x
    · rw [ex, zt_us]; omega
    · rw [zt_un ex]
      by_cases ey : z = y
      · rw [ey, zt_us]; omega
      · rw [zt_un ey]; omega
/-- borrowing from the left, inner nodes -/
theorem zf_bli (N : zx_N Rt T L S K C A lv tr lo hi V M R e1 80) {p i x y : Nat} (hp : T p = 1) (hl : 0 < lv p) (hi0 : i < S p) (hx : C (6 * p + i) = x) (hy : C (6 * p + i + 1) = y) (hlx : 0 < lv x) (he : e1 = y) (sx : 2 < S x) (sy : S y = 1) :
    ∃ lv' tr' lo' hi', zx_N Rt T L (zt_u (zt_u S y (S y + 1)) x (S x - 1)) (zt_u (zt_u (zt_sh K (5 * y) (5 * y + S y)) (5 * y) (K (5 * p + i))) (5 * p + i) (K (5 * x + (S x - 1)))) (zt_u (zt_sh C (6 * y) (6 * y + S y + 1)) (6 * y) (C (6 * x + S x))) A lv' tr' lo' hi' (zt_sh V (5 * y) (5 * y + S y)) M R 80 80 ∧ (∀ z, T z = 1 → lv' z = lv z ∧ tr' z = tr z) := by
  have ⟨I, N2, N3, N4⟩ := N
  have ⟨G, H, HA, HW, F⟩ := I
  have ⟨x1, y1, x2, y2, x3, y3, xy, px, py, p8, x8, y8, fxy, rx, ry⟩ := zf_two N hp hl hi0 hx hy
  have s4 : ∀ y, T y = 1 → S y ≤ 4 := fun y hy => (N3 y hy).2 (by have := (G.1 y hy).1; omega)
  have sp := s4 p hp
  have sx4 := s4 x x1
  have nl : ¬ lv x = 0 := by omega
  have Sy : zt_u (zt_u S y (S y + 1)) x (S x - 1) y = S y + 1 := by rw [zt_un xy.symm, zt_us]
  obtain ⟨lv', tr', lo', hi', I', d1⟩ := zq_rebal (m := S x - 1) (sz' := zt_u (zt_u S y (S y + 1)) x (S x - 1)) (ky' := fun z j => zt_u (zt_u (zt_sh K (5 * y) (5 * y + S y)) (5 * y) (K (5 * p + i))) (5 * p + i) (K (5 * x + (S x - 1))) (5 * z + j)) (ch' := fun z j => zt_u (zt_sh C (6 * y) (6 * y + S y + 1)) (6 * y) (C (6 * x + S x)) (6 * z + j)) (vl' := fun z j => zt_sh V (5 * y) (5 * y + S y) (5 * z + j))
    I hp hl hi0 hx hy (by omega) (by omega) (by rw [zt_un px, zt_un py])
    (fun j hj hji => by rw [zt_un (by omega), zt_un (by omega), zt_sho (by omega)])
    (by rw [zt_us]; unfold zt_ck; rw [if_pos (by omega)])
    (fun j hj => by rw [zt_un (by omega), zt_sho (by omega)])
    (fun z a1 a2 a3 a4 => by
      have := s4 z a1
      refine ⟨by rw [zt_un a3, zt_un a4], fun j hj => ⟨?_, ?_⟩, fun j hj => ?_⟩
      · rw [zt_un (by omega), zt_un (by omega), zt_sho (by omega)]
      · rw [zt_sho (by omega)]
      · rw [zt_un (by omega), zt_sho (by omega)])
    (by rw [zt_us])
    (fun j hj => by
      refine ⟨?_, fun h => absurd h nl⟩
      unfold zt_ck
      rw [zt_un (by omega), zt_un (by omega), zt_sho (by omega), if_pos (by omega)])
    (fun _ j hj => by
      unfold zt_cc
      rw [zt_un (by omega), zt_sho (by omega), if_pos (by omega)])
    (fun h => absurd h nl)
    (fun _ => by
      rw [Sy]
      refine ⟨by omega, fun j hj => ?_, fun j hj => ?_⟩
      · have c : j = 0 ∨ 0 < j := by omega
        unfold zt_ck
        rcases c with c | c
        · rw [zt_un (by omega), zt_ue (by omega), if_neg (by omega), if_neg nl, if_pos (by omega)]
        · rw [zt_un (by omega), zt_un (by omega), zt_shi (by omega), if_neg (by omega), if_neg nl, if_neg (by omega)]; exact congrArg K (by omega)
      · have c : j = 0 ∨ 0 < j := by omega
        unfold zt_cc
        rcases c with c | c
        · rw [zt_ue (by omega), if_pos (by omega)]; exact congrArg C (by omega)
        · rw [zt_un (by omega), zt_shi (by omega), if_neg (by omega)]; exact congrArg C (by omega))
  refine ⟨lv', tr', lo', hi', And.intro I' (And.intro ?_ (And.intro ?_ N4)), d1⟩
  · exact zf_mn2 G N2 (Or.inr he) d1 (by rw [zt_us]; omega) (by rw [Sy]; omega) (fun z a1 a2 a3 => by rw [zt_un a2, zt_un a3])
  · intro z hz
    have := s4 z hz
    by_cases ex : z = x
    · rw [ex, zt_us]; omega
    · rw [zt_un ex]
      by_cases ey : z = y
      · rw [ey, zt_us]; omega
      · rw [zt_un ey]; omega
/-- sizes after merging -/
theorem zf_mn3 {S' T' : Nat → Nat} {p x y e : Nat} (N2 : zt_mn Rt T lv tr S e) (he : e = x ∨ e = y) (pe : p ≠ e) (r1 : ∀ z, T' z = 1 → z ≠ y ∧ T z = 1) (hx : 2 ≤ S' x) (hp : S' p = S p - 1) (eo : ∀ z, T z = 1 → z ≠ x → z ≠ y → z ≠ p → S' z = S z) : zt_mn Rt T' lv tr S' p := by
  intro z hz
  have ⟨zy, hz1⟩ := r1 z hz
  have := N2 z hz1
  by_cases ex : z = x
  · rw [ex]; exact ⟨fun _ => ⟨by omega, fun _ => hx⟩, fun _ _ _ => by omega⟩
  · have hne : z ≠ e := by rcases he with h | h <;> rw [h] <;> assumption
    by_cases ep : z = p
    · rw [ep] at this ⊢
      rw [hp]
      exact ⟨fun q => ⟨by have := (this.1 q).2 pe; omega, fun q => absurd rfl q⟩, fun _ _ q => absurd rfl q⟩
    · rw [eo z hz1 ex zy ep]
      exact ⟨fun q => ⟨(this.1 q).1, fun _ => (this.1 q).2 hne⟩, fun a b _ => this.2 a b hne⟩
/-- merging leaves -/
theorem zf_mgl (N : zx_N Rt T L S K C A lv tr lo hi V M R e1 80) {p i x y : Nat} (hp : T p = 1) (hl : 0 < lv p) (hi0 : i < S p) (hx : C (6 * p + i) = x) (hy : C (6 * p + i + 1) = y) (hlx : lv x = 0) (he : e1 = x ∨ e1 = y) (sxy : S x + S y = 3) :
    ∃ hi', zx_N Rt (zt_u T y 0) L (zt_u (zt_u S x (S x + S y)) p (S p - 1)) (zt_sl (zt_cp K (5 * x + S x) (5 * y) (S y)) (5 * p + i) (5 * p + (S p - 1))) (zt_sl C (6 * p + i + 1) (6 * p + S p)) (zt_u A x (A y)) lv tr lo hi' (zt_cp V (5 * x + S x) (5 * y) (S y)) M R p 80 := by
  have ⟨I, N2, N3, N4⟩ := N
  have ⟨G, H, HA, HW, F⟩ := I
  have ⟨x1, y1, x2, y2, x3, y3, xy, px, py, p8, x8, y8, fxy, rx, ry⟩ := zf_two N hp hl hi0 hx hy
  have s4 : ∀ y, T y = 1 → S y ≤ 4 := fun y hy => (N3 y hy).2 (by have := (G.1 y hy).1; omega)
  have sp := s4 p hp
  have Told : ∀ z, zt_u T y 0 z = 1 → z ≠ y ∧ T z = 1 := fun z h => by
    by_cases e : z = y
    · rw [e, zt_us] at h; omega
    · rw [zt_un e] at h; exact ⟨e, h⟩
  have Sp : zt_u (zt_u S x (S x + S y)) p (S p - 1) p = S p - 1 := zt_us
  have Sx : zt_u (zt_u S x (S x + S y)) p (S p - 1) x = S x + S y := by rw [zt_un px.symm, zt_us]
  obtain ⟨hi', I'⟩ := zq_merge (T' := zt_u T y 0) (lf' := L) (sz' := zt_u (zt_u S x (S x + S y)) p (S p - 1)) (af' := zt_u A x (A y)) (ky' := fun z j => zt_sl (zt_cp K (5 * x + S x) (5 * y) (S y)) (5 * p + i) (5 * p + (S p - 1)) (5 * z + j)) (ch' := fun z j => zt_sl C (6 * p + i + 1) (6 * p + S p) (6 * z + j)) (vl' := fun z j => zt_cp V (5 * x + S x) (5 * y) (S y) (5 * z + j))
    I hp hl hi0 hx hy (fun z hz => ⟨zt_un hz, rfl⟩) (by rw [zt_us]; omega) (by rw [Sp]; omega)
    (fun j hj => by
      rw [Sp] at hj
      exact ⟨fun h => by rw [zt_slo (by omega), zt_cpo (by omega)], fun h => by rw [zt_sli (by omega), zt_cpo (by omega)]; rfl⟩)
    (fun j hj => by
      rw [Sp] at hj
      exact ⟨fun h => by rw [zt_slo (by omega)], fun h => by rw [zt_sli (by omega)]; rfl⟩)
    (fun z a1 a2 a3 a4 => by
      have := s4 z a1
      refine ⟨by rw [zt_un a2, zt_un a3], fun j hj => ⟨?_, ?_⟩, fun j hj => ?_⟩
      · rw [zt_slo (by omega), zt_cpo (by omega)]
      · rw [zt_cpo (by omega)]
      · rw [zt_slo (by omega)])
    (fun j hj => ⟨by rw [zt_slo (by omega), zt_cpo (by omega)], fun _ => by rw [zt_cpo (by omega)]⟩)
    (fun _ => ⟨Sx, fun j hj => ⟨by rw [zt_slo (by omega), zt_cpi (by omega)]; exact congrArg K (by omega), by rw [zt_cpi (by omega)]; exact congrArg V (by omega)⟩, zt_us⟩)
    (fun h => by omega)
    (fun z a1 a2 a3 a4 => zt_un a3)
  refine ⟨hi', And.intro I' (And.intro ?_ (And.intro ?_ ?_))⟩
  · exact zf_mn3 N2 he (by rcases he with h | h <;> rw [h] <;> assumption) Told (by rw [Sx]; omega) Sp (fun z a1 a2 a3 a4 => by rw [zt_un a4, zt_un a2])
  · intro z hz
    have := s4 z (Told z hz).2
    by_cases ep : z = p
    · rw [ep, zt_us]; omega
    · rw [zt_un ep]
      by_cases ex : z = x
      · rw [ex, zt_us]; omega
      · rw [zt_un ex]; omega
  · intro j
    by_cases e : j = y
    · rw [e, zt_us]; omega
    · rw [zt_un e]; exact N4 j
/-- merging inner nodes -/
theorem zf_mgi (N : zx_N Rt T L S K C A lv tr lo hi V M R e1 80) {p i x y : Nat} (hp : T p = 1) (hl : 0 < lv p) (hi0 : i < S p) (hx : C (6 * p + i) = x) (hy : C (6 * p + i + 1) = y) (hlx : 0 < lv x) (he : e1 = x ∨ e1 = y) (sxy : S x + S y = 3) :
    ∃ hi', zx_N Rt (zt_u T y 0) L (zt_u (zt_u S x (S x + 1 + S y)) p (S p - 1)) (zt_sl (zt_cp (zt_u K (5 * x + S x) (K (5 * p + i))) (5 * x + (S x + 1)) (5 * y) (S y)) (5 * p + i) (5 * p + (S p - 1))) (zt_sl (zt_cp (zt_u C (6 * x + S x + 1) (C (6 * y))) (6 * x + (S x + 1) + 1) (6 * y + 1) (S y)) (6 * p + i + 1) (6 * p + S p)) (zt_u A x (A y)) lv tr lo hi' (zt_cp V (5 * x + (S x + 1)) (5 * y) (S y)) M R p 80 := by
  have ⟨I, N2, N3, N4⟩ := N
  have ⟨G, H, HA, HW, F⟩ := I
  have ⟨x1, y1, x2, y2, x3, y3, xy, px, py, p8, x8, y8, fxy, rx, ry⟩ := zf_two N hp hl hi0 hx hy
  have s4 : ∀ y, T y = 1 → S y ≤ 4 := fun y hy => (N3 y hy).2 (by have := (G.1 y hy).1; omega)
  have sp := s4 p hp
  have nl : ¬ lv x = 0 := by omega
  have Told : ∀ z, zt_u T y 0 z = 1 → z ≠ y ∧ T z = 1 := fun z h => by
    by_cases e : z = y
    · rw [e, zt_us] at h; omega
    · rw [zt_un e] at h; exact ⟨e, h⟩
  have Sp : zt_u (zt_u S x (S x + 1 + S y)) p (S p - 1) p = S p - 1 := zt_us
  have Sx : zt_u (zt_u S x (S x + 1 + S y)) p (S p - 1) x = S x + 1 + S y := by rw [zt_un px.symm, zt_us]
  obtain ⟨hi', I'⟩ := zq_merge (T' := zt_u T y 0) (lf' := L) (sz' := zt_u (zt_u S x (S x + 1 + S y)) p (S p - 1)) (af' := zt_u A x (A y)) (ky' := fun z j => zt_sl (zt_cp (zt_u K (5 * x + S x) (K (5 * p + i))) (5 * x + (S x + 1)) (5 * y) (S y)) (5 * p + i) (5 * p + (S p - 1)) (5 * z + j)) (ch' := fun z j => zt_sl (zt_cp (zt_u C (6 * x + S x + 1) (C (6 * y))) (6 * x + (S x + 1) + 1) (6 * y + 1) (S y)) (6 * p + i + 1) (6 * p + S p) (6 * z + j)) (vl' := fun z j => zt_cp V (5 * x + (S x + 1)) (5 * y) (S y) (5 * z + j))
    I hp hl hi0 hx hy (fun z hz => ⟨zt_un hz, rfl⟩) (by rw [zt_us]; omega) (by rw [Sp]; omega)
    (fun j hj => by
      rw [Sp] at hj
      exact ⟨fun h => by rw [zt_slo (by omega), zt_cpo (by omega), zt_un (by omega)], fun h => by rw [zt_sli (by omega), zt_cpo (by omega), zt_un (by omega)]; rfl⟩)
    (fun j hj => by
      rw [Sp] at hj
      exact ⟨fun h => by rw [zt_slo (by omega), zt_cpo (by omega), zt_un (by omega)], fun h => by rw [zt_sli (by omega), zt_cpo (by omega), zt_un (by omega)]; rfl⟩)
    (fun z a1 a2 a3 a4 => by
      have := s4 z a1
      refine ⟨by rw [zt_un a2, zt_un a3], fun j hj => ⟨?_, ?_⟩, fun j hj => ?_⟩
      · rw [zt_slo (by omega), zt_cpo (by omega), zt_un (by omega)]
      · rw [zt_cpo (by omega)]
      · rw [zt_slo (by omega), zt_cpo (by omega), zt_un (by omega)])
    (fun j hj => ⟨by rw [zt_slo (by omega), zt_cpo (by omega), zt_un (by omega)], fun h => absurd h nl⟩)
    (fun h => absurd h nl)
    (fun _ => by
      refine ⟨Sx, ?_, fun j hj => ?_, fun j hj => ?_, fun j hj => ?_⟩
      · rw [zt_slo (by omega), zt_cpo (by omega), zt_us]
      · rw [zt_slo (by omega), zt_cpi (by omega), zt_un (by omega)]; exact congrArg K (by omega)
      · rw [zt_slo (by omega), zt_cpo (by omega), zt_un (by omega)]
      · by_cases c : j = 0
        · rw [zt_slo (by omega), zt_cpo (by omega), zt_ue (by omega)]; exact congrArg C (by omega)
        · rw [zt_slo (by omega), zt_cpi (by omega), zt_un (by omega)]; exact congrArg C (by omega))
    (fun z a1 a2 a3 a4 => zt_un a3)
  refine ⟨hi', And.intro I' (And.intro ?_ (And.intro ?_ ?_))⟩
  · exact zf_mn3 N2 he (by rcases he with h | h <;> rw [h] <;> assumption) Told (by rw [Sx]; omega) Sp (fun z a1 a2 a3 a4 => by rw [zt_un a4, zt_un a2])
  · intro z hz
    have := s4 z (Told z hz).2
    by_cases ep : z = p
    · rw [ep, zt_us]; omega
    · rw [zt_un ep]
      by_cases ex : z = x
      · rw [ex, zt_us]; omega
      · rw [zt_un ex]; omega
  · intro j
    by_cases e : j = y
    · rw [e, zt_us]; omega
    · rw [zt_un e]; exact N4 j
end
end
section
/-! repair and dropRecord -/
/-- what follows a repair below p -/
def zr_P (post : SX → Prop) (dp pl pa sk gv pr fb : Int32) (wn ws bu : Nat → Int32) (Rt T L S C lv tr : Nat → Nat) (M : Nat → Nat → Option Int64) (R p : Nat) : Prop :=
  ∀ (T' S' K' C' A' lv' tr' lo' hi' : Nat → Nat) (V' : Nat → Int64), zx_N Rt T' L S' K' C' A' lv' tr' lo' hi' V' M R p 80 → (∀ z, T z = 1 → lv p ≤ lv z → T' z = 1 ∧ lv' z = lv z ∧ tr' z = tr z) → (∀ z, T z = 1 → lv p < lv z → S' z = S z ∧ ∀ j, j ≤ S z → C' (6 * z + j) = C (6 * z + j)) →
    post (dp, pl, pa, sk, gv, pr, fb, zn Rt, zn T', zn L, zn S', zn K', V', zn C', za A', wn, ws, bu)
section
variable {dp pl pa sk gv pr fb : Int32} {wn ws bu : Nat → Int32} {Rt T L S K C A lv tr lo hi : Nat → Nat} {V : Nat → Int64} {M : Nat → Nat → Option Int64} {R e1 e2 : Nat}
theorem zf_w (N : zx_N Rt T L S K C A lv tr lo hi V M R 80 e2) {e : Nat} : zx_N Rt T L S K C A lv tr lo hi V M R e e2 := by
  have ⟨I, N2, N3, N4⟩ := N
  refine And.intro I (And.intro ?_ (And.intro N3 N4))
  intro z hz
  have z8 := (I.1.1 z hz).1
  have := N2 z hz
  exact ⟨fun q => ⟨(this.1 q).1, fun _ => (this.1 q).2 (by omega)⟩, fun a b _ => this.2 a b (by omega)⟩
theorem zr_bl {post : SX → Prop} {p i x y : Nat} (N : zx_N Rt T L S K C A lv tr lo hi V M R y 80) (hp : T p = 1) (hl : 0 < lv p) (hi0 : i < S p) (hx : C (6 * p + i) = x) (hy : C (6 * p + i + 1) = y) (sx : 2 < S x) (sy : S y = 1) (hP : zr_P post dp pl pa sk gv pr fb wn ws bu Rt T L S C lv tr M R p) : wpX_borrowFromLeft post (dp, pl, pa, sk, gv, pr, fb, zn Rt, zn T, zn L, zn S, zn K, V, zn C, za A, wn, ws, bu) (nI p) (nI (i + 1)) := by
  have ⟨I, N2, N3, N4⟩ := N
  have ⟨G, H, HA, HW, F⟩ := I
  have ⟨x1, y1, x2, y2, x3, y3, xy, px, py, p8, x8, y8, fxy, rx, ry⟩ := zf_two N hp hl hi0 hx hy
  have sp := (N3 p hp).2 (by omega)
  have sx4 := (N3 x x1).2 (by omega)
  have fx := F x x1
  have cx : zn C (6 * p + i) = nI x := by show nI _ = _; rw [hx]
  have cy : zn C (6 * p + i + 1) = nI y := by show nI _ = _; rw [hy]
  by_cases hlx : lv x = 0
  · obtain ⟨lv', tr', lo', hi', N', d1⟩ := zf_bll N hp hl hi0 hx hy hlx rfl sx sy
    refine zw_bll (n := S x) (s := S y) p8 (by omega) x8 y8 xy py px (by omega) (by omega) (by omega) cx cy rfl rfl (by show ¬ nI (L y) = 0; exact nI_ne0 (by omega) (by omega)) ?_
    simp only [zn_u, zn_uz, zn_sh, zn_uL]
    exact hP _ _ _ _ _ lv' tr' lo' hi' _ (zf_w N') (fun z hz _ => ⟨hz, d1 z hz⟩) (fun z hz hlz => ⟨by rw [zt_un (fun e => by rw [e] at hlz; omega), zt_un (fun e => by rw [e] at hlz; omega)], fun j hj => rfl⟩)
  · obtain ⟨lv', tr', lo', hi', N', d1⟩ := zf_bli N hp hl hi0 hx hy (by omega) rfl sx sy
    refine zw_bli (n := S x) (s := S y) p8 (by omega) x8 y8 xy py px (by omega) (by omega) (by omega) cx cy rfl rfl (by show nI (L y) = 0; rw [show L y = 0 from by omega]; rfl) ?_
    simp only [zn_u, zn_uz, zn_sh, zn_uL]
    refine hP _ _ _ _ _ lv' tr' lo' hi' _ (zf_w N') (fun z hz _ => ⟨hz, d1 z hz⟩) (fun z hz hlz => ?_)
    have zx : z ≠ x := fun e => by rw [e] at hlz; omega
    have zy : z ≠ y := fun e => by rw [e] at hlz; omega
    have := (N3 z hz).1
    exact ⟨by rw [zt_un zx, zt_un zy], fun j hj => by rw [zt_un (by omega), zt_sho (by omega)]⟩
theorem zr_br {post : SX → Prop} {p i x y : Nat} (N : zx_N Rt T L S K C A lv tr lo hi V M R x 80) (hp : T p = 1) (hl : 0 < lv p) (hi0 : i < S p) (hx : C (6 * p + i) = x) (hy : C (6 * p + i + 1) = y) (sx : S x = 1) (sy : 2 < S y) (hP : zr_P post dp pl pa sk gv pr fb wn ws bu Rt T L S C lv tr M R p) : wpX_borrowFromRight post (dp, pl, pa, sk, gv, pr, fb, zn Rt, zn T, zn L, zn S, zn K, V, zn C, za A, wn, ws, bu) (nI p) (nI i) := by
  have ⟨I, N2, N3, N4⟩ := N
  have ⟨G, H, HA, HW, F⟩ := I
  have ⟨x1, y1, x2, y2, x3, y3, xy, px, py, p8, x8, y8, fxy, rx, ry⟩ := zf_two N hp hl hi0 hx hy
  have sp := (N3 p hp).2 (by omega)
  have sy4 := (N3 y y1).2 (by omega)
  have fx := F x x1
  have cx : zn C (6 * p + i) = nI x := by show nI _ = _; rw [hx]
  have cy : zn C (6 * p + i + 1) = nI y := by show nI _ = _; rw [hy]
  by_cases hlx : lv x = 0
  · obtain ⟨lv', tr', lo', hi', N', d1⟩ := zf_brl N hp hl hi0 hx hy hlx rfl sx sy
    refine zw_brl (n := S x) (s := S y) p8 (by omega) x8 y8 xy py (by omega) (by omega) (by omega) cx cy rfl rfl (by show ¬ nI (L x) = 0; exact nI_ne0 (by omega) (by omega)) ?_
    simp only [zn_u, zn_uz, zn_sl, zn_uL]
    exact hP _ _ _ _ _ lv' tr' lo' hi' _ (zf_w N') (fun z hz _ => ⟨hz, d1 z hz⟩) (fun z hz hlz => ⟨by rw [zt_un (fun e => by rw [e] at hlz; omega), zt_un (fun e => by rw [e] at hlz; omega)], fun j hj => rfl⟩)
  · obtain ⟨lv', tr', lo', hi', N', d1⟩ := zf_bri N hp hl hi0 hx hy (by omega) rfl sx sy
    refine zw_bri (n := S x) (s := S y) p8 (by omega) x8 y8 xy py (by omega) (by omega) (by omega) cx cy rfl rfl (by show nI (L x) = 0; rw [show L x = 0 from by omega]; rfl) ?_
    simp only [zn_u, zn_uz, zn_sl, zn_uL]
    refine hP _ _ _ _ _ lv' tr' lo' hi' _ (zf_w N') (fun z hz _ => ⟨hz, d1 z hz⟩) (fun z hz hlz => ?_)
    have zx : z ≠ x := fun e => by rw [e] at hlz; omega
    have zy : z ≠ y := fun e => by rw [e] at hlz; omega
    have := (N3 z hz).1
    exact ⟨by rw [zt_un zy, zt_un zx], fun j hj => by rw [zt_slo (by omega), zt_un (by omega)]⟩
theorem zr_mg {post : SX → Prop} {p i x y : Nat} (N : zx_N Rt T L S K C A lv tr lo hi V M R e1 80) (hp : T p = 1) (hl : 0 < lv p) (hi0 : i < S p) (hx : C (6 * p + i) = x) (hy : C (6 * p + i + 1) = y) (he : e1 = x ∨ e1 = y) (sxy : S x + S y = 3) (hP : zr_P post dp pl pa sk gv pr fb wn ws bu Rt T L S C lv tr M R p) : wpX_merge post (dp, pl, pa, sk, gv, pr, fb, zn Rt, zn T, zn L, zn S, zn K, V, zn C, za A, wn, ws, bu) (nI p) (nI i) := by
  have ⟨I, N2, N3, N4⟩ := N
  have ⟨G, H, HA, HW, F⟩ := I
  have ⟨x1, y1, x2, y2, x3, y3, xy, px, py, p8, x8, y8, fxy, rx, ry⟩ := zf_two N hp hl hi0 hx hy
  have sp := (N3 p hp).2 (by omega)
  have fx := F x x1
  have cx : zn C (6 * p + i) = nI x := by show nI _ = _; rw [hx]
  have cy : zn C (6 * p + i + 1) = nI y := by show nI _ = _; rw [hy]
  by_cases hlx : lv x = 0
  · obtain ⟨hi', N'⟩ := zf_mgl N hp hl hi0 hx hy hlx he sxy
    refine zw_mgl (n := S x) (q := S y) (s := S p) p8 (by omega) hi0 x8 y8 xy px (by omega) cx cy rfl rfl rfl (by show ¬ nI (L x) = 0; exact nI_ne0 (by omega) (by omega)) ?_
    simp only [zn_u, zn_u0, zn_uz, zn_sl, zn_cp, zn_uL, za_uz]
    refine hP _ _ _ _ _ lv tr lo hi' _ N' (fun z hz hlz => ⟨by rw [zt_un (fun e => by rw [e] at hlz; omega)]; exact hz, rfl, rfl⟩) (fun z hz hlz => ?_)
    have zx : z ≠ x := fun e => by rw [e] at hlz; omega
    have zp : z ≠ p := fun e => by rw [e] at hlz; omega
    have := (N3 z hz).1
    exact ⟨by rw [zt_un zp, zt_un zx], fun j hj => by rw [zt_slo (by omega)]⟩
  · obtain ⟨hi', N'⟩ := zf_mgi N hp hl hi0 hx hy (by omega) he sxy
    refine zw_mgi (n := S x) (q := S y) (s := S p) p8 (by omega) hi0 x8 y8 xy px py (by omega) cx cy rfl rfl rfl (by show nI (L x) = 0; rw [show L x = 0 from by omega]; rfl) ?_
    simp only [zn_u, zn_u0, zn_uz, zn_sl, zn_cp, zn_uL, za_uz]
    refine hP _ _ _ _ _ lv tr lo hi' _ N' (fun z hz hlz => ⟨by rw [zt_un (fun e => by rw [e] at hlz; omega)]; exact hz, rfl, rfl⟩) (fun z hz hlz => ?_)
    have zx : z ≠ x := fun e => by rw [e] at hlz; omega
    have zp : z ≠ p := fun e => by rw [e] at hlz; omega
    have := (N3 z hz).1
    exact ⟨by rw [zt_un zp, zt_un zx], fun j hj => by rw [zt_slo (by omega), zt_cpo (by omega), zt_un (by omega)]⟩
theorem zr_rep {post : SX → Prop} {p a x : Nat} (N : zx_N Rt T L S K C A lv tr lo hi V M R x 80) (hp : T p = 1) (hl : 0 < lv p) (ha : a ≤ S p) (hx : C (6 * p + a) = x) (sx : S x = 1) (sp1 : 1 ≤ S p) (hP : zr_P post dp pl pa sk gv pr fb wn ws bu Rt T L S C lv tr M R p) : wpX_repair post (dp, pl, pa, sk, gv, pr, fb, zn Rt, zn T, zn L, zn S, zn K, V, zn C, za A, wn, ws, bu) (nI p) (nI a) := by
  have ⟨I, N2, N3, N4⟩ := N
  have ⟨G, H, HA, HW, F⟩ := I
  have p8 := (G.1 p hp).1
  have sp := (N3 p hp).2 (by omega)
  have cp := nI_clamp (n := p) (by omega)
  have hz : zn S (nI p).toNatClampNeg = nI (S p) := by rw [cp]; rfl
  -- the sibling at place j: its number and its size
  have sib : ∀ j, j ≤ S p → j ≠ a → T (C (6 * p + j)) = 1 ∧ C (6 * p + j) < 80 ∧ 2 ≤ S (C (6 * p + j)) ∧ S (C (6 * p + j)) ≤ 4 ∧ zn S (zn C (6 * p + j)).toNatClampNeg = nI (S (C (6 * p + j))) := fun j hj hja => by
    have ⟨c1, c2, c3, c4, c5, c6, c7⟩ := zx_ch N hp hl hj
    have c8 := G.1 _ c1
    have ne : C (6 * p + j) ≠ x := fun e => hja (zt_uniq G hp hl hj hp hl ha (e.trans hx.symm)).2
    have nr : C (6 * p + j) ≠ Rt (tr (C (6 * p + j))) := fun e => zt_noroot G hp hl (i := j) hj c8.2.1 e.symm
    refine ⟨c1, c8.1, ((N2 _ c1).1 nr).2 ne, (N3 _ c1).2 (by omega), ?_⟩
    show zn S (nI (C (6 * p + j))).toNatClampNeg = _
    rw [nI_clamp (by omega)]; rfl
  -- merging, when neither sibling can lend
  have mg : (0 < a → S (C (6 * p + (a - 1))) = 2) → (a < S p → S (C (6 * p + (a + 1))) = 2) → ∀ x3 : Int32, (a = 0 ∧ x3 = 0) ∨ (0 < a ∧ x3 = 1) → wX_repair_98 post (nI p) (nI a) x3 dp pl pa sk gv pr fb (zn Rt) (zn T) (zn L) (zn S) (zn K) V (zn C) (za A) wn ws bu := fun h1 h2 x3 h3 => by
    rcases h3 with ⟨h3, h4⟩ | ⟨h3, h4⟩
    · refine br_t h4 ?_
      exact zr_mg (i := a) (x := x) N hp hl (by omega) hx rfl (Or.inl rfl) (by rw [sx]; have := h2 (by omega); rw [show 6 * p + a + 1 = 6 * p + (a + 1) from rfl]; omega) hP
    · refine br_f (by rw [h4]; decide) ?_
      rw [zs_s1 (by omega)]
      exact zr_mg (i := a - 1) (y := x) N hp hl (by omega) rfl (by rw [show 6 * p + (a - 1) + 1 = 6 * p + a from by omega]; exact hx) (Or.inr rfl) (by rw [sx]; have := h1 (by omega); omega) hP
  have right : (0 < a → S (C (6 * p + (a - 1))) = 2) → ∀ x3 x4 : Int32, (a = 0 ∧ x3 = 0) ∨ (0 < a ∧ x3 = 1) → (a = S p ∧ x4 = 0) ∨ (a < S p ∧ x4 = 1) → wX_repair_62 post (nI p) (nI a) x3 x4 dp pl pa sk gv pr fb (zn Rt) (zn T) (zn L) (zn S) (zn K) V (zn C) (za A) wn ws bu := fun h1 x3 x4 h3 h5 => by
    rcases h5 with ⟨h5, h6⟩ | ⟨h5, h6⟩
    · exact br_t h6 (mg h1 (fun h => by omega) x3 h3)
    · have ⟨q1, q2, q3, q4, q5⟩ := sib (a + 1) (by omega) (by omega)
      have e1 : (6 : Int32) * nI p + nI a + 1 = nI (6 * p + (a + 1)) := by rw [zs_6a, nI_1]; rfl
      have e2 : zn C ((6 : Int32) * nI p + nI a + 1).toNatClampNeg = zn C (6 * p + (a + 1)) := by rw [zs_cn e1 (by omega)]
      refine br_f (by rw [h6]; decide) (zs_i e1 (by omega) (by decide) ?_)
      rw [e2]
      refine zs_i rfl q2 (by decide) ?_
      rw [q5]
      by_cases h7 : S (C (6 * p + (a + 1))) ≤ 2
      · exact br_t (nI_le (b := 2) h7 (by decide)) (mg h1 (fun _ => by omega) x3 h3)
      · exact br_f (nI_ge (a := 2) (by omega) (by omega)) (zr_br (x := x) N hp hl h5 hx rfl sx (by rw [show 6 * p + a + 1 = 6 * p + (a + 1) from rfl]; omega) hP)
  have left : ∀ x3 x4 : Int32, (a = 0 ∧ x3 = 0) ∨ (0 < a ∧ x3 = 1) → (a = S p ∧ x4 = 0) ∨ (a < S p ∧ x4 = 1) → wX_repair_25 post (nI p) (nI a) x3 x4 dp pl pa sk gv pr fb (zn Rt) (zn T) (zn L) (zn S) (zn K) V (zn C) (za A) wn ws bu := fun x3 x4 h3 h5 => by
    rcases h3 with ⟨h3, h4⟩ | ⟨h3, h4⟩
    · exact br_t h4 (right (fun h => by omega) x3 x4 (Or.inl ⟨h3, h4⟩) h5)
    · have ⟨q1, q2, q3, q4, q5⟩ := sib (a - 1) (by omega) (by omega)
      have e1 : (6 : Int32) * nI p + nI a - 1 = nI (6 * p + (a - 1)) := by rw [zs_6a, zs_s1 (by omega), show 6 * p + a - 1 = 6 * p + (a - 1) from by omega]
      have e2 : zn C ((6 : Int32) * nI p + nI a - 1).toNatClampNeg = zn C (6 * p + (a - 1)) := by rw [zs_cn e1 (by omega)]
      refine br_f (by rw [h4]; decide) (zs_i e1 (by omega) (by decide) ?_)
      rw [e2]
      refine zs_i rfl q2 (by decide) ?_
      rw [q5]
      by_cases h7 : S (C (6 * p + (a - 1))) ≤ 2
      · exact br_t (nI_le (b := 2) h7 (by decide)) (right (fun _ => by omega) x3 x4 (Or.inr ⟨h3, h4⟩) h5)
      · refine br_f (nI_ge (a := 2) (by omega) (by omega)) ?_
        rw [show nI a = nI (a - 1 + 1) from congrArg nI (by omega)]
        exact zr_bl (y := x) N hp hl (by omega) rfl (by rw [show 6 * p + (a - 1) + 1 = 6 * p + a from by omega]; exact hx) (by omega) sx hP
  have nine : ∀ x3 : Int32, (a = 0 ∧ x3 = 0) ∨ (0 < a ∧ x3 = 1) → wX_repair_9 post (nI p) (nI a) x3 dp pl pa sk gv pr fb (zn Rt) (zn T) (zn L) (zn S) (zn K) V (zn C) (za A) wn ws bu := fun x3 h3 => by
    refine zs_i rfl p8 (by decide) ?_
    rw [hz]
    by_cases h : S p ≤ a
    · exact br_t (nI_le h (by omega)) (left x3 0 h3 (Or.inl ⟨by omega, rfl⟩))
    · exact br_f (nI_ge (by omega) (by omega)) (left x3 1 h3 (Or.inr ⟨by omega, rfl⟩))
  by_cases h : a = 0
  · exact br_t (nI_le (b := 0) (by omega) (by omega)) (nine 0 (Or.inl ⟨h, rfl⟩))
  · exact br_f (nI_ge (a := 0) (by omega) (by omega)) (nine 1 (Or.inr ⟨by omega, rfl⟩))
theorem zf_coll (N : zx_N Rt T L S K C A lv tr lo hi V M R e1 80) {t q : Nat} (ht : t < 2) (hq : Rt t = q) (he : e1 = q) (hl : 0 < lv q) (hz : S q = 0) : zx_N (zt_u Rt t (C (6 * q))) (zt_u T q 0) L S K C A lv tr lo hi V M R 80 80 := by
  have ⟨I, N2, N3, N4⟩ := N
  have ⟨G, H, HA, HW, F⟩ := I
  have Told : ∀ z, zt_u T q 0 z = 1 → z ≠ q ∧ T z = 1 := fun z h => by
    by_cases e : z = q
    · rw [e, zt_us] at h; omega
    · rw [zt_un e] at h; exact ⟨e, h⟩
  refine And.intro ?_ (And.intro ?_ (And.intro ?_ ?_))
  · exact zq_coll I ht hq hl hz (fun z hz => zt_un hz) (by rw [zt_us]; omega) zt_us (fun z hz => zt_un hz)
  · intro z hz2
    have ⟨zq, hz1⟩ := Told z hz2
    have := N2 z hz1
    have nr : z ≠ Rt (tr z) ∨ tr z ≠ t := by
      by_cases e : tr z = t
      · left; rw [e, hq]; exact zq
      · right; exact e
    by_cases e : tr z = t
    · have nr2 : z ≠ Rt (tr z) := by rw [e, hq]; exact zq
      have s2 := (this.1 nr2).2 (by rw [he]; exact zq)
      exact ⟨fun _ => ⟨by omega, fun _ => s2⟩, fun _ _ _ => by omega⟩
    · rw [zt_un e]
      have ne : z ≠ e1 := by rw [he]; exact zq
      exact ⟨fun q => ⟨(this.1 q).1, fun _ => (this.1 q).2 ne⟩, fun a b _ => this.2 a b ne⟩
  · intro z hz2
    exact N3 z (Told z hz2).2
  · intro j
    by_cases e : j = q
    · rw [e, zt_us]; omega
    · rw [zt_un e]; exact N4 j
/-- the end of dropRecord -/
theorem zr_end {post : SX → Prop} {t : Nat} (ht : t < 2) (N : zx_N Rt T L S K C A lv tr lo hi V M R (Rt t) 80) (hp : ∀ u, zx_X M R gv pr fb bu u → post u) : wX_dropRecord_179 post (nI t) dp pl pa sk gv pr fb (zn Rt) (zn T) (zn L) (zn S) (zn K) V (zn C) (za A) wn ws bu := by
  have ⟨I, N2, N3, N4⟩ := N
  have ⟨G, H, HA, HW, F⟩ := I
  have ⟨r1, r2, r3, r4⟩ := G.2.1 t ht
  generalize hq : Rt t = q at r1 r2 r3 r4 N2
  have q8 := (G.1 q r1).1
  have cq := nI_clamp (n := q) (by omega)
  have fq := F q r1
  have sq := (N3 q r1).1
  have hz : zn S (nI q).toNatClampNeg = nI (S q) := by rw [cq]; rfl
  have hlf : zn L (nI q).toNatClampNeg = nI (L q) := by rw [cq]; rfl
  have keep : (0 < lv q → 1 ≤ S q) → zx_N Rt T L S K C A lv tr lo hi V M R 80 80 := fun h => by
    refine And.intro I (And.intro ?_ (And.intro N3 N4))
    intro z hz2
    have := N2 z hz2
    by_cases e : z = q
    · rw [e] at this ⊢
      rw [r2, hq] at this ⊢
      exact ⟨fun q => absurd rfl q, fun _ b _ => h b⟩
    · exact ⟨fun q => ⟨(this.1 q).1, fun _ => (this.1 q).2 e⟩, fun a b _ => this.2 a b e⟩
  refine zs_r (v := nI q) rfl ht (by decide) (by show nI (Rt t) = nI q; rw [hq]) (zs_i rfl q8 (by decide) ?_)
  rw [hlf, hz]
  by_cases hlq : lv q = 0
  · exact br_f (nI_ne0 (by omega) (by omega)) (hp _ (zx_Xi (keep (fun h => by omega))))
  · refine br_t (by rw [show L q = 0 from by omega]; rfl) (zs_i rfl q8 (by decide) ?_)
    by_cases h0 : S q = 0
    · have N' := zf_coll (e1 := q) (by rw [hq] at N; exact N) ht hq rfl (by omega) h0
      refine br_t (by rw [h0]; rfl) (zs_i (zs_6 q) (by omega) (by decide) (zs_w (v' := zn C (6 * q)) rfl ht (by decide) (by rw [zs_cn (zs_6 q) (by omega)]) (zs_w (v' := 0) rfl q8 (by decide) rfl (hp _ ?_))))
      simp only [zn_u0, zn_uz]
      exact zx_Xi N'
    · exact br_f (nI_ne0 (by omega) (by omega)) (hp _ (zx_Xi (keep (fun h => by omega))))
theorem zr_loop {post : SX → Prop} {t : Nat} {w s : Nat → Nat} (ht : t < 2) (hp : ∀ u, zx_X M R gv pr fb bu u → post u) :
    ∀ l (Rt T L S K C A lv tr lo hi : Nat → Nat) (V : Nat → Int64) x m, zx_N Rt T L S K C A lv tr lo hi V M R x 80 → w 0 = Rt t → w l = x → (∀ i, i ≤ l → T (w i) = 1 ∧ tr (w i) = t ∧ lv (w i) + i = lv (Rt t)) →
      (∀ i, i < l → s i ≤ S (w i) ∧ C (6 * w i + s i) = w (i + 1) ∧ wn i = nI (w i) ∧ ws i = nI (s i)) → l ≤ 7 → l < m → wX_dropRecord_129 post (nI t) m (nI x) (nI l) dp pl pa sk gv pr fb (zn Rt) (zn T) (zn L) (zn S) (zn K) V (zn C) (za A) wn ws bu := by
  intro l
  induction l with
  | zero =>
    intro Rt T L S K C A lv tr lo hi V x m N hw0 hwx hw1 hw2 hl7 hm
    obtain ⟨m, rfl⟩ : ∃ k, m = k + 1 := ⟨m - 1, by omega⟩
    have e : x = Rt t := by rw [← hw0]; exact hwx.symm
    exact br_t (nI_le (b := 0) (by omega) (by omega)) (zr_end ht (by rw [← e]; exact N) hp)
  | succ l ih =>
    intro Rt T L S K C A lv tr lo hi V x m N hw0 hwx hw1 hw2 hl7 hm
    obtain ⟨m, rfl⟩ : ∃ k, m = k + 1 := ⟨m - 1, by omega⟩
    have ⟨I, N2, N3, N4⟩ := N
    have ⟨G, H, HA, HW, F⟩ := I
    have ⟨x1, x2, x3⟩ := hw1 (l + 1) (by omega)
    rw [hwx] at x1 x2 x3
    have x8 := (G.1 x x1).1
    have sx := (N3 x x1).1
    have cx := nI_clamp (n := x) (by omega)
    have hz : zn S (nI x).toNatClampNeg = nI (S x) := by rw [cx]; rfl
    have nr : x ≠ Rt (tr x) := fun e => by rw [x2] at e; rw [← e] at x3; omega
    have s1x := ((N2 x x1).1 nr).1
    refine br_f (nI_ge (a := 0) (by omega) (by omega)) (zs_i rfl x8 (by decide) ?_)
    rw [hz]
    by_cases h2 : 2 ≤ S x
    · refine br_t (nI_le (a := 2) h2 (by omega)) (zr_end ht (zf_w (And.intro I (And.intro ?_ (And.intro N3 N4)))) hp)
      intro z hz2
      have := N2 z hz2
      by_cases e : z = x
      · rw [e]; exact ⟨fun _ => ⟨by omega, fun _ => h2⟩, fun _ _ _ => by omega⟩
      · exact ⟨fun q => ⟨(this.1 q).1, fun _ => (this.1 q).2 e⟩, fun a b _ => this.2 a b e⟩
    · have ⟨p1, p2, p3⟩ := hw1 l (by omega)
      have ⟨s1, s2, s3, s4⟩ := hw2 l (by omega)
      rw [hwx] at s2
      generalize hpe : w l = p at p1 p2 p3 s1 s2 s3
      have px : p ≠ x := fun e => by rw [e] at p3; omega
      have sp1 : 1 ≤ S p := by
        by_cases c : p = Rt (tr p)
        · exact (N2 p p1).2 c (by omega) px
        · exact ((N2 p p1).1 c).1
      have e : nI (l + 1) - 1 = nI l := nI_pred l
      refine br_f (nI_ge (b := 2) (by omega) (by decide)) (zs_r e (by omega) (by decide) s3 (zs_i e (by omega) (by decide) ?_))
      rw [zs_cn e (by omega), s4]
      refine zr_rep N p1 (by omega) s1 s2 (by omega) sp1 ?_
      intro T' S' K' C' A' lv' tr' lo' hi' V' N' d1 d2
      refine nm_r (pk_m1 l) (ih Rt T' L S' K' C' A' lv' tr' lo' hi' V' p m N' hw0 hpe (fun i hi0 => ?_) (fun i hi0 => ?_) (by omega) (by omega))
      · have ⟨a1, a2, a3⟩ := hw1 i (by omega)
        have ⟨b1, b2, b3⟩ := d1 _ a1 (by omega)
        have rt1 := (G.2.1 t ht).1
        have ⟨c1, c2, c3⟩ := d1 _ rt1 (by omega)
        exact ⟨b1, by omega, by omega⟩
      · have ⟨a1, a2, a3⟩ := hw1 i (by omega)
        have ⟨b1, b2, b3, b4⟩ := hw2 i (by omega)
        have ⟨c1, c2⟩ := d2 _ a1 (by omega)
        exact ⟨by omega, by rw [c2 _ b1]; exact b2, b3, b4⟩
end
section
variable {dp pl pa sk gv pr fb : Int32} {rt tk lf sz ky ch af wn ws bu : Nat → Int32} {vl : Nat → Int64}
theorem zr_shift {post : SX → Prop} {x1 : Int32} {x a s : Nat} (hx : x < 80) (hs : s ≤ 5) (ha : a < s) (hz : sz x = nI s)
    (hp : ∃ n, wX_dropRecord_129 post x1 n (nI x) dp dp pl pa sk gv pr fb rt tk lf (upd sz x (nI (s - 1))) (zt_sl ky (5 * x + a) (5 * x + (s - 1))) (zt_sl vl (5 * x + a) (5 * x + (s - 1))) ch af wn ws bu) :
    ∀ d i m, i + d + 1 = s → a ≤ i → d < m → wX_dropRecord_46 post x1 (nI x) dp pl pa sk gv pr fb m (nI i) rt tk lf sz (zt_sl ky (5 * x + a) (5 * x + i)) (zt_sl vl (5 * x + a) (5 * x + i)) ch af wn ws bu := by
  have c := nI_clamp (n := x) (by omega)
  intro d
  induction d with
  | zero =>
    intro i m hi hai hm
    obtain ⟨m, rfl⟩ : ∃ k, m = k + 1 := ⟨m - 1, by omega⟩
    obtain rfl : i = s - 1 := by omega
    exact zs_i rfl hx (by decide) (br_t (by rw [c, hz, nI_1]; exact nI_le (by omega) (by omega)) (zs_i rfl hx (by decide) (zs_w rfl hx (by decide) (by rw [c, hz, zs_s1 (by omega)]) hp)))
  | succ d ih =>
    intro i m hi hai hm
    obtain ⟨m, rfl⟩ : ∃ k, m = k + 1 := ⟨m - 1, by omega⟩
    have e1 : (5 : Int32) * nI x + nI i = nI (5 * x + i) := zs_5a x i
    have e2 : (5 : Int32) * nI x + nI i + 1 = nI (5 * x + i + 1) := by rw [e1, nI_1]
    refine zs_i rfl hx (by decide) ?_
    rw [c, hz]
    refine br_f (by rw [nI_1]; exact nI_ge (by omega) (by omega)) (zs_i e2 (by omega) (by decide) (zs_w' e1 (by omega) (by decide) ?_ (zs_i e2 (by omega) (by decide) (zs_wL' e1 (by omega) (by decide) ?_ (nm_r (nI_1 i) (ih (i + 1) m (by omega) (by omega) (by omega)))))))
    · rw [zs_cn e2 (by omega)]; exact zt_sls (f := ky) (by omega)
    · rw [zs_cn e2 (by omega)]; exact zt_sls (f := vl) (by omega)
end
section
variable {dp pl pa sk gv pr fb : Int32} {wn ws bu : Nat → Int32} {Rt T L S K C A lv tr lo hi : Nat → Nat} {V : Nat → Int64} {M : Nat → Nat → Option Int64} {R e1 e2 : Nat}
/-- dropRecord -/
theorem zw_drop (N : zx_N Rt T L S K C A lv tr lo hi V M R 80 80) {post : SX → Prop} {t k : Nat} (ht : t < 2) (hk : k < 40000) (h0 : M t k = none → ∀ u, zx_X M R gv pr fb bu u → post u) (h1 : M t k ≠ none → ∀ R' u, R' + 1 = R → zx_X (zt_mu M t k none) R' gv pr fb bu u → post u) :
    wpX_dropRecord post (dp, pl, pa, sk, gv, pr, fb, zn Rt, zn T, zn L, zn S, zn K, V, zn C, za A, wn, ws, bu) (nI t) (nI k) := by
  have ⟨I, N2, N3, N4⟩ := N
  have ⟨G, H, HA, HW, F⟩ := I
  obtain ⟨d, w, s, wn', ws', e0, e1, e2, e3, e4, e5, e6⟩ := zw_desc (dp := dp) (pl := pl) (pa := pa) (sk := sk) (gv := gv) (pr := pr) (fb := fb) (wn := wn) (ws := ws) (bu := bu) N (fun t ht => zt_high G HW N2 ht) ht hk
  have h6 := zt_high G HW N2 ht
  have ⟨x1, x2, x3⟩ := e2 d (by omega)
  have hlx : lv (w d) = 0 := by omega
  have x8 := (G.1 _ x1).1
  have ⟨l1, l2, l3⟩ := zx_leaf N x1 hlx
  have s5 := (N3 _ x1).1
  obtain ⟨c, c1, c2, c3, c4⟩ := zw_pos (dp := nI d) (pl := pl) (pa := pa) (sk := sk) (gv := gv) (pr := pr) (fb := fb) (wn := wn') (ws := ws') (bu := bu) (Rt := Rt) (T := T) (L := L) (S := S) (K := K) (C := C) (A := A) (V := V) (x := w d) (k := k) x8 s5 (by omega) (fun j hj => by have := zx_ksm N x1 hj; omega)
  have cx := nI_clamp (n := w d) (by omega)
  have hz : zn S (nI (w d)).toNatClampNeg = nI (S (w d)) := by rw [cx]; rfl
  have lowk : ∀ j, j < c → K (5 * w d + j) < k := fun j hj => by
    have a := c2 (c - 1) (by omega)
    by_cases e : j = c - 1
    · rw [e]; exact a
    · have := l2 j (c - 1) (by omega) (by omega); omega
  refine e6 _ (c4 _ (zs_i rfl x8 (by decide) ?_))
  have none1 : (∀ j, c ≤ j → j < S (w d) → K (5 * w d + j) ≠ k) → M t k = none := fun h => by
    by_cases hM : M t k = none
    · exact hM
    · exfalso
      rw [← x2] at hM
      obtain ⟨i, i1, i2⟩ := l3 k e4 e5 hM
      by_cases ic : i < c
      · have := lowk i ic; omega
      · exact h i (by omega) i1 i2
  by_cases hc : c < S (w d)
  · have hv : zn K ((5 : Int32) * nI (w d) + nI c).toNatClampNeg = nI (K (5 * w d + c)) := by rw [zs_cn (zs_5a (w d) c) (by omega)]; rfl
    have kc := c3 c (by omega) hc
    have ks := zx_ksm N x1 hc
    refine br_f (by rw [hz]; exact nI_ge hc (by omega)) (zs_i (zs_5a (w d) c) (by omega) (by decide) ?_)
    by_cases hkk : K (5 * w d + c) = k
    · obtain ⟨R', r1, N'⟩ := zf_drop N x1 hlx hc hkk
      rw [x2] at N'
      have hM : M t k ≠ none := by
        have := (l1 c hc).2.2
        rw [hkk, x2] at this
        rw [this]; exact fun e => nomatch e
      have go := zr_loop (dp := nI d) (pl := pl) (pa := pa) (sk := sk) (wn := wn') (ws := ws') (w := w) (s := s) (post := post) ht (fun u hu => h1 hM R' u r1 hu) d Rt T L _ _ C A lv tr lo hi _ (w d) (d + 1) N' e1 rfl (fun i hi0 => by
          have ⟨a1, a2, a3⟩ := e2 i hi0
          exact ⟨a1, a2, by omega⟩) (fun i hi0 => by
          have ⟨a1, a2, a3⟩ := e2 i (by omega)
          have ix : w i ≠ w d := fun e => by rw [e] at a3; omega
          rw [zt_un ix]
          exact e3 i hi0) (by omega) (by omega)
      have sh := zr_shift (dp := nI d) (pl := pl) (pa := pa) (sk := sk) (gv := gv) (pr := pr) (fb := fb) (wn := wn') (ws := ws') (bu := bu) (rt := zn Rt) (tk := zn T) (lf := zn L) (sz := zn S) (ky := zn K) (vl := V) (ch := zn C) (af := za A) (post := post) (x1 := nI t) (x := w d) (a := c) (s := S (w d)) x8 s5 hc rfl (by
        simp only [zn_u, zn_sl]
        exact ⟨d + 1, go⟩) (S (w d) - 1 - c) c (S (w d) - c) (by omega) (by omega) (by omega)
      rw [zt_sl0, zt_sl0] at sh
      exact br_t (by rw [hv, hkk]) (Exists.intro (S (w d) - c) sh)
    · have inc : ∀ j, c ≤ j → j < S (w d) → k < K (5 * w d + j) := fun j a b => by
        by_cases e : j = c
        · rw [e]; omega
        · have := l2 c j (by omega) b; omega
      exact br_f (by rw [hv]; exact fun e => hkk ((nI_eq (by omega) (by omega)).mp e)) (h0 (none1 (fun j a b => by have := inc j a b; omega)) _ (zx_Xi N))
  · exact br_t (by rw [hz]; exact nI_le (by omega) (by omega)) (h0 (none1 (fun j a b => by omega)) _ (zx_Xi N))
end
end
section
/-! seeking and reading, as the methods above use them -/
section
variable {dp pl pa sk gv pr fb : Int32} {wn ws bu : Nat → Int32} {Rt T L S K C A lv tr lo hi : Nat → Nat} {V : Nat → Int64} {M : Nat → Nat → Option Int64} {R e1 e2 : Nat}
theorem zw_seek (N : zx_N Rt T L S K C A lv tr lo hi V M R 80 80) {t k : Nat} (ht : t < 2) (hk : k < 40000) :
    ∃ (dp' pl' pa' : Int32) (wn' ws' : Nat → Int32), zx_pl T lv tr S K M t k pl' pa' ∧ ∀ post : SX → Prop, post (dp', pl', pa', sk, gv, pr, fb, zn Rt, zn T, zn L, zn S, zn K, V, zn C, za A, wn', ws', bu) → wpX_seek post (dp, pl, pa, sk, gv, pr, fb, zn Rt, zn T, zn L, zn S, zn K, V, zn C, za A, wn, ws, bu) (nI t) (nI k) := by
  have ⟨I, N2, N3, N4⟩ := N
  have ⟨G, H, HA, HW, F⟩ := I
  obtain ⟨d, w, s, wn', ws', e0, e1, e2, e3, e4, e5, e6⟩ := zw_desc (dp := dp) (pl := pl) (pa := pa) (sk := sk) (gv := gv) (pr := pr) (fb := fb) (wn := wn) (ws := ws) (bu := bu) N (fun t ht => zt_high G HW N2 ht) ht hk
  have ⟨x1, x2, x3⟩ := e2 d (by omega)
  have hlx : lv (w d) = 0 := by omega
  have x8 := (G.1 _ x1).1
  have ⟨l1, l2, l3⟩ := zx_leaf N x1 hlx
  have s5 := (N3 _ x1).1
  obtain ⟨c, c1, c2, c3, c4⟩ := zw_pos (dp := nI d) (pl := nI (w d)) (pa := pa) (sk := sk) (gv := gv) (pr := pr) (fb := fb) (wn := wn') (ws := ws') (bu := bu) (Rt := Rt) (T := T) (L := L) (S := S) (K := K) (C := C) (A := A) (V := V) (x := w d) (k := k) x8 s5 (by omega) (fun j hj => by have := zx_ksm N x1 hj; omega)
  have lowk : ∀ j, j < c → K (5 * w d + j) < k := fun j hj => by
    have a := c2 (c - 1) (by omega)
    by_cases e : j = c - 1
    · rw [e]; exact a
    · have := l2 j (c - 1) (by omega) (by omega); omega
  obtain ⟨pl', pa', p1, p2⟩ := zx_settle (dp := nI d) (sk := sk) (gv := gv) (pr := pr) (fb := fb) (wn := wn') (ws := ws') (bu := bu) N x1 hlx x2 c1 lowk c3 e4 (by omega)
  exact ⟨nI d, pl', pa', wn', ws', p1, fun post hp => e6 _ (c4 _ (p2 _ hp))⟩
theorem zw_step (N : zx_N Rt T L S K C A lv tr lo hi V M R 80 80) {x i : Nat} (hx : T x = 1) (hl : lv x = 0) (hi0 : i < S x) :
    ∃ (pl' pa' : Int32), zx_pl T lv tr S K M (tr x) (K (5 * x + i) + 1) pl' pa' ∧ ∀ post : SX → Prop, post (dp, pl', pa', sk, gv, pr, fb, zn Rt, zn T, zn L, zn S, zn K, V, zn C, za A, wn, ws, bu) → wpX_stepOn post (dp, nI x, nI i, sk, gv, pr, fb, zn Rt, zn T, zn L, zn S, zn K, V, zn C, za A, wn, ws, bu) := by
  have ⟨I, N2, N3, N4⟩ := N
  have ⟨l1, l2, l3⟩ := zx_leaf N hx hl
  have k1 := l1 i hi0
  obtain ⟨pl', pa', p1, p2⟩ := zx_settle (dp := dp) (sk := sk) (gv := gv) (pr := pr) (fb := fb) (wn := wn) (ws := ws) (bu := bu) (c := i + 1) (k := K (5 * x + i) + 1) N hx hl rfl (by omega) (fun j hj => by
    by_cases e : j = i
    · rw [e]; omega
    · have := l2 j i (by omega) hi0; omega) (fun j a b => by have := l2 i j (by omega) b; omega) (by omega) (by omega)
  exact ⟨pl', pa', p1, fun post hp => nm_r (nI_1 i) (p2 _ hp)⟩
/-- what a place says of the map -/
theorem zx_plv (N : zx_N Rt T L S K C A lv tr lo hi V M R 80 80) {x i : Nat} (hx : T x = 1) (hl : lv x = 0) (hi0 : i < S x) : M (tr x) (K (5 * x + i)) = some (V (5 * x + i)) ∧ x < 80 ∧ i < 5 ∧ K (5 * x + i) < 40000 := by
  have ⟨I, N2, N3, N4⟩ := N
  have ⟨l1, l2, l3⟩ := zx_leaf N hx hl
  have := (N3 x hx).1
  exact ⟨(l1 i hi0).2.2, (I.1.1 x hx).1, by omega, (zx_ksm N hx hi0).2.2⟩
end
section
variable {dp pl pa sk gv pr fb : Int32} {wn ws bu : Nat → Int32} {Rt T L S K C A lv tr lo hi : Nat → Nat} {V : Nat → Int64} {M : Nat → Nat → Option Int64} {R e1 e2 : Nat}
theorem zc_get {u : SX} (X : zx_X M R gv pr fb bu u) {t k : Nat} (ht : t < 2) (hk : k < 40000) {post : Int32 → SX → Prop} (h0 : M t k = none → ∀ u', zx_X M R gv pr fb bu u' → post 0 u')
    (h1 : ∀ v, M t k = some v → ∀ (dp sk : Int32) (wn ws : Nat → Int32) (Rt T L S K C A lv tr lo hi : Nat → Nat) (V : Nat → Int64) (x i : Nat), zx_N Rt T L S K C A lv tr lo hi V M R 80 80 → x < 80 → i < 5 → V (5 * x + i) = v → post 1 (dp, nI x, nI i, sk, gv, pr, fb, zn Rt, zn T, zn L, zn S, zn K, V, zn C, za A, wn, ws, bu)) : wpX_locate post u (nI t) (nI k) := by
  obtain ⟨dp, pl, pa, sk, wn, ws, Rt, T, L, S, K, C, A, lv, tr, lo, hi, V, rfl, N⟩ := X
  obtain ⟨dp', pl', pa', wn', ws', p1, p2⟩ := zw_seek (dp := dp) (pl := pl) (pa := pa) (sk := sk) (gv := gv) (pr := pr) (fb := fb) (wn := wn) (ws := ws) (bu := bu) N ht hk
  unfold wpX_locate
  refine p2 _ ?_
  rcases p1 with ⟨q1, q2⟩ | ⟨x, i, q1, q2, q3, q4, q5, q6, q7, q8⟩
  · rw [q1]
    exact br_t (by decide) (h0 (q2 k (by omega) hk) _ (zx_Xi N))
  · have ⟨m1, m2, m3, m4⟩ := zx_plv N q3 q4 q6
    rw [q1, q2]
    have hv : zn K ((5 : Int32) * nI x + nI i).toNatClampNeg = nI (K (5 * x + i)) := by rw [zs_cn (zs_5a x i) (by omega)]; rfl
    refine br_f (nI_pos (by omega)) (zs_i (zs_5a x i) (by omega) (by decide) ?_)
    rw [hv]
    by_cases e : K (5 * x + i) = k
    · rw [e, q5] at m1
      exact br_t (by rw [e]) (h1 _ m1 dp' sk wn' ws' Rt T L S K C A lv tr lo hi V x i N m2 m3 rfl)
    · exact br_f (fun z => e ((nI_eq (by omega) (by omega)).mp z)) (h0 (q8 k (by omega) (by omega)) _ (zx_Xi N))
theorem zc_loc {u : SX} (X : zx_X M R gv pr fb bu u) {t k : Nat} (ht : t < 2) (hk : k < 40000) {post : Int32 → SX → Prop} (h0 : M t k = none → ∀ u', zx_X M R gv pr fb bu u' → post 0 u') (h1 : M t k ≠ none → ∀ u', zx_X M R gv pr fb bu u' → post 1 u') : wpX_locate post u (nI t) (nI k) :=
  zc_get X ht hk h0 (fun v hv dp sk wn ws Rt T L S K C A lv tr lo hi V x i N _ _ _ => h1 (by rw [hv]; exact fun e => nomatch e) _ (zx_Xi N))
theorem zc_put {u : SX} (X : zx_X M R gv pr fb bu u) {post : SX → Prop} {t k : Nat} {v : Int64} (ht : t < 2) (hk : k < 40000) (hR : R ≤ 100) (h0 : M t k = none → ∀ u, zx_X (zt_mu M t k (some v)) (R + 1) gv pr fb bu u → post u) (h1 : M t k ≠ none → ∀ u, zx_X (zt_mu M t k (some v)) R gv pr fb bu u → post u) : wpX_putRecord post u (nI t) (nI k) v := by
  obtain ⟨dp, pl, pa, sk, wn, ws, Rt, T, L, S, K, C, A, lv, tr, lo, hi, V, rfl, N⟩ := X
  exact zw_put N ht hk hR h0 h1
theorem zc_drop {u : SX} (X : zx_X M R gv pr fb bu u) {post : SX → Prop} {t k : Nat} (ht : t < 2) (hk : k < 40000) (h0 : M t k = none → ∀ u, zx_X M R gv pr fb bu u → post u) (h1 : M t k ≠ none → ∀ R' u, R' + 1 = R → zx_X (zt_mu M t k none) R' gv pr fb bu u → post u) : wpX_dropRecord post u (nI t) (nI k) := by
  obtain ⟨dp, pl, pa, sk, wn, ws, Rt, T, L, S, K, C, A, lv, tr, lo, hi, V, rfl, N⟩ := X
  exact zw_drop N ht hk h0 h1
theorem zs_512 (i : Nat) : (512 : Int32) * nI i = nI (512 * i) := pk_mul 512 i
/-- threadOf -/
theorem zc_thr {u : SX} (X : zx_X M R gv pr fb bu u) {i : Nat} (h1 : 1 ≤ i) (h2 : i ≤ 61) {post : Int64 → SX → Prop} (hn : M 0 (512 * i) = none → ∀ u', zx_X M R gv pr fb bu u' → post (-1) u') (hs : ∀ v, M 0 (512 * i) = some v → ∀ u', zx_X M R gv pr fb bu u' → post v u') : wpX_threadOf post u (nI i) := by
  have go : wpX_locate (fun r_4 u => match u with
      | (dp, pl, pa, sk, gv, pr, fb, rt, tk, lf, sz, ky, vl, ch, af, wn, ws, bu) => (((r_4 = 0 → (post (-1) (dp, pl, pa, sk, gv, pr, fb, rt, tk, lf, sz, ky, vl, ch, af, wn, ws, bu))) ∧ (¬ r_4 = 0 → (vp_in ((5 * pl) + pa) 400 ∧ (post (vl ((5 * pl) + pa).toNatClampNeg) (dp, pl, pa, sk, gv, pr, fb, rt, tk, lf, sz, ky, vl, ch, af, wn, ws, bu))))))) u (nI 0) (nI (512 * i)) := by
    refine zc_get X (by omega) (by omega) (fun h u' X' => ?_) (fun v hv dp sk wn ws Rt T L S K C A lv tr lo hi V x j N x8 j5 e => ?_)
    · have h' := hn h u' X'
      obtain ⟨dp, pl, pa, sk, wn, ws, Rt, T, L, S, K, C, A, lv, tr, lo, hi, V, rfl, N⟩ := X'
      exact br_t rfl h'
    · refine br_f (by decide) (zs_i (zs_5a x j) (by omega) (by decide) ?_)
      rw [zs_cn (zs_5a x j) (by omega), e]
      exact hs v hv _ (zx_Xi N)
  obtain ⟨dp, pl, pa, sk, wn, ws, Rt, T, L, S, K, C, A, lv, tr, lo, hi, V, rfl, N⟩ := X
  refine br_f (nI_nlt (b := 1) h1 (by omega)) (br_t (nI_le (b := 61) h2 (by omega)) ?_)
  unfold wpX_threadKey
  rw [zs_512]
  exact go
theorem zc_thr_lo {u : SX} {p : Int32} (h : p < 1) {post : Int64 → SX → Prop} (hp : post (-1) u) : wpX_threadOf post u p := by
  obtain ⟨dp, pl, pa, sk, gv, pr, fb, rt, tk, lf, sz, ky, vl, ch, af, wn, ws, bu⟩ := u
  exact br_t h hp
theorem zc_thr_hi {u : SX} {p : Int32} (h : ¬ p < 1) (h2 : ¬ p ≤ 61) {post : Int64 → SX → Prop} (hp : post (-1) u) : wpX_threadOf post u p := by
  obtain ⟨dp, pl, pa, sk, gv, pr, fb, rt, tk, lf, sz, ky, vl, ch, af, wn, ws, bu⟩ := u
  exact br_f h (br_f h2 hp)
/-- firstChild -/
theorem zc_fst {u : SX} (X : zx_X M R gv pr fb bu u) {i : Nat} (h2 : i ≤ 61) {post : Int32 → SX → Prop} (hn : (∀ k, 512 * i + 1 ≤ k → k < 512 * (i + 1) → M 0 k = none) → ∀ u', zx_X M R gv pr fb bu u' → post (-1) u')
    (hs : ∀ k v, 512 * i + 1 ≤ k → k < 512 * (i + 1) → M 0 k = some v → ∀ u', zx_X M R gv pr fb bu u' → post (v.toInt32 &&& 63) u') : wpX_firstChild post u (nI i) := by
  obtain ⟨dp, pl, pa, sk, wn, ws, Rt, T, L, S, K, C, A, lv, tr, lo, hi, V, rfl, N⟩ := X
  obtain ⟨dp', pl', pa', wn', ws', p1, p2⟩ := zw_seek (dp := dp) (pl := pl) (pa := pa) (sk := sk) (gv := gv) (pr := pr) (fb := fb) (wn := wn) (ws := ws) (bu := bu) (t := 0) (k := 512 * i + 1) N (by omega) (by omega)
  have e : nI (512 * i + 1) = 512 * nI i + 1 := by rw [zs_512, nI_1]
  rw [e] at p2
  unfold wpX_firstChild wpX_threadKey
  refine p2 _ ?_
  rcases p1 with ⟨q1, q2⟩ | ⟨x, j, q1, q2, q3, q4, q5, q6, q7, q8⟩
  · rw [q1]
    exact br_t (by decide) (hn (fun k a b => q2 k a (by omega)) _ (zx_Xi N))
  · have ⟨m1, m2, m3, m4⟩ := zx_plv N q3 q4 q6
    rw [q1, q2]
    have hv : zn K ((5 : Int32) * nI x + nI j).toNatClampNeg = nI (K (5 * x + j)) := by rw [zs_cn (zs_5a x j) (by omega)]; rfl
    have hV : V ((5 : Int32) * nI x + nI j).toNatClampNeg = V (5 * x + j) := by rw [zs_cn (zs_5a x j) (by omega)]
    refine br_f (nI_pos (by omega)) (zs_i (zs_5a x j) (by omega) (by decide) ?_)
    show (zn K ((5 : Int32) * nI x + nI j).toNatClampNeg < 512 * (nI i + 1) → _) ∧ (¬ zn K ((5 : Int32) * nI x + nI j).toNatClampNeg < 512 * (nI i + 1) → _)
    rw [hv, nI_1, zs_512]
    by_cases e : K (5 * x + j) < 512 * (i + 1)
    · refine br_t (nI_lt e (by omega)) (zs_i (zs_5a x j) (by omega) (by decide) ?_)
      rw [hV]
      rw [q5] at m1
      exact hs _ _ q7 e m1 _ (zx_Xi N)
    · exact br_f (nI_nlt (by omega) (by omega)) (hn (fun k a b => q8 k a (by omega)) _ (zx_Xi N))
end
end
section
/-! packed longs -/
theorem zb_tn (a : Nat) : (nI a).toBitVec.toNat = a % 2 ^ 32 := by
  show (BitVec.ofNat 32 a).toNat = _
  exact BitVec.toNat_ofNat a 32
theorem zb_and (a k : Nat) {m : Int32} (hm : m.toBitVec.toNat = 2 ^ k - 1) (hk : k ≤ 32) : nI a &&& m = nI (a % 2 ^ k) := by
  rw [pk_and (nI a) k hm, zb_tn, Nat.mod_mod_of_dvd _ (Nat.pow_dvd_pow 2 hk)]
theorem zb_par {a : Nat} (ha : a < 2 ^ 63) : (((lN a).toUInt64 >>> ((1 : Int32).toInt64.toUInt64 &&& Int64.toUInt64 63)).toInt64).toInt32 &&& 63 = nI (a / 2 % 64) := by
  have e : ((lN a).toUInt64 >>> ((1 : Int32).toInt64.toUInt64 &&& Int64.toUInt64 63)).toInt64 = lN (a / 2 ^ 1) := wb_shr (k := 1) (by omega) (by omega)
  rw [e, lN_i, zb_and _ 6 (by decide) (by omega)]
theorem zb_nam {a : Nat} (ha : a < 2 ^ 63) : (((lN a).toUInt64 >>> ((8 : Int32).toInt64.toUInt64 &&& Int64.toUInt64 63)).toInt64).toInt32 &&& 255 = nI (a / 256 % 256) := by
  have e : ((lN a).toUInt64 >>> ((8 : Int32).toInt64.toUInt64 &&& Int64.toUInt64 63)).toInt64 = lN (a / 2 ^ 8) := wb_shr (k := 8) (by omega) (by omega)
  rw [e, lN_i, zb_and _ 8 (by decide) (by omega)]
theorem zb_ext {a : Nat} (ha : a < 2 ^ 63) : (((lN a).toUInt64 >>> ((6 : Int32).toInt64.toUInt64 &&& Int64.toUInt64 63)).toInt64).toInt32 &&& 7 = nI (a / 64 % 8) := by
  have e : ((lN a).toUInt64 >>> ((6 : Int32).toInt64.toUInt64 &&& Int64.toUInt64 63)).toInt64 = lN (a / 2 ^ 6) := wb_shr (k := 6) (by omega) (by omega)
  rw [e, lN_i, zb_and _ 3 (by decide) (by omega)]
theorem zb_inl {a k : Nat} (ha : a < 2 ^ 63) (hk : k < 3) : (((lN a).toUInt64 >>> ((9 + (13 * nI k)).toInt64.toUInt64 &&& Int64.toUInt64 63)).toInt64).toInt32 &&& 8191 = nI (a / 2 ^ (9 + 13 * k) % 8192) := by
  have e0 : (9 : Int32) + 13 * nI k = nI (9 + 13 * k) := by rw [show (13 : Int32) * nI k = nI (13 * k) from pk_mul 13 k]; exact nI_add 9 (13 * k)
  rw [e0, wb_shr (by omega) (by omega), lN_i, zb_and _ 13 (by decide) (by omega)]
theorem zb_id (a : Nat) : (lN a).toInt32 &&& 63 = nI (a % 64) := by rw [lN_i, zb_and _ 6 (by decide) (by omega)]
theorem zb_st (a : Nat) : nI a &&& 127 = nI (a % 128) := zb_and a 7 (by decide) (by omega)
theorem zb_ln {a : Nat} (ha : a < 2 ^ 31) : ((nI a).toUInt32 >>> ((7 : Int32).toUInt32 &&& Int32.toUInt32 31)).toInt32 = nI (a / 128) := pk_ushrN (by omega) 7 7 (by decide)
theorem zb_fold {a : Nat} (ha : a < 2 ^ 63) : (lN a &&& 1 = 0) ↔ a % 2 = 0 := by
  rw [wb_a1 (by omega)]
  have e : (lN (a % 2) = 0) ↔ a % 2 = 0 := by
    have := pk_lEQ (a := a % 2) (b := 0) (by omega) (by omega)
    exact this
  exact e
theorem zb_pos {a : Nat} (ha : a < 2 ^ 63) : (0 : Int64) ≤ lN a := (pk_lLE (a := 0) (by omega) ha).mpr (by omega)
theorem zb_neg : ¬ (0 : Int64) ≤ -1 := by decide
theorem zb_pack {z p n : Nat} (hp : p < 2 ^ 20) (hn : n < 2 ^ 20) : (lN z + 2 * (nI p).toInt64) + 256 * (nI n).toInt64 = lN (z + 2 * p + 256 * n) := by
  rw [nI_l (by omega), nI_l (by omega), show (2 : Int64) * lN p = lN (2 * p) from lN_mul 2 p, show (256 : Int64) * lN n = lN (256 * n) from lN_mul 256 n, lN_add, lN_add]
theorem zb_or {a e k : Nat} (hk : k < 3) (ha : a < 2 ^ (9 + 13 * k)) (he : e < 8192) : lN a ||| ((nI e).toInt64 <<< ((9 + (13 * nI k)).toInt64 &&& 63)) = lN (a + e * 2 ^ (9 + 13 * k)) := by
  have e0 : (9 : Int32) + 13 * nI k = nI (9 + 13 * k) := by rw [show (13 : Int32) * nI k = nI (13 * k) from pk_mul 13 k]; exact nI_add 9 (13 * k)
  rw [e0, nI_l (by omega), wb_shl _ (by omega)]
  refine g_or' rfl ha ?_
  have h1 : e * 2 ^ (9 + 13 * k) ≤ 8191 * 2 ^ (9 + 13 * k) := Nat.mul_le_mul_right _ (by omega)
  have h2 : 2 ^ (9 + 13 * k) ≤ 2 ^ 35 := Nat.pow_le_pow_right (by omega) (by omega)
  have h3 : 8191 * 2 ^ (9 + 13 * k) ≤ 8191 * 2 ^ 35 := Nat.mul_le_mul_left _ h2
  omega
/-- clearing the thirteen bits at s, when nothing lies above them -/
theorem zb_clr {a e k : Nat} (hk : k < 3) (ha : a < 2 ^ (9 + 13 * k)) (he : e < 8192) : lN (a + e * 2 ^ (9 + 13 * k)) &&& (((8191 : Int64) <<< ((9 + (13 * nI k)).toInt64 &&& 63)) ^^^ (-1)) = lN a := by
  have e0 : (9 : Int32) + 13 * nI k = nI (9 + 13 * k) := by rw [show (13 : Int32) * nI k = nI (13 * k) from pk_mul 13 k]; exact nI_add 9 (13 * k)
  rw [e0, show (8191 : Int64) = lN 8191 from rfl, wb_shl _ (by omega)]
  apply wb_inj
  rw [Int64.toBitVec_and, Int64.toBitVec_xor, wb_tb, wb_tb, wb_tb]
  apply BitVec.eq_of_getLsbD_eq
  intro i hi
  have em : (-1 : Int64).toBitVec.getLsbD i = true := by
    have : (-1 : Int64).toBitVec = BitVec.allOnes 64 := by decide
    rw [this, BitVec.getLsbD_allOnes]; simp [hi]
  rw [BitVec.getLsbD_and, BitVec.getLsbD_xor, em, BitVec.getLsbD_ofNat, BitVec.getLsbD_ofNat, BitVec.getLsbD_ofNat]
  have b1 : (a + e * 2 ^ (9 + 13 * k)).testBit i = if i < 9 + 13 * k then a.testBit i else e.testBit (i - (9 + 13 * k)) := by
    rw [Nat.add_comm, Nat.mul_comm]; exact Nat.testBit_two_pow_mul_add e ha i
  have b2 : (8191 * 2 ^ (9 + 13 * k)).testBit i = (decide (9 + 13 * k ≤ i) && decide (i - (9 + 13 * k) < 13)) := by
    rw [Nat.testBit_mul_two_pow, show 8191 = 2 ^ 13 - 1 from rfl, Nat.testBit_two_pow_sub_one]
  rw [b1, b2]
  by_cases c : i < 9 + 13 * k
  · rw [if_pos c]; simp [hi, Nat.not_le.mpr c]
  · have z1 : a.testBit i = false := Nat.testBit_lt_two_pow (Nat.lt_of_lt_of_le ha (Nat.pow_le_pow_right (by omega) (by omega)))
    rw [if_neg c, z1]
    by_cases c2 : i - (9 + 13 * k) < 13
    · simp [hi, Nat.not_lt.mp c, c2]
    · have z2 : e.testBit (i - (9 + 13 * k)) = false := Nat.testBit_lt_two_pow (Nat.lt_of_lt_of_le he (by
        have : 2 ^ 13 ≤ 2 ^ (i - (9 + 13 * k)) := Nat.pow_le_pow_right (by omega) (by omega)
        exact this))
      rw [z2]; simp
end
section
/-! the relation -/
def zc_in (ex fi le : Nat → Nat) (i j : Nat) : Nat := if j < ex i then fi (6 * i + j) + 128 * le (6 * i + j) else 0
def zc_rec (ex fi le : Nat → Nat) (i : Nat) : Nat := i + 64 * ex i + 512 * zc_in ex fi le i 0 + 4194304 * zc_in ex fi le i 1 + 34359738368 * zc_in ex fi le i 2
def zc_thd (kd pt nm : Nat → Nat) (i : Nat) : Nat := (if kd i = 2 then 1 else 0) + 2 * pt i + 256 * nm i
def zc_K (nx : Nat) (kd pt nm : Nat → Nat) : Prop :=
  (2 ≤ nx ∧ nx ≤ 62) ∧ (kd 1 = 2 ∧ pt 1 = 0 ∧ nm 1 = 0) ∧ (∀ i, kd i ≠ 0 → 1 ≤ i ∧ i < nx ∧ kd i ≤ 2) ∧ (∀ i, 2 ≤ i → kd i ≠ 0 → kd (pt i) = 2 ∧ nm i < 256) ∧
  (∀ i j, 2 ≤ i → 2 ≤ j → kd i ≠ 0 → kd j ≠ 0 → pt i = pt j → nm i = nm j → i = j) ∧ (∃ rk : Nat → Nat, ∀ i, 2 ≤ i → kd i ≠ 0 → rk (pt i) < rk i)
def zc_lv (kd ex : Nat → Nat) (i k : Nat) : Prop := kd i = 1 ∧ k < ex i
def zc_cov (fi le : Nat → Nat) (i k b : Nat) : Prop := fi (6 * i + k) ≤ b ∧ b < fi (6 * i + k) + le (6 * i + k)
def zc_tot (kd ex le : Nat → Nat) (i : Nat) : Nat := if kd i = 1 then zt_sm (fun k => le (6 * i + k)) (ex i) else 0
def zc_E (kd ex fi le bu : Nat → Nat) (fr : Nat) : Prop :=
  (∀ i, kd i = 2 → ex i = 0) ∧ (∀ i, kd i = 1 → ex i ≤ 6) ∧ (∀ i k, zc_lv kd ex i k → 1 ≤ le (6 * i + k) ∧ le (6 * i + k) ≤ 32 ∧ fi (6 * i + k) + le (6 * i + k) ≤ 96) ∧
  (∀ b, bu b ≤ 1) ∧ (∀ b, b < 96 → (bu b = 1 ↔ ∃ i k, zc_lv kd ex i k ∧ zc_cov fi le i k b)) ∧
  (∀ i k i' k' b, zc_lv kd ex i k → zc_lv kd ex i' k' → zc_cov fi le i k b → zc_cov fi le i' k' b → i = i' ∧ k = k') ∧
  fr = zt_sm (fun b => 1 - bu b) 96 ∧ fr + zt_sm (zc_tot kd ex le) 62 = 96
def zc_M0 (M : Nat → Nat → Option Int64) (kd pt nm ex fi le : Nat → Nat) : Prop :=
  ∀ k v, M 0 k = some v ↔ (∃ i, kd i ≠ 0 ∧ k = 512 * i ∧ v = lN (zc_thd kd pt nm i)) ∨ (∃ i, 2 ≤ i ∧ kd i ≠ 0 ∧ k = 512 * pt i + nm i + 1 ∧ v = lN (zc_rec ex fi le i))
def zc_M1 (M : Nat → Nat → Option Int64) (kd ex fi le : Nat → Nat) : Prop :=
  ∀ k v, M 1 k = some v ↔ ∃ i j, kd i = 1 ∧ 3 ≤ j ∧ j < ex i ∧ k = 8 * i + j ∧ v = lN (fi (6 * i + j) + 128 * le (6 * i + j))
def zc_cn (kd : Nat → Nat) : Nat := zt_sm (fun i => if 2 ≤ i ∧ kd i ≠ 0 then 1 else 0) 62
def zc_ov (kd ex : Nat → Nat) : Nat := zt_sm (fun i => if kd i = 1 then ex i - 3 else 0) 62
def zc_C (R cnt : Nat) (kd ex : Nat → Nat) : Prop := cnt = zc_cn kd ∧ cnt ≤ 24 ∧ R = 2 * cnt + 1 + zc_ov kd ex
def zc_Z (M : Nat → Nat → Option Int64) (R nx cnt fr : Nat) (kd pt nm ex fi le bu : Nat → Nat) : Prop :=
  zc_K nx kd pt nm ∧ zc_E kd ex fi le bu fr ∧ zc_M0 M kd pt nm ex fi le ∧ zc_M1 M kd ex fi le ∧ zc_C R cnt kd ex
/-- the relation -/
def i_Rel (k : Nat) (u : SX) (v : SY) : Prop :=
  ∃ (M : Nat → Nat → Option Int64) (R nx cnt fr : Nat) (kd pt nm ex fi le bu : Nat → Nat) (mk tn : Nat → Int32), zx_X M R (nI (nx - 2)) (nI cnt) (nI fr) (zn bu) u ∧ v = (nI nx, zn kd, zn pt, zn nm, zn ex, zn fi, zn le, mk, tn) ∧ zc_Z M R nx cnt fr kd pt nm ex fi le bu
theorem i_up {k : Nat} {u : SX} {v : SY} (h : i_Rel k u v) : i_Rel (k + 4) u v := h
section
variable {nx cnt fr R : Nat} {kd pt nm ex fi le bu : Nat → Nat} {mk tn : Nat → Int32} {M : Nat → Nat → Option Int64} {u : SX}
theorem zc_mk {k : Nat} (X : zx_X M R (nI (nx - 2)) (nI cnt) (nI fr) (zn bu) u) (Z : zc_Z M R nx cnt fr kd pt nm ex fi le bu) : i_Rel k u (nI nx, zn kd, zn pt, zn nm, zn ex, zn fi, zn le, mk, tn) := ⟨M, R, nx, cnt, fr, kd, pt, nm, ex, fi, le, bu, mk, tn, X, rfl, Z⟩
theorem zc_61 (Z : zc_Z M R nx cnt fr kd pt nm ex fi le bu) {i : Nat} (h : kd i ≠ 0) : 1 ≤ i ∧ i ≤ 61 ∧ (kd i = 1 ∨ kd i = 2) := by
  have ⟨⟨k1, k2, k3, k4, k5, k6⟩, _⟩ := Z
  have := k3 i h
  omega
theorem zc_pt (Z : zc_Z M R nx cnt fr kd pt nm ex fi le bu) {i : Nat} (h : kd i ≠ 0) : pt i ≤ 61 ∧ nm i < 256 := by
  have ⟨⟨k1, k2, k3, k4, k5, k6⟩, _⟩ := Z
  by_cases e : 2 ≤ i
  · have a := k4 i e h
    have b := k3 (pt i) (by omega)
    omega
  · have := k3 i h
    have e1 : i = 1 := by omega
    rw [e1]; omega
theorem zc_dth {f p n : Nat} (hf : f ≤ 1) (hp : p ≤ 61) (hn : n < 256) : (f + 2 * p + 256 * n) / 2 % 64 = p ∧ (f + 2 * p + 256 * n) / 256 % 256 = n ∧ (f + 2 * p + 256 * n) % 2 = f ∧ f + 2 * p + 256 * n < 2 ^ 63 := by omega
theorem zc_thd_d (Z : zc_Z M R nx cnt fr kd pt nm ex fi le bu) {i : Nat} (h : kd i ≠ 0) : zc_thd kd pt nm i / 2 % 64 = pt i ∧ zc_thd kd pt nm i / 256 % 256 = nm i ∧ (zc_thd kd pt nm i % 2 = if kd i = 2 then 1 else 0) ∧ zc_thd kd pt nm i < 2 ^ 63 := by
  have ⟨a, b⟩ := zc_pt Z h
  unfold zc_thd
  exact zc_dth (by by_cases e : kd i = 2 <;> simp [e]) a b
theorem zc_drc {i n a b c : Nat} (hi : i < 64) (hn : n < 8) (ha : a < 8192) (hb : b < 8192) (hc : c < 8192) : (i + 64 * n + 512 * a + 4194304 * b + 34359738368 * c) % 64 = i ∧ (i + 64 * n + 512 * a + 4194304 * b + 34359738368 * c) / 64 % 8 = n ∧ (i + 64 * n + 512 * a + 4194304 * b + 34359738368 * c) / 512 % 8192 = a ∧ (i + 64 * n + 512 * a + 4194304 * b + 34359738368 * c) / 4194304 % 8192 = b ∧ (i + 64 * n + 512 * a + 4194304 * b + 34359738368 * c) / 34359738368 % 8192 = c ∧ i + 64 * n + 512 * a + 4194304 * b + 34359738368 * c < 2 ^ 63 := by omega
theorem zc_in_lt (Z : zc_Z M R nx cnt fr kd pt nm ex fi le bu) {i : Nat} (h : kd i ≠ 0) (j : Nat) : zc_in ex fi le i j < 8192 ∧ ex i ≤ 6 := by
  have ⟨_, ⟨e1, e2, e3, e4, e5, e6, e7, e8⟩, _⟩ := Z
  rcases (zc_61 Z h).2.2 with c | c
  · have h6 := e2 i c
    refine ⟨?_, h6⟩
    unfold zc_in
    by_cases q : j < ex i
    · rw [if_pos q]
      have := e3 i j ⟨c, q⟩
      omega
    · rw [if_neg q]; omega
  · have h0 := e1 i c
    refine ⟨?_, by omega⟩
    unfold zc_in
    rw [if_neg (by omega)]; omega
theorem zc_rec_d (Z : zc_Z M R nx cnt fr kd pt nm ex fi le bu) {i : Nat} (h : kd i ≠ 0) : zc_rec ex fi le i % 64 = i ∧ zc_rec ex fi le i / 64 % 8 = ex i ∧ zc_rec ex fi le i / 512 % 8192 = zc_in ex fi le i 0 ∧ zc_rec ex fi le i / 4194304 % 8192 = zc_in ex fi le i 1 ∧ zc_rec ex fi le i / 34359738368 % 8192 = zc_in ex fi le i 2 ∧ zc_rec ex fi le i < 2 ^ 63 := by
  have a := zc_in_lt Z h 0
  have b := zc_in_lt Z h 1
  have c := zc_in_lt Z h 2
  have d := zc_61 Z h
  exact zc_drc (by omega) (by omega) a.1 b.1 c.1
theorem zc_g1 (Z : zc_Z M R nx cnt fr kd pt nm ex fi le bu) {i : Nat} (h : kd i ≠ 0) : M 0 (512 * i) = some (lN (zc_thd kd pt nm i)) := by
  have ⟨_, _, m0, _, _⟩ := Z
  exact (m0 _ _).mpr (Or.inl ⟨i, h, rfl, rfl⟩)
theorem zc_g0 (Z : zc_Z M R nx cnt fr kd pt nm ex fi le bu) {i : Nat} (h : kd i = 0) : M 0 (512 * i) = none := by
  have ⟨_, _, m0, _, _⟩ := Z
  by_cases c : M 0 (512 * i) = none
  · exact c
  · exfalso
    obtain ⟨v, hv⟩ := Option.ne_none_iff_exists'.mp c
    rcases (m0 _ _).mp hv with ⟨j, a1, a2, a3⟩ | ⟨j, a0, a1, a2, a3⟩
    · have : i = j := by omega
      rw [this] at h; exact a1 h
    · have := zc_pt Z a1
      omega
theorem zc_g2 (Z : zc_Z M R nx cnt fr kd pt nm ex fi le bu) {i : Nat} (h2 : 2 ≤ i) (h : kd i ≠ 0) : M 0 (512 * pt i + nm i + 1) = some (lN (zc_rec ex fi le i)) := by
  have ⟨_, _, m0, _, _⟩ := Z
  exact (m0 _ _).mpr (Or.inr ⟨i, h2, h, rfl, rfl⟩)
theorem zc_g3 (Z : zc_Z M R nx cnt fr kd pt nm ex fi le bu) {p n : Nat} {v : Int64} (hn : n < 511) (h : M 0 (512 * p + n + 1) = some v) : ∃ i, 2 ≤ i ∧ kd i ≠ 0 ∧ pt i = p ∧ nm i = n ∧ v = lN (zc_rec ex fi le i) := by
  have ⟨_, _, m0, _, _⟩ := Z
  rcases (m0 _ _).mp h with ⟨j, a1, a2, a3⟩ | ⟨j, a0, a1, a2, a3⟩
  · omega
  · have := zc_pt Z a1
    exact ⟨j, a0, a1, by omega, by omega, a3⟩
theorem zc_g4 (Z : zc_Z M R nx cnt fr kd pt nm ex fi le bu) {p n : Nat} (hn : n < 511) (h : ∀ i, 2 ≤ i → kd i ≠ 0 → pt i = p → nm i = n → False) : M 0 (512 * p + n + 1) = none := by
  by_cases c : M 0 (512 * p + n + 1) = none
  · exact c
  · exfalso
    obtain ⟨v, hv⟩ := Option.ne_none_iff_exists'.mp c
    obtain ⟨i, a1, a2, a3, a4, a5⟩ := zc_g3 Z hn hv
    exact h i a1 a2 a3 a4
theorem zc_h1 (Z : zc_Z M R nx cnt fr kd pt nm ex fi le bu) {i j : Nat} (h : kd i = 1) (h3 : 3 ≤ j) (hj : j < ex i) : M 1 (8 * i + j) = some (lN (fi (6 * i + j) + 128 * le (6 * i + j))) := by
  have ⟨_, _, _, m1, _⟩ := Z
  exact (m1 _ _).mpr ⟨i, j, h, h3, hj, rfl, rfl⟩
theorem zc_h0 (Z : zc_Z M R nx cnt fr kd pt nm ex fi le bu) {i j : Nat} (h8 : j < 8) (h : ¬ (kd i = 1 ∧ 3 ≤ j ∧ j < ex i)) : M 1 (8 * i + j) = none := by
  have ⟨_, ⟨e1, e2, _⟩, _, m1, _⟩ := Z
  by_cases c : M 1 (8 * i + j) = none
  · exact c
  · exfalso
    obtain ⟨v, hv⟩ := Option.ne_none_iff_exists'.mp c
    obtain ⟨i', j', a1, a2, a3, a4, a5⟩ := (m1 _ _).mp hv
    have := e2 i' a1
    have e : i = i' := by omega
    have e' : j = j' := by omega
    rw [← e] at a1 a3
    rw [← e'] at a2 a3
    exact h ⟨a1, a2, a3⟩
theorem zc_97 (Z : zc_Z M R nx cnt fr kd pt nm ex fi le bu) : R ≤ 97 := by
  have ⟨_, ⟨e1, e2, e3, e4, e5, e6, e7, e8⟩, _, _, ⟨c1, c2, c3⟩⟩ := Z
  have h : zt_sm (fun i => 2 * (fun i => if kd i = 1 then ex i - 3 else 0) i) 62 ≤ zt_sm (zc_tot kd ex le) 62 := zt_sm_le (fun i hi => by
    show 2 * (if kd i = 1 then ex i - 3 else 0) ≤ (if kd i = 1 then zt_sm (fun k => le (6 * i + k)) (ex i) else 0)
    by_cases c : kd i = 1
    · rw [if_pos c, if_pos c]
      have a := zt_sm_f (g := fun k => le (6 * i + k)) (n := ex i) (fun k hk => (e3 i k ⟨c, hk⟩).1)
      have := e2 i c
      omega
    · rw [if_neg c, if_neg c]; omega)
  rw [zt_sm_k] at h
  unfold zc_ov at c3
  omega
end
/-- an int is out of the range of identifiers, or a number in it -/
theorem zc_cls (p : Int32) : p < 1 ∨ (¬ p < 1 ∧ ¬ p ≤ 61 ∧ 61 < p) ∨ ∃ i : Nat, 1 ≤ i ∧ i ≤ 61 ∧ p = nI i := by
  by_cases h : p < 1
  · exact Or.inl h
  · have h0 : ¬ p < 0 := fun c => h (by
      rw [Int32.lt_iff_toInt_lt] at c ⊢
      have a : (0 : Int32).toInt = 0 := by decide
      have b : (1 : Int32).toInt = 1 := by decide
      omega)
    obtain ⟨j, hj, rfl⟩ := nI_of h0
    right
    by_cases c : j ≤ 61
    · right
      refine ⟨j, ?_, c, rfl⟩
      by_cases z : 1 ≤ j
      · exact z
      · exact absurd (nI_lt (a := j) (b := 1) (by omega) (by decide)) h
    · left
      exact ⟨h, nI_ge (b := j) (a := 61) (by omega) hj, nI_lt (a := 61) (by omega) hj⟩
end
section
/-! refusals, and the questions about one item -/
section
variable {nx cnt fr R : Nat} {kd pt nm ex fi le bu : Nat → Nat} {mk tn : Nat → Int32} {M : Nat → Nat → Option Int64} {u : SX}
theorem zy_kd {i : Nat} (hi : i ≤ 61) : zn kd (nI i).toNatClampNeg = nI (kd i) := by rw [nI_clamp (by omega)]; rfl
theorem zy_miss_o {p : Int32} (h : p < 1 ∨ (¬ p < 1 ∧ ¬ p ≤ 61 ∧ 61 < p)) {post : Int32 → Prop} (hp : post 1) : wpY_missing post (nI nx, zn kd, zn pt, zn nm, zn ex, zn fi, zn le, mk, tn) p := by
  rcases h with h | ⟨h, h2, h3⟩
  · exact br_t h hp
  · exact br_f h (br_t h3 hp)
theorem zy_miss_0 {i : Nat} (h1 : 1 ≤ i) (h2 : i ≤ 61) (h : kd i = 0) {post : Int32 → Prop} (hp : post 1) : wpY_missing post (nI nx, zn kd, zn pt, zn nm, zn ex, zn fi, zn le, mk, tn) (nI i) :=
  br_f (nI_nlt (b := 1) h1 (by omega)) (br_f (nI_nlt (a := 61) h2 (by decide)) (zs_i rfl (show i < 62 by omega) (by decide) (br_t (by rw [zy_kd h2, h]; rfl) hp)))
theorem zy_miss_1 {i : Nat} (h1 : 1 ≤ i) (h2 : i ≤ 61) (h : kd i ≠ 0) (h3 : kd i ≤ 2) {post : Int32 → Prop} (hp : post 0) : wpY_missing post (nI nx, zn kd, zn pt, zn nm, zn ex, zn fi, zn le, mk, tn) (nI i) :=
  br_f (nI_nlt (b := 1) h1 (by omega)) (br_f (nI_nlt (a := 61) h2 (by decide)) (zs_i rfl (show i < 62 by omega) (by decide) (br_f (by rw [zy_kd h2]; exact nI_ne0 (by omega) (by omega)) hp)))
theorem zc_thr_p (X : zx_X M R (nI (nx - 2)) (nI cnt) (nI fr) (zn bu) u) (Z : zc_Z M R nx cnt fr kd pt nm ex fi le bu) {i : Nat} (h : kd i ≠ 0) {post : Int64 → SX → Prop} (hp : ∀ u', zx_X M R (nI (nx - 2)) (nI cnt) (nI fr) (zn bu) u' → post (lN (zc_thd kd pt nm i)) u') : wpX_threadOf post u (nI i) := by
  have ⟨a, b, c⟩ := zc_61 Z h
  exact zc_thr X a b (fun e => by rw [zc_g1 Z h] at e; exact nomatch e) (fun v hv u' X' => by
    rw [zc_g1 Z h] at hv
    rw [← Option.some.inj hv]; exact hp u' X')
/-- an int names no item, or one that is there -/
theorem zc_item (X : zx_X M R (nI (nx - 2)) (nI cnt) (nI fr) (zn bu) u) (Z : zc_Z M R nx cnt fr kd pt nm ex fi le bu) (p : Int32) :
    ((∀ post : Int64 → SX → Prop, (∀ u', zx_X M R (nI (nx - 2)) (nI cnt) (nI fr) (zn bu) u' → post (-1) u') → wpX_threadOf post u p) ∧ (∀ post : Int32 → Prop, post 1 → wpY_missing post (nI nx, zn kd, zn pt, zn nm, zn ex, zn fi, zn le, mk, tn) p)) ∨
    (∃ i, p = nI i ∧ kd i ≠ 0 ∧ (∀ post : Int64 → SX → Prop, (∀ u', zx_X M R (nI (nx - 2)) (nI cnt) (nI fr) (zn bu) u' → post (lN (zc_thd kd pt nm i)) u') → wpX_threadOf post u p) ∧ (∀ post : Int32 → Prop, post 0 → wpY_missing post (nI nx, zn kd, zn pt, zn nm, zn ex, zn fi, zn le, mk, tn) p)) := by
  rcases zc_cls p with h | h | ⟨i, h1, h2, rfl⟩
  · exact Or.inl ⟨fun post hp => zc_thr_lo h (hp u X), fun post hp => zy_miss_o (Or.inl h) hp⟩
  · exact Or.inl ⟨fun post hp => zc_thr_hi h.1 h.2.1 (hp u X), fun post hp => zy_miss_o (Or.inr h) hp⟩
  · by_cases c : kd i = 0
    · exact Or.inl ⟨fun post hp => zc_thr X h1 h2 (fun _ => hp) (fun v hv => by rw [zc_g0 Z c] at hv; exact nomatch hv), fun post hp => zy_miss_0 h1 h2 c hp⟩
    · have ⟨a, b, d⟩ := zc_61 Z c
      exact Or.inr ⟨i, rfl, c, fun post hp => zc_thr_p X Z c hp, fun post hp => zy_miss_1 h1 h2 c (by omega) hp⟩
theorem zc_fold (Z : zc_Z M R nx cnt fr kd pt nm ex fi le bu) {i : Nat} (h : kd i ≠ 0) : (lN (zc_thd kd pt nm i) &&& 1 = 0) ↔ kd i = 1 := by
  have ⟨a, b, c, d⟩ := zc_thd_d Z h
  have e := (zc_61 Z h).2.2
  rw [zb_fold d, c]
  by_cases q : kd i = 2
  · rw [if_pos q]; omega
  · rw [if_neg q]; omega
theorem zc_thd0 (Z : zc_Z M R nx cnt fr kd pt nm ex fi le bu) {i : Nat} (h : kd i ≠ 0) : (0 : Int64) ≤ lN (zc_thd kd pt nm i) := zb_pos (zc_thd_d Z h).2.2.2
theorem zc_folder (X : zx_X M R (nI (nx - 2)) (nI cnt) (nI fr) (zn bu) u) (Z : zc_Z M R nx cnt fr kd pt nm ex fi le bu) (p : Int32) :
    (∃ r : Int32, (¬ r = 0 ∧ ¬ 0 ≤ r) ∧ (∀ post : Int32 → SX → Prop, (∀ u', zx_X M R (nI (nx - 2)) (nI cnt) (nI fr) (zn bu) u' → post r u') → wpX_refuseFolder post u p) ∧ (∀ post : Int32 → Prop, post r → wpY_refuseFolder post (nI nx, zn kd, zn pt, zn nm, zn ex, zn fi, zn le, mk, tn) p)) ∨
    (∃ i, p = nI i ∧ kd i = 2 ∧ (∀ post : Int32 → SX → Prop, (∀ u', zx_X M R (nI (nx - 2)) (nI cnt) (nI fr) (zn bu) u' → post 0 u') → wpX_refuseFolder post u p) ∧ (∀ post : Int32 → Prop, post 0 → wpY_refuseFolder post (nI nx, zn kd, zn pt, zn nm, zn ex, zn fi, zn le, mk, tn) p)) := by
  obtain ⟨q1_0, q1_1, q1_2, q1_3, q1_4, q1_5, q1_6, q1_7, q1_8, q1_9, q1_10, q1_11, q1_12, q1_13, q1_14, q1_15, q1_16, q1_17⟩ := u
  rcases zc_item X Z p with ⟨hx, hy⟩ | ⟨i, rfl, h, hx, hy⟩
  · refine Or.inl ⟨-1, by decide, fun post hp => ?_, fun post hp => ?_⟩
    · unfold wpX_refuseFolder
      refine hx _ (fun u' X' => ?_)
      obtain ⟨q2_0, q2_1, q2_2, q2_3, q2_4, q2_5, q2_6, q2_7, q2_8, q2_9, q2_10, q2_11, q2_12, q2_13, q2_14, q2_15, q2_16, q2_17⟩ := u'
      exact br_f zb_neg (hp _ X')
    · unfold wpY_refuseFolder
      exact hy _ (br_f (by decide) hp)
  · have ⟨a, b, c⟩ := zc_61 Z h
    have cl := zy_kd (kd := kd) b
    by_cases e : kd i = 2
    · refine Or.inr ⟨i, rfl, e, fun post hp => ?_, fun post hp => ?_⟩
      · unfold wpX_refuseFolder
        refine hx _ (fun u' X' => ?_)
        obtain ⟨q2_0, q2_1, q2_2, q2_3, q2_4, q2_5, q2_6, q2_7, q2_8, q2_9, q2_10, q2_11, q2_12, q2_13, q2_14, q2_15, q2_16, q2_17⟩ := u'
        exact br_t (zc_thd0 Z h) (br_f (fun z => by have := (zc_fold Z h).mp z; omega) (br_f (by decide) (hp _ X')))
      · unfold wpY_refuseFolder
        exact hy _ (br_t rfl (zs_i rfl (show i < 62 by omega) (by decide) (br_t (by rw [cl, e]; rfl) hp)))
    · refine Or.inl ⟨-2, by decide, fun post hp => ?_, fun post hp => ?_⟩
      · unfold wpX_refuseFolder
        refine hx _ (fun u' X' => ?_)
        obtain ⟨q2_0, q2_1, q2_2, q2_3, q2_4, q2_5, q2_6, q2_7, q2_8, q2_9, q2_10, q2_11, q2_12, q2_13, q2_14, q2_15, q2_16, q2_17⟩ := u'
        exact br_t (zc_thd0 Z h) (br_t ((zc_fold Z h).mpr (by omega)) (br_t rfl (hp _ X')))
      · unfold wpY_refuseFolder
        exact hy _ (br_t rfl (zs_i rfl (show i < 62 by omega) (by decide) (br_f (by rw [cl]; exact fun z => e ((nI_eq (b := 2) (by omega) (by omega)).mp z)) hp)))
theorem zc_file (X : zx_X M R (nI (nx - 2)) (nI cnt) (nI fr) (zn bu) u) (Z : zc_Z M R nx cnt fr kd pt nm ex fi le bu) (p : Int32) :
    (∃ r : Int32, (¬ r = 0 ∧ ¬ 0 ≤ r) ∧ (∀ post : Int32 → SX → Prop, (∀ u', zx_X M R (nI (nx - 2)) (nI cnt) (nI fr) (zn bu) u' → post r u') → wpX_refuseFile post u p) ∧ (∀ post : Int32 → Prop, post r → wpY_refuseFile post (nI nx, zn kd, zn pt, zn nm, zn ex, zn fi, zn le, mk, tn) p)) ∨
    (∃ i, p = nI i ∧ kd i = 1 ∧ (∀ post : Int32 → SX → Prop, (∀ u', zx_X M R (nI (nx - 2)) (nI cnt) (nI fr) (zn bu) u' → post 0 u') → wpX_refuseFile post u p) ∧ (∀ post : Int32 → Prop, post 0 → wpY_refuseFile post (nI nx, zn kd, zn pt, zn nm, zn ex, zn fi, zn le, mk, tn) p)) := by
  obtain ⟨q1_0, q1_1, q1_2, q1_3, q1_4, q1_5, q1_6, q1_7, q1_8, q1_9, q1_10, q1_11, q1_12, q1_13, q1_14, q1_15, q1_16, q1_17⟩ := u
  rcases zc_item X Z p with ⟨hx, hy⟩ | ⟨i, rfl, h, hx, hy⟩
  · refine Or.inl ⟨-1, by decide, fun post hp => ?_, fun post hp => ?_⟩
    · unfold wpX_refuseFile
      refine hx _ (fun u' X' => ?_)
      obtain ⟨q2_0, q2_1, q2_2, q2_3, q2_4, q2_5, q2_6, q2_7, q2_8, q2_9, q2_10, q2_11, q2_12, q2_13, q2_14, q2_15, q2_16, q2_17⟩ := u'
      exact br_f zb_neg (hp _ X')
    · unfold wpY_refuseFile
      exact hy _ (br_f (by decide) hp)
  · have ⟨a, b, c⟩ := zc_61 Z h
    have cl := zy_kd (kd := kd) b
    by_cases e : kd i = 1
    · refine Or.inr ⟨i, rfl, e, fun post hp => ?_, fun post hp => ?_⟩
      · unfold wpX_refuseFile
        refine hx _ (fun u' X' => ?_)
        obtain ⟨q2_0, q2_1, q2_2, q2_3, q2_4, q2_5, q2_6, q2_7, q2_8, q2_9, q2_10, q2_11, q2_12, q2_13, q2_14, q2_15, q2_16, q2_17⟩ := u'
        exact br_t (zc_thd0 Z h) (br_t ((zc_fold Z h).mpr e) (br_t rfl (hp _ X')))
      · unfold wpY_refuseFile
        exact hy _ (br_t rfl (zs_i rfl (show i < 62 by omega) (by decide) (br_t (by rw [cl, e]; rfl) hp)))
    · refine Or.inl ⟨-9, by decide, fun post hp => ?_, fun post hp => ?_⟩
      · unfold wpX_refuseFile
        refine hx _ (fun u' X' => ?_)
        obtain ⟨q2_0, q2_1, q2_2, q2_3, q2_4, q2_5, q2_6, q2_7, q2_8, q2_9, q2_10, q2_11, q2_12, q2_13, q2_14, q2_15, q2_16, q2_17⟩ := u'
        exact br_t (zc_thd0 Z h) (br_f (fun z => e ((zc_fold Z h).mp z)) (br_f (by decide) (hp _ X')))
      · unfold wpY_refuseFile
        exact hy _ (br_t rfl (zs_i rfl (show i < 62 by omega) (by decide) (br_f (by rw [cl]; exact fun z => e ((nI_eq (b := 1) (by omega) (by omega)).mp z)) hp)))
end
theorem i_vc_kindOf {k : Nat} {u : SX} {v : SY} (I : i_Rel k u v) (hk : k + 4 ≤ 2048) (v1 : Int32) : wpX_kindOf (fun r u' => wpY_kindOf (fun r' => r' = r ∧ i_Rel (k + 4) u' v) v v1) u v1 := by
  obtain ⟨M, R, nx, cnt, fr, kd, pt, nm, ex, fi, le, bu, mk, tn, X, rfl, Z⟩ := I
  obtain ⟨q1_0, q1_1, q1_2, q1_3, q1_4, q1_5, q1_6, q1_7, q1_8, q1_9, q1_10, q1_11, q1_12, q1_13, q1_14, q1_15, q1_16, q1_17⟩ := u
  unfold wpX_kindOf
  rcases zc_item X Z v1 with ⟨hx, hy⟩ | ⟨i, rfl, h, hx, hy⟩
  · refine hx _ (fun u' X' => ?_)
    obtain ⟨q2_0, q2_1, q2_2, q2_3, q2_4, q2_5, q2_6, q2_7, q2_8, q2_9, q2_10, q2_11, q2_12, q2_13, q2_14, q2_15, q2_16, q2_17⟩ := u'
    refine br_f zb_neg ?_
    unfold wpY_kindOf
    exact hy _ (br_f (by decide) ⟨rfl, zc_mk X' Z⟩)
  · have ⟨a, b, c⟩ := zc_61 Z h
    have cl := zy_kd (kd := kd) b
    refine hx _ (fun u' X' => ?_)
    obtain ⟨q2_0, q2_1, q2_2, q2_3, q2_4, q2_5, q2_6, q2_7, q2_8, q2_9, q2_10, q2_11, q2_12, q2_13, q2_14, q2_15, q2_16, q2_17⟩ := u'
    refine br_t (zc_thd0 Z h) ?_
    have go : ∀ r : Int32, nI (kd i) = r → wpY_kindOf (fun r' => r' = r ∧ i_Rel (k + 4) (q2_0, q2_1, q2_2, q2_3, q2_4, q2_5, q2_6, q2_7, q2_8, q2_9, q2_10, q2_11, q2_12, q2_13, q2_14, q2_15, q2_16, q2_17) (nI nx, zn kd, zn pt, zn nm, zn ex, zn fi, zn le, mk, tn)) (nI nx, zn kd, zn pt, zn nm, zn ex, zn fi, zn le, mk, tn) (nI i) := fun r hr => by
      unfold wpY_kindOf
      refine hy _ (br_t rfl (zs_i rfl (show i < 62 by omega) (by decide) ?_))
      rw [cl]
      exact ⟨hr, zc_mk X' Z⟩
    by_cases e : kd i = 1
    · exact br_t ((zc_fold Z h).mpr e) (br_t rfl (go 1 (by rw [e]; rfl)))
    · exact br_f (fun z => e ((zc_fold Z h).mp z)) (br_f (by decide) (go 2 (by rw [show kd i = 2 from by omega]; rfl)))
theorem i_vc_parentOf {k : Nat} {u : SX} {v : SY} (I : i_Rel k u v) (hk : k + 4 ≤ 2048) (v1 : Int32) : wpX_parentOf (fun r u' => wpY_parentOf (fun r' => r' = r ∧ i_Rel (k + 4) u' v) v v1) u v1 := by
  obtain ⟨M, R, nx, cnt, fr, kd, pt, nm, ex, fi, le, bu, mk, tn, X, rfl, Z⟩ := I
  obtain ⟨q1_0, q1_1, q1_2, q1_3, q1_4, q1_5, q1_6, q1_7, q1_8, q1_9, q1_10, q1_11, q1_12, q1_13, q1_14, q1_15, q1_16, q1_17⟩ := u
  unfold wpX_parentOf
  rcases zc_item X Z v1 with ⟨hx, hy⟩ | ⟨i, rfl, h, hx, hy⟩
  · refine hx _ (fun u' X' => ?_)
    obtain ⟨q2_0, q2_1, q2_2, q2_3, q2_4, q2_5, q2_6, q2_7, q2_8, q2_9, q2_10, q2_11, q2_12, q2_13, q2_14, q2_15, q2_16, q2_17⟩ := u'
    refine br_f zb_neg ?_
    unfold wpY_parentOf
    unfold wpY_refuseItem
    exact hy _ (br_f (by decide) (br_f (by decide) ⟨rfl, zc_mk X' Z⟩))
  · have ⟨a, b, c⟩ := zc_61 Z h
    have ⟨d1, d2, d3, d4⟩ := zc_thd_d Z h
    refine hx _ (fun u' X' => ?_)
    obtain ⟨q2_0, q2_1, q2_2, q2_3, q2_4, q2_5, q2_6, q2_7, q2_8, q2_9, q2_10, q2_11, q2_12, q2_13, q2_14, q2_15, q2_16, q2_17⟩ := u'
    refine br_t (zc_thd0 Z h) ?_
    by_cases e : i = 1
    · have e1 : nI i = 1 := by rw [e]; rfl
      refine br_t e1 ?_
      unfold wpY_parentOf
      unfold wpY_refuseItem
      exact hy _ (br_t rfl (br_t e1 (br_f (by decide) ⟨rfl, zc_mk X' Z⟩)))
    · have e1 : ¬ nI i = 1 := fun z => e ((nI_eq (b := 1) (by omega) (by omega)).mp z)
      refine br_f e1 ?_
      unfold wpX_threadParent
      rw [zb_par d4, d1]
      unfold wpY_parentOf
      unfold wpY_refuseItem
      refine hy _ (br_t rfl (br_f e1 (br_t (by decide) (zs_i rfl (show i < 62 by omega) (by decide) ?_))))
      exact ⟨by rw [zs_cn (n := i) rfl (by omega)]; rfl, zc_mk X' Z⟩
theorem i_vc_nameOf {k : Nat} {u : SX} {v : SY} (I : i_Rel k u v) (hk : k + 4 ≤ 2048) (v1 : Int32) : wpX_nameOf (fun r u' => wpY_nameOf (fun r' => r' = r ∧ i_Rel (k + 4) u' v) v v1) u v1 := by
  obtain ⟨M, R, nx, cnt, fr, kd, pt, nm, ex, fi, le, bu, mk, tn, X, rfl, Z⟩ := I
  obtain ⟨q1_0, q1_1, q1_2, q1_3, q1_4, q1_5, q1_6, q1_7, q1_8, q1_9, q1_10, q1_11, q1_12, q1_13, q1_14, q1_15, q1_16, q1_17⟩ := u
  unfold wpX_nameOf
  rcases zc_item X Z v1 with ⟨hx, hy⟩ | ⟨i, rfl, h, hx, hy⟩
  · refine hx _ (fun u' X' => ?_)
    obtain ⟨q2_0, q2_1, q2_2, q2_3, q2_4, q2_5, q2_6, q2_7, q2_8, q2_9, q2_10, q2_11, q2_12, q2_13, q2_14, q2_15, q2_16, q2_17⟩ := u'
    refine br_f zb_neg ?_
    unfold wpY_nameOf
    unfold wpY_refuseItem
    exact hy _ (br_f (by decide) (br_f (by decide) ⟨rfl, zc_mk X' Z⟩))
  · have ⟨a, b, c⟩ := zc_61 Z h
    have ⟨d1, d2, d3, d4⟩ := zc_thd_d Z h
    refine hx _ (fun u' X' => ?_)
    obtain ⟨q2_0, q2_1, q2_2, q2_3, q2_4, q2_5, q2_6, q2_7, q2_8, q2_9, q2_10, q2_11, q2_12, q2_13, q2_14, q2_15, q2_16, q2_17⟩ := u'
    refine br_t (zc_thd0 Z h) ?_
    by_cases e : i = 1
    · have e1 : nI i = 1 := by rw [e]; rfl
      refine br_t e1 ?_
      unfold wpY_nameOf
      unfold wpY_refuseItem
      exact hy _ (br_t rfl (br_t e1 (br_f (by decide) ⟨rfl, zc_mk X' Z⟩)))
    · have e1 : ¬ nI i = 1 := fun z => e ((nI_eq (b := 1) (by omega) (by omega)).mp z)
      refine br_f e1 ?_
      unfold wpX_threadName
      rw [zb_nam d4, d2]
      unfold wpY_nameOf
      unfold wpY_refuseItem
      refine hy _ (br_t rfl (br_f e1 (br_t (by decide) (zs_i rfl (show i < 62 by omega) (by decide) ?_))))
      exact ⟨by rw [zs_cn (n := i) rfl (by omega)]; rfl, zc_mk X' Z⟩
end
section
/-! Y's counting and looking up; items, find -/
section
variable {nx cnt fr R : Nat} {kd pt nm ex fi le bu : Nat → Nat} {mk tn : Nat → Int32} {M : Nat → Nat → Option Int64} {u : SX}
theorem zy_items_l {post : Int32 → Prop} (hkd : ∀ i, kd i ≤ 2) (hp : post (nI (zc_cn kd))) : ∀ d i m, i + d = 62 → 2 ≤ i → d < m → wY_items_4 post (nI nx) (zn kd) (zn pt) (zn nm) (zn ex) (zn fi) (zn le) mk tn m (nI (zt_sm (fun i => if 2 ≤ i ∧ kd i ≠ 0 then 1 else 0) i)) (nI i) := by
  intro d
  induction d with
  | zero =>
    intro i m hi h2 hm
    obtain ⟨m, rfl⟩ : ∃ k, m = k + 1 := ⟨m - 1, by omega⟩
    obtain rfl : i = 62 := by omega
    exact br_t (nI_le (a := 62) (by omega) (by decide)) hp
  | succ d ih =>
    intro i m hi h2 hm
    obtain ⟨m, rfl⟩ : ∃ k, m = k + 1 := ⟨m - 1, by omega⟩
    have cl := zy_kd (kd := kd) (i := i) (by omega)
    have h := ih (i + 1) m (by omega) (by omega) (by omega)
    have e : zt_sm (fun i => if 2 ≤ i ∧ kd i ≠ 0 then 1 else 0) (i + 1) = zt_sm (fun i => if 2 ≤ i ∧ kd i ≠ 0 then 1 else 0) i + (if 2 ≤ i ∧ kd i ≠ 0 then 1 else 0) := rfl
    refine br_f (nI_ge (b := 62) (by omega) (by decide)) (zs_i rfl (show i < 62 by omega) (by decide) ?_)
    rw [cl]
    by_cases c : kd i = 0
    · rw [e, if_neg (fun z => z.2 c), Nat.add_zero] at h
      exact br_t (by rw [c]; rfl) (nm_r (nI_1 i) h)
    · rw [e, if_pos ⟨h2, c⟩] at h
      have := hkd i
      exact br_f (nI_ne0 (by omega) (by omega)) (nm_r (nI_1 _) (nm_r (nI_1 i) h))
theorem zy_items {post : Int32 → Prop} (hkd : ∀ i, kd i ≤ 2) (hp : post (nI (zc_cn kd))) : wpY_items post (nI nx, zn kd, zn pt, zn nm, zn ex, zn fi, zn le, mk, tn) := by
  have h := zy_items_l (nx := nx) (pt := pt) (nm := nm) (ex := ex) (fi := fi) (le := le) (mk := mk) (tn := tn) hkd hp 60 2 61 (by omega) (by omega) (by omega)
  have e : zt_sm (fun i => if 2 ≤ i ∧ kd i ≠ 0 then 1 else 0) 2 = 0 := by
    show 0 + (if 2 ≤ 0 ∧ kd 0 ≠ 0 then 1 else 0) + (if 2 ≤ 1 ∧ kd 1 ≠ 0 then 1 else 0) = 0
    rw [if_neg (by omega), if_neg (by omega)]
  rw [e] at h
  exact Exists.intro 61 h
theorem zc_kd2 (Z : zc_Z M R nx cnt fr kd pt nm ex fi le bu) (i : Nat) : kd i ≤ 2 := by
  by_cases c : kd i = 0
  · omega
  · have := zc_61 Z c; omega
theorem zy_look_l (Z : zc_Z M R nx cnt fr kd pt nm ex fi le bu) {p n : Nat} (hpp : p < 2 ^ 31) (hn : n < 2 ^ 31) : ∀ d i m, i + d = 62 → 2 ≤ i → (∀ i', i' < i → 2 ≤ i' → kd i' ≠ 0 → pt i' = p → nm i' = n → False) → d < m →
    ∃ j, ((j = 0 ∧ ∀ i, 2 ≤ i → kd i ≠ 0 → pt i = p → nm i = n → False) ∨ (2 ≤ j ∧ kd j ≠ 0 ∧ pt j = p ∧ nm j = n)) ∧ ∀ post : Int32 → Prop, post (nI j) → wY_lookup_2 post (nI p) (nI n) (nI nx) (zn kd) (zn pt) (zn nm) (zn ex) (zn fi) (zn le) mk tn m (nI i) := by
  intro d
  induction d with
  | zero =>
    intro i m hi h2 hb hm
    obtain ⟨m, rfl⟩ : ∃ k, m = k + 1 := ⟨m - 1, by omega⟩
    obtain rfl : i = 62 := by omega
    exact ⟨0, Or.inl ⟨rfl, fun i a b c d => hb i (by have := zc_61 Z b; omega) a b c d⟩, fun post hp => br_t (nI_le (a := 62) (by omega) (by decide)) hp⟩
  | succ d ih =>
    intro i m hi h2 hb hm
    obtain ⟨m, rfl⟩ : ∃ k, m = k + 1 := ⟨m - 1, by omega⟩
    have cl := zy_kd (kd := kd) (i := i) (by omega)
    have cp := zy_kd (kd := pt) (i := i) (by omega)
    have cn := zy_kd (kd := nm) (i := i) (by omega)
    have k2 := zc_kd2 Z i
    have hin : vp_in (nI i) 62 := vp_in_nI (by omega) (by decide)
    have h62 : ¬ (62 : Int32) ≤ nI i := nI_ge (b := 62) (by omega) (by decide)
    have next : (kd i ≠ 0 → pt i = p → nm i = n → False) → ∃ j, ((j = 0 ∧ ∀ i, 2 ≤ i → kd i ≠ 0 → pt i = p → nm i = n → False) ∨ (2 ≤ j ∧ kd j ≠ 0 ∧ pt j = p ∧ nm j = n)) ∧ ∀ post : Int32 → Prop, post (nI j) → wY_lookup_2 post (nI p) (nI n) (nI nx) (zn kd) (zn pt) (zn nm) (zn ex) (zn fi) (zn le) mk tn m (nI (i + 1)) := fun h =>
      ih (i + 1) m (by omega) (by omega) (fun i' a b c d e => by
        by_cases q : i' = i
        · rw [q] at c d e; exact h c d e
        · exact hb i' (by omega) b c d e) (by omega)
    by_cases c : kd i = 0
    · obtain ⟨j, j1, j2⟩ := next (fun a => absurd c a)
      refine ⟨j, j1, fun post hp => br_f h62 ⟨hin, ?_⟩⟩
      rw [cl]
      exact br_t (by rw [c]; rfl) (nm_r (nI_1 i) (j2 post hp))
    · have ⟨p1, p2⟩ := zc_pt Z c
      have nk : ¬ nI (kd i) = 0 := nI_ne0 (by omega) (by omega)
      by_cases c2 : pt i = p
      · by_cases c3 : nm i = n
        · refine ⟨i, Or.inr ⟨h2, c, c2, c3⟩, fun post hp => br_f h62 ⟨hin, ?_⟩⟩
          rw [cl, cp, cn]
          exact br_f nk ⟨hin, br_t (by rw [c2]) ⟨hin, br_t (by rw [c3]) hp⟩⟩
        · obtain ⟨j, j1, j2⟩ := next (fun _ _ a => c3 a)
          refine ⟨j, j1, fun post hp => br_f h62 ⟨hin, ?_⟩⟩
          rw [cl, cp, cn]
          exact br_f nk ⟨hin, br_t (by rw [c2]) ⟨hin, br_f (fun z => c3 ((nI_eq (by omega) hn).mp z)) (nm_r (nI_1 i) (j2 post hp))⟩⟩
      · obtain ⟨j, j1, j2⟩ := next (fun _ a _ => c2 a)
        refine ⟨j, j1, fun post hp => br_f h62 ⟨hin, ?_⟩⟩
        rw [cl, cp]
        exact br_f nk ⟨hin, br_f (fun z => c2 ((nI_eq (by omega) hpp).mp z)) (nm_r (nI_1 i) (j2 post hp))⟩
theorem zy_look (Z : zc_Z M R nx cnt fr kd pt nm ex fi le bu) {p n : Nat} (hp : p < 2 ^ 31) (hn : n < 2 ^ 31) :
    ∃ j, ((j = 0 ∧ ∀ i, 2 ≤ i → kd i ≠ 0 → pt i = p → nm i = n → False) ∨ (2 ≤ j ∧ kd j ≠ 0 ∧ pt j = p ∧ nm j = n)) ∧ ∀ post : Int32 → Prop, post (nI j) → wpY_lookup post (nI nx, zn kd, zn pt, zn nm, zn ex, zn fi, zn le, mk, tn) (nI p) (nI n) := by
  obtain ⟨j, a, b⟩ := zy_look_l (mk := mk) (tn := tn) Z hp hn 60 2 61 (by omega) (by omega) (fun i' a b => by omega) (by omega)
  exact ⟨j, a, fun post h => Exists.intro 61 (b post h)⟩
end
/-- a name: refused on both sides, or a number below 256 -/
theorem zc_name (n : Int32) : ((n < 0 ∨ (¬ n < 0 ∧ ¬ n ≤ 255)) ∧ (∀ post : Int32 → Prop, post 1 → wpY_badName post n)) ∨ (∃ j : Nat, j < 256 ∧ n = nI j ∧ ¬ n < 0 ∧ n ≤ 255 ∧ (∀ post : Int32 → Prop, post 0 → wpY_badName post n)) := by
  by_cases h : n < 0
  · exact Or.inl ⟨Or.inl h, fun post hp => br_t h hp⟩
  · by_cases h2 : n ≤ 255
    · obtain ⟨j, h3, h4⟩ := nI_of2 (M := 255) (n := 255) (by decide) h h2
      exact Or.inr ⟨j, by omega, h4, h, h2, fun post hp => br_f h (br_t h2 hp)⟩
    · exact Or.inl ⟨Or.inr ⟨h, h2⟩, fun post hp => br_f h (br_f h2 hp)⟩
theorem zc_key (p n : Nat) : ((512 : Int32) * nI p + nI n) + 1 = nI (512 * p + n + 1) := by rw [zs_512, nI_add, nI_1]
theorem i_vc_items {k : Nat} {u : SX} {v : SY} (I : i_Rel k u v) (hk : k + 4 ≤ 2048) : wpX_items (fun r => wpY_items (fun r' => r' = r ∧ i_Rel (k + 4) u v) v) u := by
  have I0 := I
  obtain ⟨M, R, nx, cnt, fr, kd, pt, nm, ex, fi, le, bu, mk, tn, X, rfl, Z⟩ := I
  obtain ⟨dp, pl, pa, sk, wn, ws, Rt, T, L, S, K, C, A, lv, tr, lo, hi, V, rfl, N⟩ := X
  unfold wpX_items
  exact zy_items (fun i => zc_kd2 Z i) ⟨by rw [Z.2.2.2.2.1], I0⟩
theorem i_vc_find {k : Nat} {u : SX} {v : SY} (I : i_Rel k u v) (hk : k + 4 ≤ 2048) (v1 : Int32) (v2 : Int32) : wpX_find (fun r u' => wpY_find (fun r' => r' = r ∧ i_Rel (k + 4) u' v) v v1 v2) u v1 v2 := by
  obtain ⟨M, R, nx, cnt, fr, kd, pt, nm, ex, fi, le, bu, mk, tn, X, rfl, Z⟩ := I
  obtain ⟨q1_0, q1_1, q1_2, q1_3, q1_4, q1_5, q1_6, q1_7, q1_8, q1_9, q1_10, q1_11, q1_12, q1_13, q1_14, q1_15, q1_16, q1_17⟩ := u
  unfold wpX_find
  rcases zc_folder X Z v1 with ⟨r, ⟨r1, r2⟩, hx, hy⟩ | ⟨p, rfl, h, hx, hy⟩
  · refine hx _ (fun u' X' => ?_)
    obtain ⟨q2_0, q2_1, q2_2, q2_3, q2_4, q2_5, q2_6, q2_7, q2_8, q2_9, q2_10, q2_11, q2_12, q2_13, q2_14, q2_15, q2_16, q2_17⟩ := u'
    refine br_f r1 ?_
    unfold wpY_find
    exact hy _ (br_f r2 ⟨rfl, zc_mk X' Z⟩)
  · have ⟨p1, p2, p3⟩ := zc_61 Z (i := p) (by omega)
    refine hx _ (fun u' X' => ?_)
    obtain ⟨q2_0, q2_1, q2_2, q2_3, q2_4, q2_5, q2_6, q2_7, q2_8, q2_9, q2_10, q2_11, q2_12, q2_13, q2_14, q2_15, q2_16, q2_17⟩ := u'
    refine br_t rfl ?_
    rcases zc_name v2 with ⟨h2, hb⟩ | ⟨n, hn, rfl, h2, h3, hb⟩
    · have go : wpY_find (fun r' => r' = -3 ∧ i_Rel (k + 4) (q2_0, q2_1, q2_2, q2_3, q2_4, q2_5, q2_6, q2_7, q2_8, q2_9, q2_10, q2_11, q2_12, q2_13, q2_14, q2_15, q2_16, q2_17) (nI nx, zn kd, zn pt, zn nm, zn ex, zn fi, zn le, mk, tn)) (nI nx, zn kd, zn pt, zn nm, zn ex, zn fi, zn le, mk, tn) (nI p) v2 := by
        unfold wpY_find
        exact hy _ (br_t (by decide) (hb _ (br_f (by decide) ⟨rfl, zc_mk X' Z⟩)))
      rcases h2 with h2 | ⟨h2, h3⟩
      · exact br_t h2 go
      · exact br_f h2 (br_f h3 go)
    · refine br_f h2 (br_t h3 ?_)
      obtain ⟨j, j1, j2⟩ := zy_look (mk := mk) (tn := tn) Z (p := p) (n := n) (by omega) (by omega)
      unfold wpX_itemKey
      rw [zc_key]
      refine zc_get X' (t := 0) (by omega) (by omega) (fun hM u3 X3 => ?_) (fun v hv dp sk wn ws Rt T L S K C A lv tr lo hi V x i N x8 i5 e => ?_)
      · obtain ⟨q3_0, q3_1, q3_2, q3_3, q3_4, q3_5, q3_6, q3_7, q3_8, q3_9, q3_10, q3_11, q3_12, q3_13, q3_14, q3_15, q3_16, q3_17⟩ := u3
        refine br_t rfl ?_
        unfold wpY_find
        refine hy _ (br_t (by decide) (hb _ (br_t rfl (j2 _ ?_))))
        rcases j1 with ⟨a, b⟩ | ⟨a, b, c, d⟩
        · rw [a]; exact br_t (by decide) ⟨rfl, zc_mk X3 Z⟩
        · have := zc_g2 Z a b
          rw [c, d, hM] at this; exact nomatch this
      · obtain ⟨i', a1, a2, a3, a4, a5⟩ := zc_g3 Z (by omega) hv
        have ⟨b1, b2, b3⟩ := zc_61 Z a2
        refine br_f (by decide) (zs_i (zs_5a x i) (by omega) (by decide) ?_)
        unfold wpX_recordId
        rw [zs_cn (zs_5a x i) (by omega), e, a5, zb_id, (zc_rec_d Z a2).1]
        unfold wpY_find
        refine hy _ (br_t (by decide) (hb _ (br_t rfl (j2 _ ?_))))
        rcases j1 with ⟨a, b⟩ | ⟨a, b, c, d⟩
        · exact absurd (b i' a1 a2 a3 a4) (fun z => z)
        · have e2 : j = i' := Z.1.2.2.2.2.1 j i' a a1 b a2 (by omega) (by omega)
          rw [e2]
          exact br_f (nI_ge (a := 0) (by omega) (by omega)) ⟨rfl, zc_mk (zx_Xi N) Z⟩
end
section
/-! entries, entry -/
def zc_chd (kd pt : Nat → Nat) (p i : Nat) : Prop := 2 ≤ i ∧ kd i ≠ 0 ∧ pt i = p
def zc_cf (kd pt nm : Nat → Nat) (p q : Nat) : Nat → Nat := fun i => if (2 ≤ i ∧ kd i ≠ 0) ∧ pt i = p ∧ nm i < q then 1 else 0
def zc_cl (kd pt nm : Nat → Nat) (p q : Nat) : Nat := zt_sm (zc_cf kd pt nm p q) 62
section
variable {nx cnt fr R : Nat} {kd pt nm ex fi le bu : Nat → Nat} {mk tn : Nat → Int32} {M : Nat → Nat → Option Int64} {u : SX}
theorem zc_cf1 {p q i : Nat} (h : zc_chd kd pt p i) (hn : nm i < q) : zc_cf kd pt nm p q i = 1 := if_pos ⟨⟨h.1, h.2.1⟩, h.2.2, hn⟩
theorem zc_cf0 {p q i : Nat} (h : ¬ (zc_chd kd pt p i ∧ nm i < q)) : zc_cf kd pt nm p q i = 0 := if_neg (fun z => h ⟨⟨z.1.1, z.1.2, z.2.1⟩, z.2.2⟩)
theorem zc_cl_step (Z : zc_Z M R nx cnt fr kd pt nm ex fi le bu) {p q i : Nat} (h : zc_chd kd pt p i) (h1 : q ≤ nm i) (h2 : ∀ j, zc_chd kd pt p j → q ≤ nm j → nm i ≤ nm j) : zc_cl kd pt nm p (nm i + 1) = zc_cl kd pt nm p q + 1 := by
  have b := zc_61 Z h.2.1
  have e := zt_sm_1 (g := zc_cf kd pt nm p q) (g' := zc_cf kd pt nm p (nm i + 1)) (a := i) (n := 62) (by omega) (fun j hj hji => by
    by_cases c : zc_chd kd pt p j
    · by_cases c2 : nm j < q
      · rw [zc_cf1 c c2, zc_cf1 c (by omega)]
      · have w := h2 j c (by omega)
        have : nm j ≠ nm i := fun z => hji (Z.1.2.2.2.2.1 j i c.1 h.1 c.2.1 h.2.1 (c.2.2.trans h.2.2.symm) z)
        rw [zc_cf0 (fun z => by omega), zc_cf0 (fun z => by omega)]
    · rw [zc_cf0 (fun z => c z.1), zc_cf0 (fun z => c z.1)])
  rw [zc_cf0 (i := i) (q := q) (fun z => by omega), zc_cf1 (i := i) h (by omega)] at e
  exact e
theorem zc_cl_skip {p q q' : Nat} (hq : q ≤ q') (h : ∀ j, zc_chd kd pt p j → q ≤ nm j → nm j < q' → False) : zc_cl kd pt nm p q' = zc_cl kd pt nm p q := by
  refine zt_sm_c (fun j hj => ?_)
  by_cases c : zc_chd kd pt p j
  · by_cases c2 : nm j < q
    · rw [zc_cf1 c c2, zc_cf1 c (by omega)]
    · rw [zc_cf0 (q := q') (fun z => h j c (by omega) z.2), zc_cf0 (q := q) (fun z => by omega)]
  · rw [zc_cf0 (fun z => c z.1), zc_cf0 (fun z => c z.1)]
theorem zc_cl_le {p q : Nat} : zc_cl kd pt nm p q ≤ zc_cn kd := by
  refine zt_sm_le (fun j hj => ?_)
  show zc_cf kd pt nm p q j ≤ (if 2 ≤ j ∧ kd j ≠ 0 then 1 else 0)
  by_cases c : zc_chd kd pt p j ∧ nm j < q
  · rw [zc_cf1 c.1 c.2, if_pos ⟨c.1.1, c.1.2.1⟩]; omega
  · rw [zc_cf0 c]; omega
theorem zc_cl_24 (Z : zc_Z M R nx cnt fr kd pt nm ex fi le bu) {p q : Nat} : zc_cl kd pt nm p q ≤ 24 := by
  have := zc_cl_le (kd := kd) (pt := pt) (nm := nm) (p := p) (q := q)
  have := Z.2.2.2.2
  unfold zc_C at this
  omega
theorem zc_cl_0 {p : Nat} : zc_cl kd pt nm p 0 = 0 := zt_sm_z (fun j hj => zc_cf0 (fun z => by omega))
theorem zc_cl_mono {p q q' : Nat} (hq : q ≤ q') : zc_cl kd pt nm p q ≤ zc_cl kd pt nm p q' := by
  refine zt_sm_le (fun j hj => ?_)
  by_cases c : zc_chd kd pt p j ∧ nm j < q
  · rw [zc_cf1 c.1 c.2, zc_cf1 c.1 (by omega)]; exact Nat.le_refl _
  · rw [zc_cf0 c]; omega
theorem zc_cl_lt (Z : zc_Z M R nx cnt fr kd pt nm ex fi le bu) {p i j : Nat} (h : zc_chd kd pt p i) (hij : nm i < nm j) : zc_cl kd pt nm p (nm i) < zc_cl kd pt nm p (nm j) := by
  have a := zc_cl_step Z h (Nat.le_refl _) (fun j _ w => w)
  have b := zc_cl_mono (kd := kd) (pt := pt) (nm := nm) (p := p) (q := nm i + 1) (q' := nm j) hij
  omega
/-- the place says: no entry from name q on, or the first of them -/
theorem zc_plc (Z : zc_Z M R nx cnt fr kd pt nm ex fi le bu) {T lv tr S K : Nat → Nat} {p q : Nat} {pl pa : Int32} (h : zx_pl T lv tr S K M 0 (512 * p + 1 + q) pl pa) (hq : q ≤ 511) (hp : p ≤ 61) :
    ((∀ j, zc_chd kd pt p j → q ≤ nm j → False) ∧ (pl = -1 ∨ ∃ x i, pl = nI x ∧ pa = nI i ∧ T x = 1 ∧ lv x = 0 ∧ tr x = 0 ∧ i < S x ∧ 512 * (p + 1) ≤ K (5 * x + i))) ∨
    (∃ x i c, pl = nI x ∧ pa = nI i ∧ T x = 1 ∧ lv x = 0 ∧ tr x = 0 ∧ i < S x ∧ (∀ v, M 0 (K (5 * x + i)) = some v → v = lN (zc_rec ex fi le c) ∧ K (5 * x + i) = 512 * p + 1 + nm c ∧ zc_chd kd pt p c ∧ q ≤ nm c ∧ nm c < 256 ∧ ∀ j, zc_chd kd pt p j → q ≤ nm j → nm c ≤ nm j) ∧ K (5 * x + i) < 512 * (p + 1)) := by
  rcases h with ⟨a, b⟩ | ⟨x, i, a1, a2, a3, a4, a5, a6, a7, a8⟩
  · refine Or.inl ⟨fun j hj hqj => ?_, Or.inl a⟩
    have g := zc_g2 Z hj.1 hj.2.1
    have w := zc_pt Z hj.2.1
    rw [hj.2.2, b _ (by omega) (by omega)] at g
    exact nomatch g
  · have free : ∀ j, zc_chd kd pt p j → q ≤ nm j → K (5 * x + i) ≤ 512 * p + 1 + nm j := fun j hj hqj => by
      by_cases c : K (5 * x + i) ≤ 512 * p + 1 + nm j
      · exact c
      · exfalso
        have g := zc_g2 Z hj.1 hj.2.1
        rw [hj.2.2, a8 _ (by omega) (by omega)] at g
        exact nomatch g
    by_cases e : K (5 * x + i) < 512 * (p + 1)
    · have hK : ∃ n, K (5 * x + i) = 512 * p + n + 1 := ⟨K (5 * x + i) - (512 * p + 1), by omega⟩
      obtain ⟨n, hn⟩ := hK
      by_cases ex2 : ∃ c, 2 ≤ c ∧ kd c ≠ 0 ∧ pt c = p ∧ nm c = n
      · obtain ⟨c, c1, c2, c3, c4⟩ := ex2
        refine Or.inr ⟨x, i, c, a1, a2, a3, a4, a5, a6, fun v hv => ?_, e⟩
        rw [hn] at hv
        obtain ⟨c', d1, d2, d3, d4, d5⟩ := zc_g3 Z (by omega) hv
        have e2 : c' = c := Z.1.2.2.2.2.1 c' c d1 c1 d2 c2 (d3.trans c3.symm) (d4.trans c4.symm)
        have w := zc_pt Z c2
        refine ⟨by rw [d5, e2], by omega, ⟨c1, c2, c3⟩, by omega, w.2, fun j hj hqj => ?_⟩
        have := free j hj hqj
        omega
      · refine Or.inr ⟨x, i, 0, a1, a2, a3, a4, a5, a6, fun v hv => ?_, e⟩
        rw [hn] at hv
        obtain ⟨c', d1, d2, d3, d4, d5⟩ := zc_g3 Z (by omega) hv
        exact absurd ⟨c', d1, d2, d3, d4⟩ ex2
    · refine Or.inl ⟨fun j hj hqj => ?_, Or.inr ⟨x, i, a1, a2, a3, a4, a5, a6, by omega⟩⟩
      have := free j hj hqj
      have w := zc_pt Z hj.2.1
      omega
end
section
variable {nx cnt fr R : Nat} {kd pt nm ex fi le bu : Nat → Nat} {mk tn : Nat → Int32} {M : Nat → Nat → Option Int64} {u : SX}
theorem zc_ents_l (Z : zc_Z M R nx cnt fr kd pt nm ex fi le bu) {post : Int32 → SX → Prop} {p : Nat} (hp : p ≤ 61) (hpost : ∀ u', zx_X M R (nI (nx - 2)) (nI cnt) (nI fr) (zn bu) u' → post (nI (zc_cl kd pt nm p 256)) u') {dp sk : Int32} {wn ws : Nat → Int32} {Rt T L S K C A lv tr lo hi : Nat → Nat} {V : Nat → Int64} (N : zx_N Rt T L S K C A lv tr lo hi V M R 80 80) :
    ∀ d q m (pl pa : Int32), 256 ≤ q + d → q ≤ 256 → d < m → zx_pl T lv tr S K M 0 (512 * p + 1 + q) pl pa → wX_entries_36 post (nI (512 * (p + 1))) m (nI (zc_cl kd pt nm p q)) (nI (zc_cl kd pt nm p q)) dp pl pa sk (nI (nx - 2)) (nI cnt) (nI fr) (zn Rt) (zn T) (zn L) (zn S) (zn K) V (zn C) (za A) wn ws (zn bu) := by
  intro d
  induction d with
  | zero =>
    intro q m pl pa hqd hq hm hpl
    obtain ⟨m, rfl⟩ : ∃ k, m = k + 1 := ⟨m - 1, by omega⟩
    have c24 := zc_cl_24 Z (p := p) (q := q)
    obtain rfl : q = 256 := by omega
    refine br_f (nI_ge (b := 25) (by omega) (by decide)) ?_
    have X' := zx_Xi (dp := dp) (pl := pl) (pa := pa) (sk := sk) (gv := nI (nx - 2)) (pr := nI cnt) (fb := nI fr) (wn := wn) (ws := ws) (bu := zn bu) N
    rcases zc_plc Z hpl (by omega) hp with ⟨a, b | ⟨x, i, b1, b2, b3, b4, b5, b6, b7⟩⟩ | ⟨x, i, c, b1, b2, b3, b4, b5, b6, b7, b8⟩
    · exact br_t (by rw [b]; decide) (hpost _ X')
    · have ⟨m1, m2, m3, m4⟩ := zx_plv N b3 b4 b6
      have hv : zn K ((5 : Int32) * nI x + nI i).toNatClampNeg = nI (K (5 * x + i)) := by rw [zs_cn (zs_5a x i) (by omega)]; rfl
      rw [b1, b2] at X' ⊢
      exact br_f (nI_pos (by omega)) (zs_i (zs_5a x i) (by omega) (by decide) (br_f (by rw [hv]; exact nI_nlt b7 (by omega)) (hpost _ X')))
    · exfalso
      have ⟨m1, m2, m3, m4⟩ := zx_plv N b3 b4 b6
      rw [b5] at m1
      have := b7 _ m1
      omega
  | succ d ih =>
    intro q m pl pa hqd hq hm hpl
    obtain ⟨m, rfl⟩ : ∃ k, m = k + 1 := ⟨m - 1, by omega⟩
    have c24 := zc_cl_24 Z (p := p) (q := q)
    refine br_f (nI_ge (b := 25) (by omega) (by decide)) ?_
    have X' := zx_Xi (dp := dp) (pl := pl) (pa := pa) (sk := sk) (gv := nI (nx - 2)) (pr := nI cnt) (fb := nI fr) (wn := wn) (ws := ws) (bu := zn bu) N
    rcases zc_plc Z hpl (by omega) hp with ⟨a, b⟩ | ⟨x, i, c, b1, b2, b3, b4, b5, b6, b7, b8⟩
    · have eq : zc_cl kd pt nm p 256 = zc_cl kd pt nm p q := zc_cl_skip hq (fun j h1 h2 _ => a j h1 h2)
      rw [eq] at hpost
      rcases b with b | ⟨x, i, b1, b2, b3, b4, b5, b6, b7⟩
      · exact br_t (by rw [b]; decide) (hpost _ X')
      · have ⟨m1, m2, m3, m4⟩ := zx_plv N b3 b4 b6
        have hv : zn K ((5 : Int32) * nI x + nI i).toNatClampNeg = nI (K (5 * x + i)) := by rw [zs_cn (zs_5a x i) (by omega)]; rfl
        rw [b1, b2] at X' ⊢
        exact br_f (nI_pos (by omega)) (zs_i (zs_5a x i) (by omega) (by decide) (br_f (by rw [hv]; exact nI_nlt b7 (by omega)) (hpost _ X')))
    · have ⟨m1, m2, m3, m4⟩ := zx_plv N b3 b4 b6
      rw [b5] at m1
      have ⟨s1, s2, s3, s4, s5, s6⟩ := b7 _ m1
      have hv : zn K ((5 : Int32) * nI x + nI i).toNatClampNeg = nI (K (5 * x + i)) := by rw [zs_cn (zs_5a x i) (by omega)]; rfl
      have st := zc_cl_step Z s3 s4 s6
      obtain ⟨pl', pa', p1, p2⟩ := zw_step (dp := dp) (sk := sk) (gv := nI (nx - 2)) (pr := nI cnt) (fb := nI fr) (wn := wn) (ws := ws) (bu := zn bu) N b3 b4 b6
      rw [b5, s2, show 512 * p + 1 + nm c + 1 = 512 * p + 1 + (nm c + 1) from by omega] at p1
      have go := ih (nm c + 1) m pl' pa' (by omega) (by omega) (by omega) p1
      rw [st, ← nI_1] at go
      rw [b1, b2]
      exact br_f (nI_pos (by omega)) (zs_i (zs_5a x i) (by omega) (by decide) (br_t (by rw [hv]; exact nI_lt b8 (by omega)) (nm_e (p2 _ (nm_e go)))))
theorem zy_ents_l {post : Int32 → Prop} {p : Nat} (Z : zc_Z M R nx cnt fr kd pt nm ex fi le bu) (hp0 : p < 2 ^ 31) (hp : post (nI (zc_cl kd pt nm p 256))) : ∀ d i m, i + d = 62 → 2 ≤ i → d < m → wY_entries_17 post (nI p) (nI nx) (zn kd) (zn pt) (zn nm) (zn ex) (zn fi) (zn le) mk tn m (nI (zt_sm (zc_cf kd pt nm p 256) i)) (nI i) := by
  intro d
  induction d with
  | zero =>
    intro i m hi h2 hm
    obtain ⟨m, rfl⟩ : ∃ k, m = k + 1 := ⟨m - 1, by omega⟩
    obtain rfl : i = 62 := by omega
    exact br_t (nI_le (a := 62) (by omega) (by decide)) hp
  | succ d ih =>
    intro i m hi h2 hm
    obtain ⟨m, rfl⟩ : ∃ k, m = k + 1 := ⟨m - 1, by omega⟩
    have cl := zy_kd (kd := kd) (i := i) (by omega)
    have cp := zy_kd (kd := pt) (i := i) (by omega)
    have h := ih (i + 1) m (by omega) (by omega) (by omega)
    have e : zt_sm (zc_cf kd pt nm p 256) (i + 1) = zt_sm (zc_cf kd pt nm p 256) i + zc_cf kd pt nm p 256 i := rfl
    have k2 := zc_kd2 Z i
    refine br_f (nI_ge (b := 62) (by omega) (by decide)) (zs_i rfl (show i < 62 by omega) (by decide) ?_)
    rw [cl]
    by_cases c : kd i = 0
    · rw [e, zc_cf0 (fun z => z.1.2.1 c), Nat.add_zero] at h
      exact br_t (by rw [c]; rfl) (nm_r (nI_1 i) h)
    · have w := zc_pt Z c
      refine br_f (nI_ne0 (by omega) (by omega)) (zs_i rfl (show i < 62 by omega) (by decide) ?_)
      rw [cp]
      by_cases c2 : pt i = p
      · rw [e, zc_cf1 ⟨h2, c, c2⟩ w.2] at h
        exact br_t (by rw [c2]) (nm_r (nI_1 _) (nm_r (nI_1 i) h))
      · rw [e, zc_cf0 (fun z => c2 z.1.2.2), Nat.add_zero] at h
        exact br_f (fun z => c2 ((nI_eq (by omega) hp0).mp z)) (nm_r (nI_1 i) h)
theorem zy_ents {post : Int32 → Prop} {p : Nat} (Z : zc_Z M R nx cnt fr kd pt nm ex fi le bu) (hp0 : p < 2 ^ 31) (hp : post (nI (zc_cl kd pt nm p 256))) : ∃ n, wY_entries_17 post (nI p) (nI nx) (zn kd) (zn pt) (zn nm) (zn ex) (zn fi) (zn le) mk tn n 0 2 := by
  have h := zy_ents_l (mk := mk) (tn := tn) Z hp0 hp 60 2 61 (by omega) (by omega) (by omega)
  have e : zt_sm (zc_cf kd pt nm p 256) 2 = 0 := by
    show 0 + zc_cf kd pt nm p 256 0 + zc_cf kd pt nm p 256 1 = 0
    rw [zc_cf0 (i := 0) (fun z => by have := z.1.1; omega), zc_cf0 (i := 1) (fun z => by have := z.1.1; omega)]
  rw [e] at h
  exact ⟨61, h⟩
end
theorem i_vc_entries {k : Nat} {u : SX} {v : SY} (I : i_Rel k u v) (hk : k + 4 ≤ 2048) (v1 : Int32) : wpX_entries (fun r u' => wpY_entries (fun r' => r' = r ∧ i_Rel (k + 4) u' v) v v1) u v1 := by
  obtain ⟨M, R, nx, cnt, fr, kd, pt, nm, ex, fi, le, bu, mk, tn, X, rfl, Z⟩ := I
  obtain ⟨q1_0, q1_1, q1_2, q1_3, q1_4, q1_5, q1_6, q1_7, q1_8, q1_9, q1_10, q1_11, q1_12, q1_13, q1_14, q1_15, q1_16, q1_17⟩ := u
  unfold wpX_entries
  rcases zc_folder X Z v1 with ⟨r, ⟨r1, r2⟩, hx, hy⟩ | ⟨p, rfl, h, hx, hy⟩
  · refine hx _ (fun u' X' => ?_)
    obtain ⟨q2_0, q2_1, q2_2, q2_3, q2_4, q2_5, q2_6, q2_7, q2_8, q2_9, q2_10, q2_11, q2_12, q2_13, q2_14, q2_15, q2_16, q2_17⟩ := u'
    refine br_f r1 ?_
    unfold wpY_entries
    exact hy _ (br_f r2 ⟨rfl, zc_mk X' Z⟩)
  · have ⟨p1, p2, p3⟩ := zc_61 Z (i := p) (by omega)
    refine hx _ (fun u' X' => ?_)
    obtain ⟨dp, pl, pa, sk, wn, ws, Rt, T, L, S, K, C, A, lv, tr, lo, hi, V, rfl, N⟩ := X'
    refine br_t rfl ?_
    obtain ⟨dp', pl', pa', wn', ws', s1, s2⟩ := zw_seek (dp := dp) (pl := pl) (pa := pa) (sk := sk) (gv := nI (nx - 2)) (pr := nI cnt) (fb := nI fr) (wn := wn) (ws := ws) (bu := zn bu) (t := 0) (k := 512 * p + 1) N (by omega) (by omega)
    have e : nI (512 * p + 1) = 512 * nI p + 1 := by rw [zs_512, nI_1]
    have e2 : (512 : Int32) * (nI p + 1) = nI (512 * (p + 1)) := by rw [nI_1, zs_512]
    rw [e] at s2
    unfold wpX_threadKey
    refine s2 _ (Exists.intro 257 ?_)
    rw [e2]
    have go := zc_ents_l (dp := dp') (sk := sk) (wn := wn') (ws := ws') (post := fun r u' => wpY_entries (fun r' => r' = r ∧ i_Rel (k + 4) u' (nI nx, zn kd, zn pt, zn nm, zn ex, zn fi, zn le, mk, tn)) (nI nx, zn kd, zn pt, zn nm, zn ex, zn fi, zn le, mk, tn) (nI p)) Z p2 (fun u3 X3 => by
      unfold wpY_entries
      exact hy _ (br_t (by decide) (zy_ents Z (by omega) ⟨rfl, zc_mk X3 Z⟩))) N 256 0 257 pl' pa' (by omega) (by omega) (by omega) s1
    rw [zc_cl_0] at go
    exact go
end
section
/-! entry -/
def zc_ans (kd pt nm : Nat → Nat) (p : Nat) (ps r : Int32) : Prop :=
  (r = -12 ∧ ∀ i, zc_chd kd pt p i → nI (zc_cl kd pt nm p (nm i)) ≠ ps) ∨ (∃ i, zc_chd kd pt p i ∧ nI (zc_cl kd pt nm p (nm i)) = ps ∧ r = nI i)
section
variable {nx cnt fr R : Nat} {kd pt nm ex fi le bu : Nat → Nat} {mk tn : Nat → Int32} {M : Nat → Nat → Option Int64} {u : SX}
theorem zc_ans_u (Z : zc_Z M R nx cnt fr kd pt nm ex fi le bu) {p : Nat} {ps r r' : Int32} (h : zc_ans kd pt nm p ps r) (h' : zc_ans kd pt nm p ps r') : r' = r := by
  rcases h with ⟨a, b⟩ | ⟨i, a1, a2, a3⟩
  · rcases h' with ⟨c, d⟩ | ⟨j, c1, c2, c3⟩
    · rw [a, c]
    · exact absurd c2 (b j c1)
  · rcases h' with ⟨c, d⟩ | ⟨j, c1, c2, c3⟩
    · exact absurd a2 (d i a1)
    · have e : nI (zc_cl kd pt nm p (nm i)) = nI (zc_cl kd pt nm p (nm j)) := a2.trans c2.symm
      have b1 := zc_cl_24 Z (p := p) (q := nm i)
      have b2 := zc_cl_24 Z (p := p) (q := nm j)
      have e2 := (nI_eq (by omega) (by omega)).mp e
      have e3 : nm i = nm j := by
        by_cases x1 : nm i < nm j
        · have := zc_cl_lt Z a1 x1; omega
        · by_cases x2 : nm j < nm i
          · have := zc_cl_lt Z c1 x2; omega
          · omega
      rw [a3, c3, Z.1.2.2.2.2.1 i j a1.1 c1.1 a1.2.1 c1.2.1 (a1.2.2.trans c1.2.2.symm) e3]
theorem zc_ent_l (Z : zc_Z M R nx cnt fr kd pt nm ex fi le bu) {p : Nat} {ps : Int32} (hp : p ≤ 61) {dp sk : Int32} {wn ws : Nat → Int32} {Rt T L S K C A lv tr lo hi : Nat → Nat} {V : Nat → Int64} (N : zx_N Rt T L S K C A lv tr lo hi V M R 80 80) :
    ∀ d q m (pl pa : Int32), 256 ≤ q + d → q ≤ 256 → d < m → zx_pl T lv tr S K M 0 (512 * p + 1 + q) pl pa → (∀ i, zc_chd kd pt p i → nm i < q → nI (zc_cl kd pt nm p (nm i)) ≠ ps) →
      ∃ r, zc_ans kd pt nm p ps r ∧ ∀ post : Int32 → SX → Prop, (∀ u', zx_X M R (nI (nx - 2)) (nI cnt) (nI fr) (zn bu) u' → post r u') → wX_entry_41 post ps (nI (512 * (p + 1))) m (nI (zc_cl kd pt nm p q)) dp pl pa sk (nI (nx - 2)) (nI cnt) (nI fr) (zn Rt) (zn T) (zn L) (zn S) (zn K) V (zn C) (za A) wn ws (zn bu) := by
  have fin : ∀ q m (pl pa : Int32), (∀ i, zc_chd kd pt p i → nm i < q → nI (zc_cl kd pt nm p (nm i)) ≠ ps) → ((∀ j, zc_chd kd pt p j → q ≤ nm j → False) ∧ (pl = -1 ∨ ∃ x i, pl = nI x ∧ pa = nI i ∧ T x = 1 ∧ lv x = 0 ∧ tr x = 0 ∧ i < S x ∧ 512 * (p + 1) ≤ K (5 * x + i))) →
      ∃ r, zc_ans kd pt nm p ps r ∧ ∀ post : Int32 → SX → Prop, (∀ u', zx_X M R (nI (nx - 2)) (nI cnt) (nI fr) (zn bu) u' → post r u') → wX_entry_41 post ps (nI (512 * (p + 1))) (m + 1) (nI (zc_cl kd pt nm p q)) dp pl pa sk (nI (nx - 2)) (nI cnt) (nI fr) (zn Rt) (zn T) (zn L) (zn S) (zn K) V (zn C) (za A) wn ws (zn bu) := by
    intro q m pl pa hb h
    have c24 := zc_cl_24 Z (p := p) (q := q)
    have X' := zx_Xi (dp := dp) (pl := pl) (pa := pa) (sk := sk) (gv := nI (nx - 2)) (pr := nI cnt) (fb := nI fr) (wn := wn) (ws := ws) (bu := zn bu) N
    have ⟨a, b⟩ := h
    refine ⟨-12, Or.inl ⟨rfl, fun i hi => hb i hi ?_⟩, fun post hpost => br_f (nI_ge (b := 25) (by omega) (by decide)) ?_⟩
    · by_cases c : nm i < q
      · exact c
      · exact absurd (a i hi (by omega)) (fun z => z)
    · rcases b with b | ⟨x, i, b1, b2, b3, b4, b5, b6, b7⟩
      · exact br_t (by rw [b]; decide) (hpost _ X')
      · have ⟨m1, m2, m3, m4⟩ := zx_plv N b3 b4 b6
        have hv : zn K ((5 : Int32) * nI x + nI i).toNatClampNeg = nI (K (5 * x + i)) := by rw [zs_cn (zs_5a x i) (by omega)]; rfl
        rw [b1, b2] at X' ⊢
        exact br_f (nI_pos (by omega)) (zs_i (zs_5a x i) (by omega) (by decide) (br_f (by rw [hv]; exact nI_nlt b7 (by omega)) (hpost _ X')))
  intro d
  induction d with
  | zero =>
    intro q m pl pa hqd hq hm hpl hb
    obtain ⟨m, rfl⟩ : ∃ k, m = k + 1 := ⟨m - 1, by omega⟩
    rcases zc_plc Z hpl (by omega) hp with h | ⟨x, i, c, b1, b2, b3, b4, b5, b6, b7, b8⟩
    · exact fin q m pl pa hb h
    · exfalso
      have ⟨m1, m2, m3, m4⟩ := zx_plv N b3 b4 b6
      rw [b5] at m1
      have := b7 _ m1
      omega
  | succ d ih =>
    intro q m pl pa hqd hq hm hpl hb
    obtain ⟨m, rfl⟩ : ∃ k, m = k + 1 := ⟨m - 1, by omega⟩
    rcases zc_plc Z hpl (by omega) hp with h | ⟨x, i, c, b1, b2, b3, b4, b5, b6, b7, b8⟩
    · exact fin q m pl pa hb h
    · have c24 := zc_cl_24 Z (p := p) (q := q)
      have ⟨m1, m2, m3, m4⟩ := zx_plv N b3 b4 b6
      rw [b5] at m1
      have ⟨s1, s2, s3, s4, s5, s6⟩ := b7 _ m1
      have hv : zn K ((5 : Int32) * nI x + nI i).toNatClampNeg = nI (K (5 * x + i)) := by rw [zs_cn (zs_5a x i) (by omega)]; rfl
      have hV : V ((5 : Int32) * nI x + nI i).toNatClampNeg = V (5 * x + i) := by rw [zs_cn (zs_5a x i) (by omega)]
      have sk2 : zc_cl kd pt nm p (nm c) = zc_cl kd pt nm p q := zc_cl_skip s4 (fun j h1 h2 h3 => by have := s6 j h1 h2; omega)
      by_cases e : nI (zc_cl kd pt nm p q) = ps
      · refine ⟨nI c, Or.inr ⟨c, s3, by rw [sk2]; exact e, rfl⟩, fun post hpost => ?_⟩
        have X' := zx_Xi (dp := dp) (pl := pl) (pa := pa) (sk := sk) (gv := nI (nx - 2)) (pr := nI cnt) (fb := nI fr) (wn := wn) (ws := ws) (bu := zn bu) N
        rw [b1, b2] at X' ⊢
        refine br_f (nI_ge (b := 25) (by omega) (by decide)) (br_f (nI_pos (by omega)) (zs_i (zs_5a x i) (by omega) (by decide) (br_t (by rw [hv]; exact nI_lt b8 (by omega)) (br_t e (zs_i (zs_5a x i) (by omega) (by decide) ?_)))))
        unfold wpX_recordId
        rw [hV, s1, zb_id, (zc_rec_d Z s3.2.1).1]
        exact hpost _ X'
      · have st := zc_cl_step Z s3 s4 s6
        obtain ⟨pl', pa', p1, p2⟩ := zw_step (dp := dp) (sk := sk) (gv := nI (nx - 2)) (pr := nI cnt) (fb := nI fr) (wn := wn) (ws := ws) (bu := zn bu) N b3 b4 b6
        rw [b5, s2, show 512 * p + 1 + nm c + 1 = 512 * p + 1 + (nm c + 1) from by omega] at p1
        obtain ⟨r, r1, r2⟩ := ih (nm c + 1) m pl' pa' (by omega) (by omega) (by omega) p1 (fun j h1 h2 => by
          by_cases c1 : nm j < q
          · exact hb j h1 c1
          · have w := s6 j h1 (by omega)
            have w2 : nm j = nm c := by omega
            rw [w2, sk2]; exact e)
        refine ⟨r, r1, fun post hpost => ?_⟩
        have go := r2 post hpost
        rw [st] at go
        rw [b1, b2]
        exact br_f (nI_ge (b := 25) (by omega) (by decide)) (br_f (nI_pos (by omega)) (zs_i (zs_5a x i) (by omega) (by decide) (br_t (by rw [hv]; exact nI_lt b8 (by omega)) (br_f e (p2 _ (nm_r (nI_1 _) go))))))
theorem zy_ent_l (Z : zc_Z M R nx cnt fr kd pt nm ex fi le bu) {p : Nat} {ps : Int32} (hp : p ≤ 61) :
    ∀ d n m, n + d = 256 → d < m → (∀ i, zc_chd kd pt p i → nm i < n → nI (zc_cl kd pt nm p (nm i)) ≠ ps) →
      ∃ r, zc_ans kd pt nm p ps r ∧ ∀ post : Int32 → Prop, post r → wY_entry_18 post (nI p) ps (nI nx) (zn kd) (zn pt) (zn nm) (zn ex) (zn fi) (zn le) mk tn m (nI (zc_cl kd pt nm p n)) (nI n) := by
  intro d
  induction d with
  | zero =>
    intro n m hn hm hb
    obtain ⟨m, rfl⟩ : ∃ k, m = k + 1 := ⟨m - 1, by omega⟩
    refine ⟨-12, Or.inl ⟨rfl, fun i hi => hb i hi ?_⟩, fun post hpost => br_t (nI_le (a := 256) (by omega) (by omega)) hpost⟩
    have := zc_pt Z hi.2.1
    omega
  | succ d ih =>
    intro n m hn hm hb
    obtain ⟨m, rfl⟩ : ∃ k, m = k + 1 := ⟨m - 1, by omega⟩
    obtain ⟨j, j1, j2⟩ := zy_look (mk := mk) (tn := tn) Z (p := p) (n := n) (by omega) (by omega)
    have h256 : ¬ (256 : Int32) ≤ nI n := nI_ge (b := 256) (by omega) (by decide)
    rcases j1 with ⟨a, b⟩ | ⟨a, b, c, e⟩
    · obtain ⟨r, r1, r2⟩ := ih (n + 1) m (by omega) (by omega) (fun i h1 h2 => by
        by_cases q : nm i < n
        · exact hb i h1 q
        · exact absurd (b i h1.1 h1.2.1 h1.2.2 (by omega)) (fun z => z))
      refine ⟨r, r1, fun post hpost => br_f h256 (j2 _ ?_)⟩
      have go := r2 post hpost
      have sk2 : zc_cl kd pt nm p (n + 1) = zc_cl kd pt nm p n := zc_cl_skip (by omega) (fun j h1 h2 h3 => b j h1.1 h1.2.1 h1.2.2 (by omega))
      rw [sk2] at go
      rw [a]
      exact br_t (by decide) (br_t (by decide) (nm_r (nI_1 n) go))
    · have w := zc_61 Z b
      have hc : zc_chd kd pt p j := ⟨a, b, c⟩
      have npos : ¬ nI j ≤ 0 := nI_ge (a := 0) (by omega) (by omega)
      by_cases q : nI (zc_cl kd pt nm p n) = ps
      · exact ⟨nI j, Or.inr ⟨j, hc, by rw [e]; exact q, rfl⟩, fun post hpost => br_f h256 (j2 _ (br_f npos (br_t q hpost)))⟩
      · obtain ⟨r, r1, r2⟩ := ih (n + 1) m (by omega) (by omega) (fun i h1 h2 => by
          by_cases q2 : nm i < n
          · exact hb i h1 q2
          · have : nm i = n := by omega
            rw [this]; exact q)
        refine ⟨r, r1, fun post hpost => br_f h256 (j2 _ (br_f npos (br_f q (br_f npos ?_))))⟩
        have go := r2 post hpost
        have st := zc_cl_step Z hc (Nat.le_refl _) (fun j _ w => w)
        rw [e] at st
        rw [st] at go
        exact nm_r (nI_1 _) (nm_r (nI_1 n) go)
theorem zy_ent (Z : zc_Z M R nx cnt fr kd pt nm ex fi le bu) {p : Nat} {ps : Int32} (hp : p ≤ 61) : ∃ r, zc_ans kd pt nm p ps r ∧ ∀ post : Int32 → Prop, post r → ∃ n, wY_entry_18 post (nI p) ps (nI nx) (zn kd) (zn pt) (zn nm) (zn ex) (zn fi) (zn le) mk tn n 0 0 := by
  obtain ⟨r, r1, r2⟩ := zy_ent_l (mk := mk) (tn := tn) Z (ps := ps) hp 256 0 257 (by omega) (by omega) (fun i _ h => by omega)
  refine ⟨r, r1, fun post h => ⟨257, ?_⟩⟩
  have := r2 post h
  rw [zc_cl_0] at this
  exact this
end
theorem i_vc_entry {k : Nat} {u : SX} {v : SY} (I : i_Rel k u v) (hk : k + 4 ≤ 2048) (v1 : Int32) (v2 : Int32) : wpX_entry (fun r u' => wpY_entry (fun r' => r' = r ∧ i_Rel (k + 4) u' v) v v1 v2) u v1 v2 := by
  obtain ⟨M, R, nx, cnt, fr, kd, pt, nm, ex, fi, le, bu, mk, tn, X, rfl, Z⟩ := I
  obtain ⟨q1_0, q1_1, q1_2, q1_3, q1_4, q1_5, q1_6, q1_7, q1_8, q1_9, q1_10, q1_11, q1_12, q1_13, q1_14, q1_15, q1_16, q1_17⟩ := u
  unfold wpX_entry
  rcases zc_folder X Z v1 with ⟨r, ⟨r1, r2⟩, hx, hy⟩ | ⟨p, rfl, h, hx, hy⟩
  · refine hx _ (fun u' X' => ?_)
    obtain ⟨q2_0, q2_1, q2_2, q2_3, q2_4, q2_5, q2_6, q2_7, q2_8, q2_9, q2_10, q2_11, q2_12, q2_13, q2_14, q2_15, q2_16, q2_17⟩ := u'
    refine br_f r1 ?_
    unfold wpY_entry
    exact hy _ (br_f r2 ⟨rfl, zc_mk X' Z⟩)
  · have ⟨p1, p2, p3⟩ := zc_61 Z (i := p) (by omega)
    obtain ⟨ry, y1, y2⟩ := zy_ent (mk := mk) (tn := tn) Z (ps := v2) p2
    refine hx _ (fun u' X' => ?_)
    by_cases h0 : 0 ≤ v2
    · obtain ⟨dp, pl, pa, sk, wn, ws, Rt, T, L, S, K, C, A, lv, tr, lo, hi, V, rfl, N⟩ := X'
      refine br_t rfl (br_t h0 ?_)
      obtain ⟨dp', pl', pa', wn', ws', s1, s2⟩ := zw_seek (dp := dp) (pl := pl) (pa := pa) (sk := sk) (gv := nI (nx - 2)) (pr := nI cnt) (fb := nI fr) (wn := wn) (ws := ws) (bu := zn bu) (t := 0) (k := 512 * p + 1) N (by omega) (by omega)
      have e : nI (512 * p + 1) = 512 * nI p + 1 := by rw [zs_512, nI_1]
      have e2 : (512 : Int32) * (nI p + 1) = nI (512 * (p + 1)) := by rw [nI_1, zs_512]
      rw [e] at s2
      unfold wpX_threadKey
      refine s2 _ (Exists.intro 257 ?_)
      rw [e2]
      obtain ⟨rx, x1, x2⟩ := zc_ent_l (dp := dp') (sk := sk) (wn := wn') (ws := ws') (ps := v2) Z p2 N 256 0 257 pl' pa' (by omega) (by omega) (by omega) s1 (fun i _ h => by omega)
      rw [zc_cl_0] at x2
      refine x2 _ (fun u3 X3 => ?_)
      unfold wpY_entry
      exact hy _ (br_t (by decide) (y2 _ ⟨zc_ans_u Z x1 y1, zc_mk X3 Z⟩))
    · obtain ⟨q2_0, q2_1, q2_2, q2_3, q2_4, q2_5, q2_6, q2_7, q2_8, q2_9, q2_10, q2_11, q2_12, q2_13, q2_14, q2_15, q2_16, q2_17⟩ := u'
      refine br_t rfl (br_f h0 ?_)
      unfold wpY_entry
      refine hy _ (br_t (by decide) (y2 _ ⟨?_, zc_mk X' Z⟩))
      rcases y1 with ⟨a, b⟩ | ⟨i, a1, a2, a3⟩
      · exact a
      · exfalso
        have := zc_cl_24 Z (p := p) (q := nm i)
        rw [← a2] at h0
        exact h0 (nI_pos' (by omega))
end
section
/-! records and extents of a file; blocks, blockAt -/
section
variable {dp pl pa sk gv pr fb : Int32} {wn ws bu : Nat → Int32} {Rt T L S K C A lv tr lo hi : Nat → Nat} {V : Nat → Int64} {M : Nat → Nat → Option Int64} {R e1 e2 : Nat}
theorem zc_getk {u : SX} (X : zx_X M R gv pr fb bu u) {t k : Nat} {kx : Int32} (ek : kx = nI k) (ht : t < 2) (hk : k < 40000) {post : Int32 → SX → Prop} (h0 : M t k = none → ∀ u', zx_X M R gv pr fb bu u' → post 0 u')
    (h1 : ∀ v, M t k = some v → ∀ (dp sk : Int32) (wn ws : Nat → Int32) (Rt T L S K C A lv tr lo hi : Nat → Nat) (V : Nat → Int64) (x i : Nat), zx_N Rt T L S K C A lv tr lo hi V M R 80 80 → x < 80 → i < 5 → V (5 * x + i) = v → post 1 (dp, nI x, nI i, sk, gv, pr, fb, zn Rt, zn T, zn L, zn S, zn K, V, zn C, za A, wn, ws, bu)) : wpX_locate post u (nI t) kx := by
  rw [ek]; exact zc_get X ht hk h0 h1
theorem zc_exg_hi {u : SX} (X : zx_X M R gv pr fb bu u) {a i k e : Nat} (hid : a % 64 = i) (hk : 3 ≤ k) (hk8 : k < 8) (hM : M 1 (8 * i + k) = some (lN e)) {post : Int32 → SX → Prop} (hp : ∀ u', zx_X M R gv pr fb bu u' → post (nI e) u') : wpX_extentOf post u (lN a) (nI k) := by
  have e8 : (8 : Int32) * nI i + nI k = nI (8 * i + k) := by rw [show (8 : Int32) * nI i = nI (8 * i) from pk_mul 8 i, nI_add]
  have i64 : i < 64 := by omega
  have X0 := X
  obtain ⟨dp, pl, pa, sk, wn, ws, Rt, T, L, S, K, C, A, lv, tr, lo, hi, V, rfl, N⟩ := X
  refine br_t (nI_le (a := 3) hk (by omega)) ?_
  unfold wpX_recordId
  rw [zb_id, hid]
  refine zc_getk X0 (t := 1) e8 (by omega) (by omega) (fun h => by rw [hM] at h; exact nomatch h) (fun v hv dp sk wn ws Rt T L S K C A lv tr lo hi V x j N x8 j5 ev => ?_)
  rw [hM] at hv
  refine br_f (by decide) (zs_i (zs_5a x j) (by omega) (by decide) ?_)
  rw [zs_cn (zs_5a x j) (by omega), ev, ← Option.some.inj hv, lN_i]
  exact hp _ (zx_Xi N)
theorem zc_exg_lo {u : SX} (X : zx_X M R gv pr fb bu u) {a k e : Nat} (ha : a < 2 ^ 63) (hk : k < 3) (he : a / 2 ^ (9 + 13 * k) % 8192 = e) {post : Int32 → SX → Prop} (hp : ∀ u', zx_X M R gv pr fb bu u' → post (nI e) u') : wpX_extentOf post u (lN a) (nI k) := by
  have X0 := X
  obtain ⟨dp, pl, pa, sk, wn, ws, Rt, T, L, S, K, C, A, lv, tr, lo, hi, V, rfl, N⟩ := X
  refine br_f (nI_ge (b := 3) hk (by decide)) ?_
  unfold wpX_inlineExtent
  rw [zb_inl ha hk, he]
  exact hp _ X0
end
section
variable {nx cnt fr R : Nat} {kd pt nm ex fi le bu : Nat → Nat} {mk tn : Nat → Int32} {M : Nat → Nat → Option Int64} {u : SX}
theorem zc_kot (Z : zc_Z M R nx cnt fr kd pt nm ex fi le bu) {i : Nat} (h : kd i ≠ 0) {post : Int32 → Prop} (hp : post (nI (512 * pt i + nm i + 1))) : wpX_keyOfThread post (lN (zc_thd kd pt nm i)) := by
  have ⟨d1, d2, d3, d4⟩ := zc_thd_d Z h
  unfold wpX_keyOfThread wpX_threadParent
  rw [zb_par d4, d1]
  unfold wpX_threadName
  rw [zb_nam d4, d2]
  unfold wpX_itemKey
  show post (512 * nI (pt i) + nI (nm i) + 1)
  rw [zc_key]
  exact hp
theorem zc_recof (X : zx_X M R (nI (nx - 2)) (nI cnt) (nI fr) (zn bu) u) (Z : zc_Z M R nx cnt fr kd pt nm ex fi le bu) {i : Nat} (h2 : 2 ≤ i) (h : kd i ≠ 0) {post : Int64 → SX → Prop} (hp : ∀ u', zx_X M R (nI (nx - 2)) (nI cnt) (nI fr) (zn bu) u' → post (lN (zc_rec ex fi le i)) u') : wpX_recordOf post u (lN (zc_thd kd pt nm i)) := by
  have ⟨b1, b2⟩ := zc_pt Z h
  have X0 := X
  obtain ⟨dp, pl, pa, sk, wn, ws, Rt, T, L, S, K, C, A, lv, tr, lo, hi, V, rfl, N⟩ := X
  refine zc_kot Z h ?_
  refine zc_get X0 (t := 0) (by omega) (by omega) (fun e => by rw [zc_g2 Z h2 h] at e; exact nomatch e) (fun v hv dp sk wn ws Rt T L S K C A lv tr lo hi V x j N x8 j5 ev => ?_)
  rw [zc_g2 Z h2 h] at hv
  refine br_f (by decide) (zs_i (zs_5a x j) (by omega) (by decide) ?_)
  rw [zs_cn (zs_5a x j) (by omega), ev, ← Option.some.inj hv]
  exact hp _ (zx_Xi N)
theorem zc_recn (Z : zc_Z M R nx cnt fr kd pt nm ex fi le bu) {i : Nat} (h : kd i ≠ 0) {post : Int32 → Prop} (hp : post (nI (ex i))) : wpX_recordExtents post (lN (zc_rec ex fi le i)) := by
  have ⟨d1, d2, d3, d4, d5, d6⟩ := zc_rec_d Z h
  unfold wpX_recordExtents
  rw [zb_ext d6, d2]
  exact hp
theorem zc_inx (Z : zc_Z M R nx cnt fr kd pt nm ex fi le bu) {i k : Nat} (h : kd i = 1) (hk : k < ex i) (hk3 : k < 3) : zc_rec ex fi le i / 2 ^ (9 + 13 * k) % 8192 = fi (6 * i + k) + 128 * le (6 * i + k) := by
  have ⟨d1, d2, d3, d4, d5, d6⟩ := zc_rec_d Z (i := i) (by omega)
  have e : zc_in ex fi le i k = fi (6 * i + k) + 128 * le (6 * i + k) := if_pos hk
  have c : k = 0 ∨ k = 1 ∨ k = 2 := by omega
  rcases c with c | c | c
  · rw [c] at e ⊢; rw [← e]; exact d3
  · rw [c] at e ⊢; rw [← e]; exact d4
  · rw [c] at e ⊢; rw [← e]; exact d5
theorem zc_exof (X : zx_X M R (nI (nx - 2)) (nI cnt) (nI fr) (zn bu) u) (Z : zc_Z M R nx cnt fr kd pt nm ex fi le bu) {i k : Nat} (h : kd i = 1) (hk : k < ex i) {post : Int32 → SX → Prop} (hp : ∀ u', zx_X M R (nI (nx - 2)) (nI cnt) (nI fr) (zn bu) u' → post (nI (fi (6 * i + k) + 128 * le (6 * i + k))) u') : wpX_extentOf post u (lN (zc_rec ex fi le i)) (nI k) := by
  have ⟨d1, d2, d3, d4, d5, d6⟩ := zc_rec_d Z (i := i) (by omega)
  have h6 := (zc_in_lt Z (i := i) (by omega) 0).2
  by_cases c : 3 ≤ k
  · exact zc_exg_hi X d1 c (by omega) (zc_h1 Z h c hk) hp
  · exact zc_exg_lo X d6 (by omega) (zc_inx Z h hk (by omega)) hp
/-- an extent's start and length -/
theorem zc_exd (Z : zc_Z M R nx cnt fr kd pt nm ex fi le bu) {i k : Nat} (h : kd i = 1) (hk : k < ex i) : (fi (6 * i + k) + 128 * le (6 * i + k)) % 128 = fi (6 * i + k) ∧ (fi (6 * i + k) + 128 * le (6 * i + k)) / 128 = le (6 * i + k) ∧ fi (6 * i + k) + 128 * le (6 * i + k) < 8192 ∧ 1 ≤ le (6 * i + k) ∧ le (6 * i + k) ≤ 32 ∧ fi (6 * i + k) + le (6 * i + k) ≤ 96 := by
  have := Z.2.1.2.2.1 i k ⟨h, hk⟩
  omega
theorem zc_blk_l (Z : zc_Z M R nx cnt fr kd pt nm ex fi le bu) {i : Nat} (h : kd i = 1) {post : Int32 → SX → Prop} (hp : ∀ u', zx_X M R (nI (nx - 2)) (nI cnt) (nI fr) (zn bu) u' → post (nI (zt_sm (fun k => le (6 * i + k)) (ex i))) u') :
    ∀ d j m u, j + d = ex i → d < m → zx_X M R (nI (nx - 2)) (nI cnt) (nI fr) (zn bu) u → ∀ q, u = q → match q with | (dp, pl, pa, sk, gv, pr, fb, rt, tk, lf, sz, ky, vl, ch, af, wn, ws, bu) => wX_blocks_38 post (lN (zc_rec ex fi le i)) (nI (ex i)) m (nI (zt_sm (fun k => le (6 * i + k)) j)) (nI j) dp pl pa sk gv pr fb rt tk lf sz ky vl ch af wn ws bu := by
  have h6 := (zc_in_lt Z (i := i) (by omega) 0).2
  intro d
  induction d with
  | zero =>
    intro j m u hj hm X q hq
    obtain ⟨m, rfl⟩ : ∃ k, m = k + 1 := ⟨m - 1, by omega⟩
    obtain rfl : j = ex i := by omega
    obtain ⟨q1_0, q1_1, q1_2, q1_3, q1_4, q1_5, q1_6, q1_7, q1_8, q1_9, q1_10, q1_11, q1_12, q1_13, q1_14, q1_15, q1_16, q1_17⟩ := q
    rw [hq] at X
    exact br_t (nI_le (by omega) (by omega)) (hp _ X)
  | succ d ih =>
    intro j m u hj hm X q hq
    obtain ⟨m, rfl⟩ : ∃ k, m = k + 1 := ⟨m - 1, by omega⟩
    obtain ⟨q1_0, q1_1, q1_2, q1_3, q1_4, q1_5, q1_6, q1_7, q1_8, q1_9, q1_10, q1_11, q1_12, q1_13, q1_14, q1_15, q1_16, q1_17⟩ := q
    rw [hq] at X
    have ⟨a1, a2, a3, a4, a5, a6⟩ := zc_exd Z h (k := j) (by omega)
    refine br_f (nI_ge (by omega) (by omega)) (zc_exof X Z h (by omega) (fun u' X' => ?_))
    have go := ih (j + 1) m u' (by omega) (by omega) X' u' rfl
    obtain ⟨q2_0, q2_1, q2_2, q2_3, q2_4, q2_5, q2_6, q2_7, q2_8, q2_9, q2_10, q2_11, q2_12, q2_13, q2_14, q2_15, q2_16, q2_17⟩ := u'
    unfold wpX_extentLength
    rw [zb_ln (by omega), a2]
    exact nm_r (nI_add _ _) (nm_r (nI_1 j) go)
theorem zy_blk_l (Z : zc_Z M R nx cnt fr kd pt nm ex fi le bu) {i : Nat} (h : kd i = 1) {post : Int32 → Prop} (hp : post (nI (zt_sm (fun k => le (6 * i + k)) (ex i)))) :
    ∀ d j m, j + d = ex i → d < m → wY_blocks_17 post (nI i) (nI nx) (zn kd) (zn pt) (zn nm) (zn ex) (zn fi) (zn le) mk tn m (nI (zt_sm (fun k => le (6 * i + k)) j)) (nI j) := by
  have h6 := (zc_in_lt Z (i := i) (by omega) 0).2
  have ⟨b1, b2, b3⟩ := zc_61 Z (i := i) (by omega)
  have ce := zy_kd (kd := ex) (i := i) b2
  intro d
  induction d with
  | zero =>
    intro j m hj hm
    obtain ⟨m, rfl⟩ : ∃ k, m = k + 1 := ⟨m - 1, by omega⟩
    obtain rfl : j = ex i := by omega
    refine zs_i rfl (show i < 62 by omega) (by decide) ?_
    rw [ce]
    exact br_t (nI_le (by omega) (by omega)) hp
  | succ d ih =>
    intro j m hj hm
    obtain ⟨m, rfl⟩ : ∃ k, m = k + 1 := ⟨m - 1, by omega⟩
    have go := ih (j + 1) m (by omega) (by omega)
    refine zs_i rfl (show i < 62 by omega) (by decide) ?_
    rw [ce]
    refine br_f (nI_ge (by omega) (by omega)) (zs_i (zs_6a i j) (by omega) (by decide) (nm_r ?_ (nm_r (nI_1 j) go)))
    rw [zs_cn (zs_6a i j) (by omega)]
    exact nI_add _ _
/-- the block at an index: both sides walk the extents alike -/
theorem zc_bat_l (Z : zc_Z M R nx cnt fr kd pt nm ex fi le bu) {i : Nat} (h : kd i = 1) :
    ∀ d j l m m', j + d = ex i → l < 2 ^ 31 → d < m → d < m' → ∃ r : Int32, (∀ (post : Int32 → SX → Prop) u, zx_X M R (nI (nx - 2)) (nI cnt) (nI fr) (zn bu) u → (∀ u', zx_X M R (nI (nx - 2)) (nI cnt) (nI fr) (zn bu) u' → post r u') → match u with | (dp, pl, pa, sk, gv, pr, fb, rt, tk, lf, sz, ky, vl, ch, af, wn, ws, bu) => wX_blockAt_47 post (lN (zc_rec ex fi le i)) (nI (ex i)) m (nI l) (nI j) dp pl pa sk gv pr fb rt tk lf sz ky vl ch af wn ws bu) ∧ (∀ post : Int32 → Prop, post r → wY_blockAt_18 post (nI i) (nI nx) (zn kd) (zn pt) (zn nm) (zn ex) (zn fi) (zn le) mk tn m' (nI l) (nI j)) := by
  have h6 := (zc_in_lt Z (i := i) (by omega) 0).2
  have ⟨b1, b2, b3⟩ := zc_61 Z (i := i) (by omega)
  have ce := zy_kd (kd := ex) (i := i) b2
  intro d
  induction d with
  | zero =>
    intro j l m m' hj hl hm hm'
    obtain ⟨m, rfl⟩ : ∃ k, m = k + 1 := ⟨m - 1, by omega⟩
    obtain ⟨m', rfl⟩ : ∃ k, m' = k + 1 := ⟨m' - 1, by omega⟩
    obtain rfl : j = ex i := by omega
    refine ⟨-12, fun post u X hp => ?_, fun post hp => ?_⟩
    · obtain ⟨q1_0, q1_1, q1_2, q1_3, q1_4, q1_5, q1_6, q1_7, q1_8, q1_9, q1_10, q1_11, q1_12, q1_13, q1_14, q1_15, q1_16, q1_17⟩ := u
      exact br_t (nI_le (by omega) (by omega)) (hp _ X)
    · refine zs_i rfl (show i < 62 by omega) (by decide) ?_
      rw [ce]
      exact br_t (nI_le (by omega) (by omega)) hp
  | succ d ih =>
    intro j l m m' hj hl hm hm'
    obtain ⟨m, rfl⟩ : ∃ k, m = k + 1 := ⟨m - 1, by omega⟩
    obtain ⟨m', rfl⟩ : ∃ k, m' = k + 1 := ⟨m' - 1, by omega⟩
    have ⟨a1, a2, a3, a4, a5, a6⟩ := zc_exd Z h (k := j) (by omega)
    have cf : zn fi ((6 : Int32) * nI i + nI j).toNatClampNeg = nI (fi (6 * i + j)) := by rw [zs_cn (zs_6a i j) (by omega)]; rfl
    have cl : zn le ((6 : Int32) * nI i + nI j).toNatClampNeg = nI (le (6 * i + j)) := by rw [zs_cn (zs_6a i j) (by omega)]; rfl
    by_cases c : le (6 * i + j) ≤ l
    · obtain ⟨r, r1, r2⟩ := ih (j + 1) (l - le (6 * i + j)) m m' (by omega) (by omega) (by omega) (by omega)
      have es : nI l - nI (le (6 * i + j)) = nI (l - le (6 * i + j)) := pk_sub c
      refine ⟨r, fun post u X hp => ?_, fun post hp => ?_⟩
      · obtain ⟨q1_0, q1_1, q1_2, q1_3, q1_4, q1_5, q1_6, q1_7, q1_8, q1_9, q1_10, q1_11, q1_12, q1_13, q1_14, q1_15, q1_16, q1_17⟩ := u
        refine br_f (nI_ge (by omega) (by omega)) (zc_exof X Z h (by omega) (fun u' X' => ?_))
        have go := r1 post u' X' hp
        obtain ⟨q2_0, q2_1, q2_2, q2_3, q2_4, q2_5, q2_6, q2_7, q2_8, q2_9, q2_10, q2_11, q2_12, q2_13, q2_14, q2_15, q2_16, q2_17⟩ := u'
        unfold wpX_extentLength
        rw [zb_ln (by omega), a2]
        exact br_t (nI_le c hl) (nm_r es (nm_r (nI_1 j) go))
      · refine zs_i rfl (show i < 62 by omega) (by decide) ?_
        rw [ce]
        refine br_f (nI_ge (by omega) (by omega)) (br_f (nI_pos hl) (zs_i (zs_6a i j) (by omega) (by decide) ?_))
        rw [cl]
        exact br_t (nI_le c hl) (zs_i (zs_6a i j) (by omega) (by decide) (nm_r es (nm_r (nI_1 j) (r2 post hp))))
    · refine ⟨nI (fi (6 * i + j) + l), fun post u X hp => ?_, fun post hp => ?_⟩
      · obtain ⟨q1_0, q1_1, q1_2, q1_3, q1_4, q1_5, q1_6, q1_7, q1_8, q1_9, q1_10, q1_11, q1_12, q1_13, q1_14, q1_15, q1_16, q1_17⟩ := u
        refine br_f (nI_ge (by omega) (by omega)) (zc_exof X Z h (by omega) (fun u' X' => ?_))
        have hp' := hp u' X'
        obtain ⟨q2_0, q2_1, q2_2, q2_3, q2_4, q2_5, q2_6, q2_7, q2_8, q2_9, q2_10, q2_11, q2_12, q2_13, q2_14, q2_15, q2_16, q2_17⟩ := u'
        unfold wpX_extentLength
        rw [zb_ln (by omega), a2]
        refine br_f (nI_ge (by omega) (by omega)) ?_
        unfold wpX_extentStart
        rw [zb_st, a1]
        rw [← nI_add] at hp'
        exact hp'
      · refine zs_i rfl (show i < 62 by omega) (by decide) ?_
        rw [ce]
        refine br_f (nI_ge (by omega) (by omega)) (br_f (nI_pos hl) (zs_i (zs_6a i j) (by omega) (by decide) ?_))
        rw [cl, cf]
        refine br_f (nI_ge (by omega) (by omega)) (zs_i (zs_6a i j) (by omega) (by decide) ?_)
        rw [nI_add]
        exact hp
end
theorem i_vc_blocks {k : Nat} {u : SX} {v : SY} (I : i_Rel k u v) (hk : k + 4 ≤ 2048) (v1 : Int32) : wpX_blocks (fun r u' => wpY_blocks (fun r' => r' = r ∧ i_Rel (k + 4) u' v) v v1) u v1 := by
  obtain ⟨M, R, nx, cnt, fr, kd, pt, nm, ex, fi, le, bu, mk, tn, X, rfl, Z⟩ := I
  obtain ⟨q1_0, q1_1, q1_2, q1_3, q1_4, q1_5, q1_6, q1_7, q1_8, q1_9, q1_10, q1_11, q1_12, q1_13, q1_14, q1_15, q1_16, q1_17⟩ := u
  unfold wpX_blocks
  rcases zc_file X Z v1 with ⟨r, ⟨r1, r2⟩, hx, hy⟩ | ⟨i, rfl, h, hx, hy⟩
  · refine hx _ (fun u' X' => ?_)
    obtain ⟨q2_0, q2_1, q2_2, q2_3, q2_4, q2_5, q2_6, q2_7, q2_8, q2_9, q2_10, q2_11, q2_12, q2_13, q2_14, q2_15, q2_16, q2_17⟩ := u'
    refine br_f r1 ?_
    unfold wpY_blocks
    exact hy _ (br_f r2 ⟨rfl, zc_mk X' Z⟩)
  · have hk0 : kd i ≠ 0 := by omega
    have ⟨i1, i2, i3⟩ := zc_61 Z hk0
    have hi2 : 2 ≤ i := by
      have := Z.1.2.1
      by_cases c : i = 1
      · rw [c] at h; omega
      · omega
    refine hx _ (fun u' X' => ?_)
    obtain ⟨q2_0, q2_1, q2_2, q2_3, q2_4, q2_5, q2_6, q2_7, q2_8, q2_9, q2_10, q2_11, q2_12, q2_13, q2_14, q2_15, q2_16, q2_17⟩ := u'
    refine br_t rfl (zc_thr_p X' Z hk0 (fun u3 X3 => ?_))
    obtain ⟨q3_0, q3_1, q3_2, q3_3, q3_4, q3_5, q3_6, q3_7, q3_8, q3_9, q3_10, q3_11, q3_12, q3_13, q3_14, q3_15, q3_16, q3_17⟩ := u3
    refine zc_recof X3 Z hi2 hk0 (fun u4 X4 => ?_)
    obtain ⟨q4_0, q4_1, q4_2, q4_3, q4_4, q4_5, q4_6, q4_7, q4_8, q4_9, q4_10, q4_11, q4_12, q4_13, q4_14, q4_15, q4_16, q4_17⟩ := u4
    refine zc_recn Z hk0 (Exists.intro (ex i + 1) ?_)
    exact zc_blk_l Z h (post := fun r u' => wpY_blocks (fun r' => r' = r ∧ i_Rel (k + 4) u' (nI nx, zn kd, zn pt, zn nm, zn ex, zn fi, zn le, mk, tn)) (nI nx, zn kd, zn pt, zn nm, zn ex, zn fi, zn le, mk, tn) (nI i)) (fun u5 X5 => by
      unfold wpY_blocks
      exact hy _ (br_t (by decide) (Exists.intro (ex i + 1) (zy_blk_l Z h ⟨rfl, zc_mk X5 Z⟩ (ex i) 0 (ex i + 1) (by omega) (by omega))))) (ex i) 0 (ex i + 1) _ (by omega) (by omega) X4 _ rfl
theorem i_vc_blockAt {k : Nat} {u : SX} {v : SY} (I : i_Rel k u v) (hk : k + 4 ≤ 2048) (v1 : Int32) (v2 : Int32) : wpX_blockAt (fun r u' => wpY_blockAt (fun r' => r' = r ∧ i_Rel (k + 4) u' v) v v1 v2) u v1 v2 := by
  obtain ⟨M, R, nx, cnt, fr, kd, pt, nm, ex, fi, le, bu, mk, tn, X, rfl, Z⟩ := I
  obtain ⟨q1_0, q1_1, q1_2, q1_3, q1_4, q1_5, q1_6, q1_7, q1_8, q1_9, q1_10, q1_11, q1_12, q1_13, q1_14, q1_15, q1_16, q1_17⟩ := u
  unfold wpX_blockAt
  rcases zc_file X Z v1 with ⟨r, ⟨r1, r2⟩, hx, hy⟩ | ⟨i, rfl, h, hx, hy⟩
  · refine hx _ (fun u' X' => ?_)
    obtain ⟨q2_0, q2_1, q2_2, q2_3, q2_4, q2_5, q2_6, q2_7, q2_8, q2_9, q2_10, q2_11, q2_12, q2_13, q2_14, q2_15, q2_16, q2_17⟩ := u'
    refine br_f r1 ?_
    unfold wpY_blockAt
    exact hy _ (br_f r2 ⟨rfl, zc_mk X' Z⟩)
  · have hk0 : kd i ≠ 0 := by omega
    have ⟨i1, i2, i3⟩ := zc_61 Z hk0
    have hi2 : 2 ≤ i := by
      have := Z.1.2.1
      by_cases c : i = 1
      · rw [c] at h; omega
      · omega
    have ce := zy_kd (kd := ex) (i := i) i2
    refine hx _ (fun u' X' => ?_)
    obtain ⟨q2_0, q2_1, q2_2, q2_3, q2_4, q2_5, q2_6, q2_7, q2_8, q2_9, q2_10, q2_11, q2_12, q2_13, q2_14, q2_15, q2_16, q2_17⟩ := u'
    by_cases h0 : 0 ≤ v2
    · obtain ⟨l, hl, rfl⟩ := nI_of (x := v2) (Int32.not_lt.mpr h0)
      refine br_t rfl (br_t h0 (zc_thr_p X' Z hk0 (fun u3 X3 => ?_)))
      obtain ⟨q3_0, q3_1, q3_2, q3_3, q3_4, q3_5, q3_6, q3_7, q3_8, q3_9, q3_10, q3_11, q3_12, q3_13, q3_14, q3_15, q3_16, q3_17⟩ := u3
      refine zc_recof X3 Z hi2 hk0 (fun u4 X4 => ?_)
      obtain ⟨q4_0, q4_1, q4_2, q4_3, q4_4, q4_5, q4_6, q4_7, q4_8, q4_9, q4_10, q4_11, q4_12, q4_13, q4_14, q4_15, q4_16, q4_17⟩ := u4
      obtain ⟨r, x1, x2⟩ := zc_bat_l (mk := mk) (tn := tn) Z h (ex i) 0 l (ex i + 1) (ex i + 1) (by omega) hl (by omega) (by omega)
      refine zc_recn Z hk0 (Exists.intro (ex i + 1) ?_)
      refine x1 _ _ X4 (fun u5 X5 => ?_)
      unfold wpY_blockAt
      exact hy _ (br_t (by decide) (Exists.intro (ex i + 1) (x2 _ ⟨rfl, zc_mk X5 Z⟩)))
    · refine br_t rfl (br_f h0 ?_)
      have hn : v2 < 0 := Int32.not_le.mp h0
      unfold wpY_blockAt
      refine hy _ (br_t (by decide) (Exists.intro 1 (zs_i rfl (show i < 62 by omega) (by decide) ?_)))
      exact br_c (fun _ => ⟨rfl, zc_mk X' Z⟩) (fun _ => br_t hn ⟨rfl, zc_mk X' Z⟩)
end
section
/-! filling a range; X's mark; Y's note; free -/
def zt_fl {α : Type} (f : Nat → α) (a c : Nat) (v : α) : Nat → α := fun j => if a ≤ j ∧ j < c then v else f j
section
variable {α : Type} {f : Nat → α} {a c j : Nat} {v : α}
theorem zt_fli (h : a ≤ j ∧ j < c) : zt_fl f a c v j = v := if_pos h
theorem zt_flo (h : j < a ∨ c ≤ j) : zt_fl f a c v j = f j := if_neg (by omega)
theorem zt_fl0 : zt_fl f a a v = f := funext fun j => zt_flo (by omega)
theorem zt_fls (h : a ≤ c) : zt_u (zt_fl f a c v) c v = zt_fl f a (c + 1) v := by
  funext j
  by_cases h1 : j = c
  · rw [h1, zt_us, zt_fli (by omega)]
  · rw [zt_un h1]
    by_cases h2 : a ≤ j ∧ j < c
    · rw [zt_fli h2, zt_fli (by omega)]
    · rw [zt_flo (by omega), zt_flo (by omega)]
end
theorem zn_fl {B : Nat → Nat} {a c v : Nat} : zt_fl (zn B) a c (nI v) = zn (zt_fl B a c v) := by
  funext j; by_cases h : a ≤ j ∧ j < c
  · rw [zt_fli h]; show nI _ = nI (zt_fl B a c v j); rw [zt_fli h]
  · rw [zt_flo (by omega)]; show nI _ = nI (zt_fl B a c v j); rw [zt_flo (by omega)]
section
variable {dp pl pa sk gv pr fb : Int32} {rt tk lf sz ky ch af wn ws bu : Nat → Int32} {vl : Nat → Int64}
theorem zw_mark_l {post : SX → Prop} {a l : Nat} {x2 y2 f' : Int32} (hl : a + l ≤ 96) (hx : (x2 = 0 ∧ y2 = 0 ∧ f' = fb + nI l) ∨ (x2 = 1 ∧ y2 = 1 ∧ f' = fb + (-(nI l)))) (hp : post (dp, pl, pa, sk, gv, pr, f', rt, tk, lf, sz, ky, vl, ch, af, wn, ws, zt_fl bu a (a + l) y2)) :
    ∀ d b m, b + d = a + l → a ≤ b → d < m → wX_mark_14 post x2 (nI a) (nI l) dp pl pa sk gv pr fb m (nI b) rt tk lf sz ky vl ch af wn ws (zt_fl bu a b y2) := by
  intro d
  induction d with
  | zero =>
    intro b m hb hab hm
    obtain ⟨m, rfl⟩ : ∃ k, m = k + 1 := ⟨m - 1, by omega⟩
    obtain rfl : b = a + l := by omega
    refine br_t (by rw [nI_add]; exact nI_le (by omega) (by omega)) ?_
    rcases hx with ⟨h1, h2, h3⟩ | ⟨h1, h2, h3⟩
    · exact br_t h1 (nm_r h3.symm hp)
    · exact br_f (by rw [h1]; decide) (nm_r h3.symm hp)
  | succ d ih =>
    intro b m hb hab hm
    obtain ⟨m, rfl⟩ : ∃ k, m = k + 1 := ⟨m - 1, by omega⟩
    refine br_f (by rw [nI_add]; exact nI_ge (by omega) (by omega)) (zs_w' rfl (show b < 96 by omega) (by decide) ?_ (nm_r (nI_1 b) (ih (b + 1) m (by omega) (by omega) (by omega))))
    have e : vp_nar .boolean x2 = y2 := by
      rcases hx with ⟨h1, h2, h3⟩ | ⟨h1, h2, h3⟩
      · rw [h1, h2]; rfl
      · rw [h1, h2]; rfl
    rw [e]
    exact zt_fls (f := bu) hab
end
section
variable {dp pl pa sk gv pr fb : Int32} {wn ws bu : Nat → Int32} {Rt T L S K C A lv tr lo hi : Nat → Nat} {V : Nat → Int64} {M : Nat → Nat → Option Int64} {R e1 e2 : Nat}
theorem zc_mark {u : SX} {fb' : Int32} (X : zx_X M R gv pr fb bu u) {post : SX → Prop} {a l : Nat} {x2 y2 : Int32} (hl : a + l ≤ 96) (hx : (x2 = 0 ∧ y2 = 0 ∧ fb' = fb + nI l) ∨ (x2 = 1 ∧ y2 = 1 ∧ fb' = fb + (-(nI l)))) (hp : ∀ u', zx_X M R gv pr fb' (zt_fl bu a (a + l) y2) u' → post u') : wpX_mark post u (nI (a + 128 * l)) x2 := by
  obtain ⟨dp, pl, pa, sk, wn, ws, Rt, T, L, S, K, C, A, lv, tr, lo, hi, V, rfl, N⟩ := X
  unfold wpX_mark wpX_extentStart
  rw [zb_st, show (a + 128 * l) % 128 = a from by omega]
  unfold wpX_extentLength
  rw [zb_ln (by omega), show (a + 128 * l) / 128 = l from by omega]
  have h := zw_mark_l (bu := bu) (post := post) hl hx (hp _ (zx_Xi (dp := dp) (pl := pl) (pa := pa) (sk := sk) (wn := wn) (ws := ws) N)) l a (l + 1) (by omega) (by omega) (by omega)
  rw [zt_fl0] at h
  exact Exists.intro (l + 1) h
end
section
variable {nx cnt fr R : Nat} {kd pt nm ex fi le bu : Nat → Nat} {mk tn : Nat → Int32} {M : Nat → Nat → Option Int64} {u : SX}
theorem zy_n67 {post : SY → Prop} {J : Int32 → (Nat → Int32) → (Nat → Int32) → (Nat → Int32) → (Nat → Int32) → (Nat → Int32) → (Nat → Int32) → (Nat → Int32) → (Nat → Int32) → Prop} {e : Nat} (he : e < 372) (hl : fi e + le e ≤ 96) (hJ : J (nI (e + 1)) (zn kd) (zn pt) (zn nm) (zn ex) (zn fi) (zn le) mk (zt_fl tn (fi e) (fi e + le e) 1)) :
    ∀ d b m, b + d = fi e + le e → fi e ≤ b → d < m → wY_note_67 post J (nI e) (nI nx) m (nI b) (zn kd) (zn pt) (zn nm) (zn ex) (zn fi) (zn le) mk (zt_fl tn (fi e) b 1) := by
  have cf : zn fi (nI e).toNatClampNeg = nI (fi e) := by rw [nI_clamp (by omega)]; rfl
  have cl : zn le (nI e).toNatClampNeg = nI (le e) := by rw [nI_clamp (by omega)]; rfl
  intro d
  induction d with
  | zero =>
    intro b m hb hab hm
    obtain ⟨m, rfl⟩ : ∃ k, m = k + 1 := ⟨m - 1, by omega⟩
    obtain rfl : b = fi e + le e := by omega
    refine zs_i rfl he (by decide) (zs_i rfl he (by decide) ?_)
    rw [cf, cl, nI_add]
    exact br_t (nI_le (by omega) (by omega)) (nm_r (nI_1 e) hJ)
  | succ d ih =>
    intro b m hb hab hm
    obtain ⟨m, rfl⟩ : ∃ k, m = k + 1 := ⟨m - 1, by omega⟩
    refine zs_i rfl he (by decide) (zs_i rfl he (by decide) ?_)
    rw [cf, cl, nI_add]
    refine br_f (nI_ge (by omega) (by omega)) (br_f (nI_ge (b := 96) (by omega) (by decide)) (zs_w' rfl (show b < 96 by omega) (by decide) ?_ (nm_r (nI_1 b) (ih (b + 1) m (by omega) (by omega) (by omega)))))
    exact zt_fls (f := tn) hab
/-- what is noted of the extents below number e -/
def zy_nt (kd ex fi le : Nat → Nat) (tn : Nat → Int32) (e : Nat) : Prop :=
  ∀ b, b < 96 → (tn b = 1 ∧ ∃ i k, zc_lv kd ex i k ∧ 6 * i + k < e ∧ zc_cov fi le i k b) ∨ (tn b = 0 ∧ ∀ i k, zc_lv kd ex i k → 6 * i + k < e → ¬ zc_cov fi le i k b)
theorem zy_n24 (Z : zc_Z M R nx cnt fr kd pt nm ex fi le bu) {post : SY → Prop} (hp : ∀ tn', zy_nt kd ex fi le tn' 372 → post (nI nx, zn kd, zn pt, zn nm, zn ex, zn fi, zn le, mk, tn')) :
    ∀ d e m tn, e + d = 372 → 12 ≤ e → d < m → zy_nt kd ex fi le tn e → wY_note_24 post (nI nx) m (nI e) (zn kd) (zn pt) (zn nm) (zn ex) (zn fi) (zn le) mk tn := by
  have E6 := Z.2.1.2.1
  have E3 := Z.2.1.2.2.1
  intro d
  induction d with
  | zero =>
    intro e m tn he h12 hm hn
    obtain ⟨m, rfl⟩ : ∃ k, m = k + 1 := ⟨m - 1, by omega⟩
    obtain rfl : e = 372 := by omega
    exact br_t (nI_le (a := 372) (by omega) (by omega)) (hp tn hn)
  | succ d ih =>
    intro e m tn he h12 hm hn
    obtain ⟨m, rfl⟩ : ∃ k, m = k + 1 := ⟨m - 1, by omega⟩
    have ed : nI e / 6 = nI (e / 6) := pk_div (d := 6) (by omega) (by omega) (by decide)
    have er : nI e - nI e / 6 * 6 = nI (e % 6) := pk_rem (d := 6) (by omega) (by omega) (by decide)
    have ck : zn kd (nI e / 6).toNatClampNeg = nI (kd (e / 6)) := by rw [ed, nI_clamp (by omega)]; rfl
    have ce : zn ex (nI e / 6).toNatClampNeg = nI (ex (e / 6)) := by rw [ed, nI_clamp (by omega)]; rfl
    have hin : vp_in (nI e / 6) 62 := by rw [ed]; exact vp_in_nI (by omega) (by decide)
    have n6 : ¬ (6 : Int32) = 0 := by decide
    have k2 := zc_kd2 Z (e / 6)
    have skip : (∀ i k, zc_lv kd ex i k → 6 * i + k ≠ e) → zy_nt kd ex fi le tn (e + 1) := fun h b hb => by
      rcases hn b hb with ⟨a1, i, k, a2, a3, a4⟩ | ⟨a1, a2⟩
      · exact Or.inl ⟨a1, i, k, a2, by omega, a4⟩
      · exact Or.inr ⟨a1, fun i k h1 h2 => a2 i k h1 (by have := h i k h1; omega)⟩
    refine br_f (nI_ge (b := 372) (by omega) (by decide)) ⟨n6, hin, ?_⟩
    rw [ck]
    by_cases c : kd (e / 6) = 1
    · refine br_t (by rw [c]; rfl) ⟨n6, n6, hin, ?_⟩
      have x6 := E6 _ c
      rw [ce, er]
      by_cases c2 : ex (e / 6) ≤ e % 6
      · refine br_t (nI_le c2 (by omega)) (nm_r (nI_1 e) (ih (e + 1) m tn (by omega) (by omega) (by omega) (skip (fun i k h1 h2 => ?_))))
        have := E6 i h1.1
        have := h1.2
        have e1 : e / 6 = i := by omega
        rw [e1] at c2
        omega
      · have lv : zc_lv kd ex (e / 6) (e % 6) := ⟨c, by omega⟩
        have ee : 6 * (e / 6) + e % 6 = e := by omega
        have b3 := E3 _ _ lv
        rw [ee] at b3
        have nt : zy_nt kd ex fi le (zt_fl tn (fi e) (fi e + le e) 1) (e + 1) := fun b hb => by
          by_cases q : fi e ≤ b ∧ b < fi e + le e
          · rw [zt_fli q]
            exact Or.inl ⟨rfl, e / 6, e % 6, lv, by omega, by unfold zc_cov; rw [ee]; exact q⟩
          · rw [zt_flo (by omega)]
            rcases hn b hb with ⟨a1, i, k, a2, a3, a4⟩ | ⟨a1, a2⟩
            · exact Or.inl ⟨a1, i, k, a2, by omega, a4⟩
            · refine Or.inr ⟨a1, fun i k h1 h2 h3 => ?_⟩
              by_cases q2 : 6 * i + k = e
              · unfold zc_cov at h3; rw [q2] at h3; exact q h3
              · exact a2 i k h1 (by omega) h3
        refine br_f (nI_ge (by omega) (by omega)) (zs_r rfl (show e < 372 by omega) (by decide) rfl (Exists.intro (le e + 1) ?_))
        have h := zy_n67 (nx := nx) (post := post) (tn := tn) (J := wY_note_24 post (nI nx) m) (by omega) b3.2.2 (ih (e + 1) m _ (by omega) (by omega) (by omega) nt) (le e) (fi e) (le e + 1) (by omega) (by omega) (by omega)
        rw [zt_fl0] at h
        exact h
    · refine br_f (fun z => c ((nI_eq (b := 1) (by omega) (by omega)).mp z)) (nm_r (nI_1 e) (ih (e + 1) m tn (by omega) (by omega) (by omega) (skip (fun i k h1 h2 => ?_))))
      have := E6 i h1.1
      have := h1.2
      have e1 : e / 6 = i := by omega
      rw [e1] at c
      exact c h1.1
theorem zy_n2 {post : SY → Prop} {tn : Nat → Int32} (hp : ∃ n, wY_note_24 post (nI nx) n 12 (zn kd) (zn pt) (zn nm) (zn ex) (zn fi) (zn le) mk (zt_fl tn 0 96 0)) :
    ∀ d b m, b + d = 96 → d < m → wY_note_2 post (nI nx) m (nI b) (zn kd) (zn pt) (zn nm) (zn ex) (zn fi) (zn le) mk (zt_fl tn 0 b 0) := by
  intro d
  induction d with
  | zero =>
    intro b m hb hm
    obtain ⟨m, rfl⟩ : ∃ k, m = k + 1 := ⟨m - 1, by omega⟩
    obtain rfl : b = 96 := by omega
    exact br_t (nI_le (a := 96) (by omega) (by omega)) hp
  | succ d ih =>
    intro b m hb hm
    obtain ⟨m, rfl⟩ : ∃ k, m = k + 1 := ⟨m - 1, by omega⟩
    refine br_f (nI_ge (b := 96) (by omega) (by decide)) (zs_w' rfl (show b < 96 by omega) (by decide) ?_ (nm_r (nI_1 b) (ih (b + 1) m (by omega) (by omega))))
    exact zt_fls (f := tn) (by omega)
/-- note: the blocks that are taken -/
theorem zy_note (Z : zc_Z M R nx cnt fr kd pt nm ex fi le bu) {post : SY → Prop} (hp : ∀ tn', (∀ b, b < 96 → tn' b = nI (bu b)) → post (nI nx, zn kd, zn pt, zn nm, zn ex, zn fi, zn le, mk, tn')) : wpY_note post (nI nx, zn kd, zn pt, zn nm, zn ex, zn fi, zn le, mk, tn) := by
  have ⟨_, ⟨e1, e2, e3, e4, e5, e6, e7, e8⟩, _⟩ := Z
  have h := zy_n2 (post := post) (nx := nx) (kd := kd) (pt := pt) (nm := nm) (ex := ex) (fi := fi) (le := le) (mk := mk) (tn := tn) (Exists.intro 361 (zy_n24 Z (fun tn' hn => hp tn' (fun b hb => by
    rcases hn b hb with ⟨a1, i, k, a2, a3, a4⟩ | ⟨a1, a2⟩
    · rw [a1, (e5 b hb).mpr ⟨i, k, a2, a4⟩]; rfl
    · have : bu b = 0 := by
        have := e4 b
        by_cases c : bu b = 1
        · obtain ⟨i, k, b1, b2⟩ := (e5 b hb).mp c
          have := e2 i b1.1
          have := b1.2
          have := zc_61 Z (i := i) (by have := b1.1; omega)
          exact absurd b2 (a2 i k b1 (by omega))
        · omega
      rw [a1, this]; rfl)) 360 12 361 _ (by omega) (by omega) (by omega) (fun b hb => Or.inr ⟨zt_fli (by omega), fun i k h1 h2 => by
        have w := zc_61 Z (i := i) (by have := h1.1; omega)
        have : i ≠ 1 := fun q => by have := h1.1; rw [q, Z.1.2.1.1] at this; omega
        omega⟩))) 96 0 97 (by omega) (by omega)
  rw [zt_fl0] at h
  exact Exists.intro 97 h
theorem zy_free_l {post : Int32 → SY → Prop} {tn : Nat → Int32} (ht : ∀ b, b < 96 → tn b = nI (bu b)) (h1 : ∀ b, bu b ≤ 1) (hp : post (nI (zt_sm (fun b => 1 - bu b) 96)) (nI nx, zn kd, zn pt, zn nm, zn ex, zn fi, zn le, mk, tn)) :
    ∀ d b m, b + d = 96 → d < m → wY_free_8 post (nI nx) (zn kd) (zn pt) (zn nm) (zn ex) (zn fi) (zn le) mk tn m (nI (zt_sm (fun b => 1 - bu b) b)) (nI b) := by
  intro d
  induction d with
  | zero =>
    intro b m hb hm
    obtain ⟨m, rfl⟩ : ∃ k, m = k + 1 := ⟨m - 1, by omega⟩
    obtain rfl : b = 96 := by omega
    exact br_t (nI_le (a := 96) (by omega) (by omega)) hp
  | succ d ih =>
    intro b m hb hm
    obtain ⟨m, rfl⟩ : ∃ k, m = k + 1 := ⟨m - 1, by omega⟩
    have go := ih (b + 1) m (by omega) (by omega)
    have e : zt_sm (fun b => 1 - bu b) (b + 1) = zt_sm (fun b => 1 - bu b) b + (1 - bu b) := rfl
    have c := h1 b
    have cb : tn (nI b).toNatClampNeg = nI (bu b) := by rw [nI_clamp (by omega)]; exact ht b (by omega)
    refine br_f (nI_ge (b := 96) (by omega) (by decide)) (zs_i rfl (show b < 96 by omega) (by decide) ?_)
    rw [cb]
    by_cases q : bu b = 0
    · rw [e, q] at go
      exact br_t (by rw [q]; rfl) (nm_r (nI_1 _) (nm_r (nI_1 b) go))
    · rw [e, show 1 - bu b = 0 from by omega] at go
      exact br_f (nI_ne0 (by omega) (by omega)) (nm_r (nI_1 b) go)
end
theorem i_vc_free {k : Nat} {u : SX} {v : SY} (I : i_Rel k u v) (hk : k + 4 ≤ 2048) : wpX_free (fun r => wpY_free (fun r' v' => r' = r ∧ i_Rel (k + 4) u v') v) u := by
  obtain ⟨M, R, nx, cnt, fr, kd, pt, nm, ex, fi, le, bu, mk, tn, X, rfl, Z⟩ := I
  have X0 := X
  obtain ⟨dp, pl, pa, sk, wn, ws, Rt, T, L, S, K, C, A, lv, tr, lo, hi, V, rfl, N⟩ := X
  unfold wpX_free wpY_free
  refine zy_note Z (fun tn' ht => Exists.intro 97 ?_)
  have ⟨_, ⟨e1, e2, e3, e4, e5, e6, e7, e8⟩, _⟩ := Z
  exact zy_free_l ht e4 ⟨by rw [e7], zc_mk X0 Z⟩ 96 0 97 (by omega) (by omega)
end
section
/-! extents given and taken back: the pure law -/
def zc_fit (bu : Nat → Nat) (len b : Nat) : Prop := b + len ≤ 96 ∧ ∀ j, b ≤ j → j < b + len → bu j = 0
/-- a sum over a filled range -/
theorem zt_sm_fl {B : Nat → Nat} {b n : Nat} (v w : Nat) (g : Nat → Nat) : ∀ l, b + l ≤ n → (∀ j, b ≤ j → j < b + l → g (B j) = w) → g v + w = 1 → w ≤ 1 → zt_sm (fun j => g (zt_fl B b (b + l) v j)) n + l * w = zt_sm (fun j => g (B j)) n + l * g v := by
  intro l
  induction l with
  | zero =>
    intro h1 h2 h3 h4
    rw [Nat.add_zero, zt_fl0]; omega
  | succ l ih =>
    intro h1 h2 h3 h4
    have e := ih (by omega) (fun j a c => h2 j a (by omega)) h3 h4
    have s := zt_sm_1 (g := fun j => g (zt_fl B b (b + l) v j)) (g' := fun j => g (zt_fl B b (b + (l + 1)) v j)) (a := b + l) (n := n) (by omega) (fun j _ hj => by
      by_cases c : b ≤ j ∧ j < b + l
      · rw [zt_fli c, zt_fli (by omega)]
      · rw [zt_flo (by omega), zt_flo (by omega)])
    rw [zt_flo (by omega), h2 (b + l) (by omega) (by omega), zt_fli (by omega)] at s
    rw [Nat.succ_mul, Nat.succ_mul]
    omega
section
variable {kd ex fi le bu : Nat → Nat} {fr : Nat}
theorem zc_E_ext (E : zc_E kd ex fi le bu fr) {i b len : Nat} (hi : kd i = 1) (hi62 : i < 62) (hn : ex i < 6) (hl1 : 1 ≤ len) (hl2 : len ≤ 32) (hf : zc_fit bu len b) : len ≤ fr ∧ zc_E kd (zt_u ex i (ex i + 1)) (zt_u fi (6 * i + ex i) b) (zt_u le (6 * i + ex i) len) (zt_fl bu b (b + len) 1) (fr - len) := by
  have ⟨e1, e2, e3, e4, e5, e6, e7, e8⟩ := E
  have ⟨f1, f2⟩ := hf
  have oldk : ∀ j k, zc_lv kd ex j k → 6 * j + k ≠ 6 * i + ex i := fun j k h => by
    have a := e2 j h.1
    have c := h.2
    intro z
    have : j = i := by omega
    rw [this] at c z; omega
  have of : ∀ j k, zc_lv kd ex j k → zt_u fi (6 * i + ex i) b (6 * j + k) = fi (6 * j + k) ∧ zt_u le (6 * i + ex i) len (6 * j + k) = le (6 * j + k) := fun j k h => ⟨zt_un (oldk j k h), zt_un (oldk j k h)⟩
  have cs : ∀ j k, zc_lv kd (zt_u ex i (ex i + 1)) j k → (j = i ∧ k = ex i) ∨ zc_lv kd ex j k := fun j k h => by
    have ⟨h1, h2⟩ := h
    by_cases c : j = i
    · rw [c, zt_us] at h2
      by_cases c2 : k = ex i
      · exact Or.inl ⟨c, c2⟩
      · exact Or.inr ⟨h1, by rw [c]; omega⟩
    · rw [zt_un c] at h2
      exact Or.inr ⟨h1, h2⟩
  have up : ∀ j k, zc_lv kd ex j k → zc_lv kd (zt_u ex i (ex i + 1)) j k := fun j k h => by
    refine ⟨h.1, ?_⟩
    by_cases c : j = i
    · have := h.2; rw [c] at this ⊢; rw [zt_us]; omega
    · rw [zt_un c]; exact h.2
  have covo : ∀ j k q, zc_lv kd ex j k → (zc_cov (zt_u fi (6 * i + ex i) b) (zt_u le (6 * i + ex i) len) j k q ↔ zc_cov fi le j k q) := fun j k q h => by
    unfold zc_cov; rw [(of j k h).1, (of j k h).2]
  have covn : ∀ q, zc_cov (zt_u fi (6 * i + ex i) b) (zt_u le (6 * i + ex i) len) i (ex i) q ↔ (b ≤ q ∧ q < b + len) := fun q => by
    unfold zc_cov; rw [zt_us, zt_us]
  have clash : ∀ j k q, zc_lv kd ex j k → zc_cov fi le j k q → ¬ (b ≤ q ∧ q < b + len) := fun j k q h c z => by
    have := f2 q z.1 z.2
    have := (e5 q (by omega)).mpr ⟨j, k, h, c⟩
    omega
  have sm := zt_sm_fl (B := bu) (b := b) (n := 96) 1 1 (fun x => 1 - x) len f1 (fun j h1 h2 => by show 1 - bu j = 1; rw [f2 j h1 h2]) (by omega) (by omega)
  have sm2 : zt_sm (fun j => 1 - zt_fl bu b (b + len) 1 j) 96 + len = fr := by rw [e7]; omega
  have st := zt_sm_1 (g := zc_tot kd ex le) (g' := zc_tot kd (zt_u ex i (ex i + 1)) (zt_u le (6 * i + ex i) len)) (a := i) (n := 62) hi62 (fun j _ hj => by
    unfold zc_tot
    by_cases c : kd j = 1
    · rw [if_pos c, if_pos c, zt_un hj]
      exact zt_sm_c (fun k hk => zt_un (oldk j k ⟨c, hk⟩))
    · rw [if_neg c, if_neg c])
  have ti : zc_tot kd ex le i = zt_sm (fun k => le (6 * i + k)) (ex i) := if_pos hi
  have ti' : zc_tot kd (zt_u ex i (ex i + 1)) (zt_u le (6 * i + ex i) len) i = zt_sm (fun k => le (6 * i + k)) (ex i) + len := by
    unfold zc_tot
    rw [if_pos hi, zt_us]
    show zt_sm (fun k => zt_u le (6 * i + ex i) len (6 * i + k)) (ex i) + zt_u le (6 * i + ex i) len (6 * i + ex i) = _
    rw [zt_us, zt_sm_c (g := fun k => le (6 * i + k)) (fun k hk => zt_un (by omega))]
  rw [ti, ti'] at st
  refine ⟨by omega, And.intro ?_ (And.intro ?_ (And.intro ?_ (And.intro ?_ (And.intro ?_ (And.intro ?_ (And.intro ?_ ?_))))))⟩
  · intro j hj
    rw [zt_un (fun z => by rw [z] at hj; omega)]; exact e1 j hj
  · intro j hj
    by_cases c : j = i
    · rw [c, zt_us]; omega
    · rw [zt_un c]; exact e2 j hj
  · intro j k h
    rcases cs j k h with ⟨c1, c2⟩ | c
    · rw [c1, c2, zt_us, zt_us]; omega
    · rw [(of j k c).1, (of j k c).2]; exact e3 j k c
  · intro q
    by_cases c : b ≤ q ∧ q < b + len
    · rw [zt_fli c]; omega
    · rw [zt_flo (by omega)]; exact e4 q
  · intro q hq
    by_cases c : b ≤ q ∧ q < b + len
    · rw [zt_fli c]
      exact ⟨fun _ => ⟨i, ex i, ⟨hi, by rw [zt_us]; omega⟩, (covn q).mpr c⟩, fun _ => rfl⟩
    · rw [zt_flo (by omega), e5 q hq]
      constructor
      · intro ⟨j, k, h1, h2⟩
        exact ⟨j, k, up j k h1, (covo j k q h1).mpr h2⟩
      · intro ⟨j, k, h1, h2⟩
        rcases cs j k h1 with ⟨c1, c2⟩ | c3
        · rw [c1, c2] at h2
          exact absurd ((covn q).mp h2) c
        · exact ⟨j, k, c3, (covo j k q c3).mp h2⟩
  · intro j k j' k' q h h' c c'
    rcases cs j k h with ⟨a1, a2⟩ | a
    · rcases cs j' k' h' with ⟨b1, b2⟩ | b'
      · exact ⟨a1.trans b1.symm, a2.trans b2.symm⟩
      · rw [a1, a2] at c
        exact absurd ((covn q).mp c) (clash j' k' q b' ((covo j' k' q b').mp c'))
    · rcases cs j' k' h' with ⟨b1, b2⟩ | b'
      · rw [b1, b2] at c'
        exact absurd ((covn q).mp c') (clash j k q a ((covo j k q a).mp c))
      · exact e6 j k j' k' q a b' ((covo j k q a).mp c) ((covo j' k' q b').mp c')
  · omega
  · omega
theorem zc_E_shr (E : zc_E kd ex fi le bu fr) {i n : Nat} (hi : kd i = 1) (hi62 : i < 62) (hn : ex i = n + 1) : zc_E kd (zt_u ex i n) fi le (zt_fl bu (fi (6 * i + n)) (fi (6 * i + n) + le (6 * i + n)) 0) (fr + le (6 * i + n)) := by
  have ⟨e1, e2, e3, e4, e5, e6, e7, e8⟩ := E
  have last : zc_lv kd ex i n := ⟨hi, by omega⟩
  have b3 := e3 i n last
  have dn : ∀ j k, zc_lv kd (zt_u ex i n) j k → zc_lv kd ex j k ∧ ¬ (j = i ∧ k = n) := fun j k h => by
    have ⟨h1, h2⟩ := h
    by_cases c : j = i
    · rw [c, zt_us] at h2
      exact ⟨⟨h1, by rw [c]; omega⟩, fun z => by omega⟩
    · rw [zt_un c] at h2
      exact ⟨⟨h1, h2⟩, fun z => c z.1⟩
  have up : ∀ j k, zc_lv kd ex j k → ¬ (j = i ∧ k = n) → zc_lv kd (zt_u ex i n) j k := fun j k h z => by
    refine ⟨h.1, ?_⟩
    by_cases c : j = i
    · have := h.2; rw [c] at this ⊢; rw [zt_us]; omega
    · rw [zt_un c]; exact h.2
  have one : ∀ j, fi (6 * i + n) ≤ j → j < fi (6 * i + n) + le (6 * i + n) → bu j = 1 := fun j h1 h2 => (e5 j (by omega)).mpr ⟨i, n, last, h1, h2⟩
  have sm := zt_sm_fl (B := bu) (b := fi (6 * i + n)) (n := 96) 0 0 (fun x => 1 - x) (le (6 * i + n)) b3.2.2 (fun j h1 h2 => by show 1 - bu j = 0; rw [one j h1 h2]) (by omega) (by omega)
  have sm2 : zt_sm (fun j => 1 - zt_fl bu (fi (6 * i + n)) (fi (6 * i + n) + le (6 * i + n)) 0 j) 96 = fr + le (6 * i + n) := by rw [e7]; omega
  have st := zt_sm_1 (g := zc_tot kd ex le) (g' := zc_tot kd (zt_u ex i n) le) (a := i) (n := 62) hi62 (fun j _ hj => by
    unfold zc_tot
    by_cases c : kd j = 1
    · rw [if_pos c, if_pos c, zt_un hj]
    · rw [if_neg c, if_neg c])
  have ti : zc_tot kd ex le i = zt_sm (fun k => le (6 * i + k)) n + le (6 * i + n) := by
    unfold zc_tot; rw [if_pos hi, hn]; rfl
  have ti' : zc_tot kd (zt_u ex i n) le i = zt_sm (fun k => le (6 * i + k)) n := by
    unfold zc_tot; rw [if_pos hi, zt_us]
  rw [ti, ti'] at st
  refine And.intro ?_ (And.intro ?_ (And.intro ?_ (And.intro ?_ (And.intro ?_ (And.intro ?_ (And.intro ?_ ?_))))))
  · intro j hj
    rw [zt_un (fun z => by rw [z] at hj; omega)]; exact e1 j hj
  · intro j hj
    have := e2 j hj
    by_cases c : j = i
    · rw [c] at this ⊢; rw [zt_us]; omega
    · rw [zt_un c]; exact this
  · intro j k h
    exact e3 j k (dn j k h).1
  · intro q
    by_cases c : fi (6 * i + n) ≤ q ∧ q < fi (6 * i + n) + le (6 * i + n)
    · rw [zt_fli c]; omega
    · rw [zt_flo (by omega)]; exact e4 q
  · intro q hq
    by_cases c : fi (6 * i + n) ≤ q ∧ q < fi (6 * i + n) + le (6 * i + n)
    · rw [zt_fli c]
      refine ⟨fun h => by omega, fun ⟨j, k, h1, h2⟩ => ?_⟩
      have ⟨a1, a2⟩ := dn j k h1
      exact absurd (e6 j k i n q a1 last h2 c) a2
    · rw [zt_flo (by omega), e5 q hq]
      constructor
      · intro ⟨j, k, h1, h2⟩
        exact ⟨j, k, up j k h1 (fun z => by rw [z.1, z.2] at h2; exact c h2), h2⟩
      · intro ⟨j, k, h1, h2⟩
        exact ⟨j, k, (dn j k h1).1, h2⟩
  · intro j k j' k' q h h' c c'
    exact e6 j k j' k' q (dn j k h).1 (dn j' k' h').1 c c'
  · exact sm2.symm
  · omega
end
section
variable {nx cnt fr R : Nat} {kd pt nm ex fi le bu : Nat → Nat} {mk tn : Nat → Int32} {M : Nat → Nat → Option Int64} {u : SX}
/-- one item's record changes, nothing else of the catalog -/
theorem zc_M0_rec (Z : zc_Z M R nx cnt fr kd pt nm ex fi le bu) {ex' fi' le' : Nat → Nat} {i : Nat} (hi2 : 2 ≤ i) (hi : kd i ≠ 0) (eo : ∀ j, kd j ≠ 0 → j ≠ i → zc_rec ex' fi' le' j = zc_rec ex fi le j) {M' : Nat → Nat → Option Int64} (hM : ∀ k, M' 0 k = zt_mu M 0 (512 * pt i + nm i + 1) (some (lN (zc_rec ex' fi' le' i))) 0 k) : zc_M0 M' kd pt nm ex' fi' le' := by
  have ⟨⟨k1, k2, k3, k4, k5, k6⟩, _, m0, _, _⟩ := Z
  have wi := zc_pt Z hi
  intro k v
  rw [hM]
  by_cases c : k = 512 * pt i + nm i + 1
  · rw [c, zt_mu_s]
    constructor
    · intro h
      exact Or.inr ⟨i, hi2, hi, rfl, (Option.some.inj h).symm⟩
    · intro h
      rcases h with ⟨j, a1, a2, a3⟩ | ⟨j, a0, a1, a2, a3⟩
      · omega
      · have w := zc_pt Z a1
        have : i = j := k5 i j hi2 a0 hi a1 (by omega) (by omega)
        rw [this, a3]
  · rw [zt_mu_n (Or.inr c), m0 k v]
    constructor
    · intro h
      rcases h with ⟨j, a1, a2, a3⟩ | ⟨j, a0, a1, a2, a3⟩
      · exact Or.inl ⟨j, a1, a2, a3⟩
      · refine Or.inr ⟨j, a0, a1, a2, ?_⟩
        rw [eo j a1 (fun z => by rw [z] at a2; exact c a2)]; exact a3
    · intro h
      rcases h with ⟨j, a1, a2, a3⟩ | ⟨j, a0, a1, a2, a3⟩
      · exact Or.inl ⟨j, a1, a2, a3⟩
      · refine Or.inr ⟨j, a0, a1, a2, ?_⟩
        rw [← eo j a1 (fun z => by rw [z] at a2; exact c a2)]; exact a3
theorem zc_rec_o {ex' fi' le' : Nat → Nat} {i j : Nat} (hj : j ≠ i) (h1 : ∀ z, z ≠ i → ex' z = ex z) (h2 : ∀ k, k < 3 → fi' (6 * j + k) = fi (6 * j + k) ∧ le' (6 * j + k) = le (6 * j + k)) : zc_rec ex' fi' le' j = zc_rec ex fi le j := by
  have e : ∀ k, k < 3 → zc_in ex' fi' le' j k = zc_in ex fi le j k := fun k hk => by
    unfold zc_in
    rw [h1 j hj, (h2 k hk).1, (h2 k hk).2]
  unfold zc_rec
  rw [h1 j hj, e 0 (by omega), e 1 (by omega), e 2 (by omega)]
/-- the record after one more extent -/
theorem zc_rec_ext {i b len : Nat} (hn : ex i < 6) : zc_rec (zt_u ex i (ex i + 1)) (zt_u fi (6 * i + ex i) b) (zt_u le (6 * i + ex i) len) i = zc_rec ex fi le i + 64 + (if ex i < 3 then (b + 128 * len) * 2 ^ (9 + 13 * ex i) else 0) := by
  have e : ∀ k, k < 3 → zc_in (zt_u ex i (ex i + 1)) (zt_u fi (6 * i + ex i) b) (zt_u le (6 * i + ex i) len) i k = if k = ex i then b + 128 * len else zc_in ex fi le i k := fun k hk => by
    unfold zc_in
    rw [zt_us]
    by_cases c : k = ex i
    · rw [if_pos c, if_pos (by omega), c, zt_us, zt_us]
    · rw [if_neg c, zt_un (by omega), zt_un (by omega)]
      by_cases c2 : k < ex i
      · rw [if_pos c2, if_pos (by omega)]
      · rw [if_neg c2, if_neg (by omega)]
  have z : ∀ k, k = ex i → zc_in ex fi le i k = 0 := fun k hk => if_neg (by omega)
  unfold zc_rec
  rw [e 0 (by omega), e 1 (by omega), e 2 (by omega), zt_us]
  have c : ex i = 0 ∨ ex i = 1 ∨ ex i = 2 ∨ 3 ≤ ex i := by omega
  rcases c with c | c | c | c
  · have := z 0 c.symm
    rw [c, if_pos rfl, if_neg (by omega), if_neg (by omega), if_pos (by omega)]; omega
  · have := z 1 c.symm
    rw [c, if_neg (by omega), if_pos rfl, if_neg (by omega), if_pos (by omega)]; omega
  · have := z 2 c.symm
    rw [c, if_neg (by omega), if_neg (by omega), if_pos rfl, if_pos (by omega)]; omega
  · rw [if_neg (by omega), if_neg (by omega), if_neg (by omega), if_neg (by omega)]; omega
/-- what lies below the next extent's bits -/
theorem zc_rec_lo (Z : zc_Z M R nx cnt fr kd pt nm ex fi le bu) {i : Nat} (h : kd i ≠ 0) (h3 : ex i < 3) : zc_rec ex fi le i + 64 < 2 ^ (9 + 13 * ex i) := by
  have a := zc_in_lt Z h 0
  have b := zc_in_lt Z h 1
  have d := zc_61 Z h
  have z : ∀ k, ex i ≤ k → zc_in ex fi le i k = 0 := fun k hk => if_neg (by omega)
  unfold zc_rec
  have c : ex i = 0 ∨ ex i = 1 ∨ ex i = 2 := by omega
  rcases c with c | c | c
  · rw [z 0 (by omega), z 1 (by omega), z 2 (by omega), c]; omega
  · rw [z 1 (by omega), z 2 (by omega), c]; omega
  · rw [z 2 (by omega), c]; omega
/-- the record after one extent less -/
theorem zc_rec_shr {i n : Nat} (hn : ex i = n + 1) : zc_rec (zt_u ex i n) fi le i + 64 + (if n < 3 then (fi (6 * i + n) + 128 * le (6 * i + n)) * 2 ^ (9 + 13 * n) else 0) = zc_rec ex fi le i := by
  have e : ∀ k, k < 3 → zc_in (zt_u ex i n) fi le i k = if k = n then 0 else zc_in ex fi le i k := fun k hk => by
    unfold zc_in
    rw [zt_us, hn]
    by_cases c : k = n
    · rw [if_pos c, if_neg (by omega)]
    · rw [if_neg c]
      by_cases c2 : k < n
      · rw [if_pos c2, if_pos (by omega)]
      · rw [if_neg c2, if_neg (by omega)]
  have z : ∀ k, k = n → zc_in ex fi le i k = fi (6 * i + n) + 128 * le (6 * i + n) := fun k hk => by
    unfold zc_in; rw [hk, if_pos (by omega)]
  unfold zc_rec
  rw [e 0 (by omega), e 1 (by omega), e 2 (by omega), zt_us, hn]
  have c : n = 0 ∨ n = 1 ∨ n = 2 ∨ 3 ≤ n := by omega
  rcases c with c | c | c | c
  · have := z 0 c.symm
    rw [← this, c, if_pos rfl, if_neg (by omega), if_neg (by omega), if_pos (by omega)]; omega
  · have := z 1 c.symm
    rw [← this, c, if_neg (by omega), if_pos rfl, if_neg (by omega), if_pos (by omega)]; omega
  · have := z 2 c.symm
    rw [← this, c, if_neg (by omega), if_neg (by omega), if_pos rfl, if_pos (by omega)]; omega
  · rw [if_neg (by omega), if_neg (by omega), if_neg (by omega), if_neg (by omega)]; omega
/-- the number of overflow records when one file's count changes -/
theorem zc_ov_u {i n : Nat} (hi : kd i = 1) (hi62 : i < 62) : zc_ov kd (zt_u ex i n) + (ex i - 3) = zc_ov kd ex + (n - 3) := by
  have s := zt_sm_1 (g := fun i => if kd i = 1 then ex i - 3 else 0) (g' := fun j => if kd j = 1 then zt_u ex i n j - 3 else 0) (a := i) (n := 62) hi62 (fun j _ hj => by
    show (if kd j = 1 then zt_u ex i n j - 3 else 0) = (if kd j = 1 then ex j - 3 else 0)
    rw [zt_un hj])
  rw [if_pos hi, if_pos hi, zt_us] at s
  exact s
end
end
section
/-! extend -/
theorem zc_bsub (z : Int32) : z - (z + 1) + 1 = 0 := by grind
section
variable {dp pl pa sk gv pr fb : Int32} {rt tk lf sz ky ch af wn ws bu : Nat → Int32} {vl : Nat → Int64}
theorem zw_ff_l {B : Nat → Nat} {len : Nat} (hb : bu = zn B) (h1 : ∀ b, B b ≤ 1) (hl1 : 1 ≤ len) (hl2 : len ≤ 32) :
    ∀ d b run m, b + d = 96 → d < m → run < len → run ≤ b → (∀ j, b ≤ j + run → j < b → B j = 0) → (run = b ∨ (run < b ∧ B (b - run - 1) = 1)) → (∀ b', b' + len ≤ b → ¬ zc_fit B len b') →
    ∃ r : Int32, ((r = -1 ∧ ∀ b, ¬ zc_fit B len b) ∨ (∃ b, r = nI b ∧ zc_fit B len b ∧ ∀ b', b' < b → ¬ zc_fit B len b')) ∧ ∀ post : Int32 → Prop, post r → wX_firstFit_4 post (nI len) dp pl pa sk gv pr fb rt tk lf sz ky vl ch af wn ws bu m (nI run) (nI b) := by
  intro d
  induction d with
  | zero =>
    intro b run m hbd hm hrl hrb hfree hstop hno
    obtain ⟨m, rfl⟩ : ∃ k, m = k + 1 := ⟨m - 1, by omega⟩
    obtain rfl : b = 96 := by omega
    exact ⟨-1, Or.inl ⟨rfl, fun b' h => hno b' h.1 h⟩, fun post hp => br_t (nI_le (a := 96) (by omega) (by omega)) hp⟩
  | succ d ih =>
    intro b run m hbd hm hrl hrb hfree hstop hno
    obtain ⟨m, rfl⟩ : ∃ k, m = k + 1 := ⟨m - 1, by omega⟩
    have cb : bu (nI b).toNatClampNeg = nI (B b) := by rw [hb, nI_clamp (by omega)]; rfl
    have h96 : ¬ (96 : Int32) ≤ nI b := nI_ge (b := 96) (by omega) (by decide)
    have q := h1 b
    by_cases c : B b = 0
    · by_cases e : run + 1 = len
      · have hfit : zc_fit B len (b + 1 - len) := ⟨by omega, fun j a1 a2 => by
          by_cases jb : j = b
          · rw [jb]; exact c
          · exact hfree j (by omega) (by omega)⟩
        refine ⟨nI (b + 1 - len), Or.inr ⟨b + 1 - len, rfl, hfit, fun b' hb' => hno b' (by omega)⟩, fun post hp => ?_⟩
        refine br_f h96 (zs_i rfl (show b < 96 by omega) (by decide) (br_t (by rw [cb, c]; rfl) (br_t (by rw [nI_1, e]) ?_)))
        have es : nI b - nI len + 1 = nI (b + 1 - len) := by
          by_cases bl : len ≤ b
          · rw [pk_sub bl, nI_1, show b - len + 1 = b + 1 - len from by omega]
          · have : len = b + 1 := by omega
            rw [this, ← nI_1, show b + 1 - (b + 1) = 0 from by omega, nI_0]
            exact zc_bsub _
        rw [es]; exact hp
      · obtain ⟨r, r1, r2⟩ := ih (b + 1) (run + 1) m (by omega) (by omega) (by omega) (by omega) (fun j a1 a2 => by
            by_cases jb : j = b
            · rw [jb]; exact c
            · exact hfree j (by omega) (by omega)) (by
            rcases hstop with w | ⟨w1, w2⟩
            · left; omega
            · right; exact ⟨by omega, by rw [show b + 1 - (run + 1) - 1 = b - run - 1 from by omega]; exact w2⟩) (fun b' hb' hf => by
            by_cases w : b' + len ≤ b
            · exact hno b' w hf
            · rcases hstop with w | ⟨w1, w2⟩
              · omega
              · have := hf.2 (b - run - 1) (by omega) (by omega); omega)
        exact ⟨r, r1, fun post hp => br_f h96 (zs_i rfl (show b < 96 by omega) (by decide) (br_t (by rw [cb, c]; rfl) (br_f (by rw [nI_1]; exact fun z => e ((nI_eq (by omega) (by omega)).mp z)) (nm_r (nI_1 b) (by rw [nI_1]; exact r2 post hp)))))⟩
    · obtain ⟨r, r1, r2⟩ := ih (b + 1) 0 m (by omega) (by omega) (by omega) (by omega) (fun j a1 a2 => by omega) (Or.inr ⟨by omega, by show B (b + 1 - 0 - 1) = 1; rw [show b + 1 - 0 - 1 = b from by omega]; omega⟩) (fun b' hb' hf => by
          by_cases w : b' + len ≤ b
          · exact hno b' w hf
          · have := hf.2 b (by omega) (by omega); omega)
      exact ⟨r, r1, fun post hp => br_f h96 (zs_i rfl (show b < 96 by omega) (by decide) (br_f (by rw [cb]; exact nI_ne0 (by omega) (by omega)) (br_f (fun z => by
        have := (nI_eq (a := 0) (b := len) (by omega) (by omega)).mp z
        omega) (nm_r (nI_1 b) (r2 post hp)))))⟩
theorem zw_ff {B : Nat → Nat} {len : Nat} (h1 : ∀ b, B b ≤ 1) (hl1 : 1 ≤ len) (hl2 : len ≤ 32) :
    ∃ r : Int32, ((r = -1 ∧ ∀ b, ¬ zc_fit B len b) ∨ (∃ b, r = nI b ∧ zc_fit B len b ∧ ∀ b', b' < b → ¬ zc_fit B len b')) ∧ ∀ post : Int32 → Prop, post r → wpX_firstFit post (dp, pl, pa, sk, gv, pr, fb, rt, tk, lf, sz, ky, vl, ch, af, wn, ws, zn B) (nI len) := by
  obtain ⟨r, r1, r2⟩ := zw_ff_l (dp := dp) (pl := pl) (pa := pa) (sk := sk) (gv := gv) (pr := pr) (fb := fb) (rt := rt) (tk := tk) (lf := lf) (sz := sz) (ky := ky) (vl := vl) (ch := ch) (af := af) (wn := wn) (ws := ws) (bu := zn B) (B := B) (len := len) rfl h1 hl1 hl2 96 0 0 97 (by omega) (by omega) (by omega) (by omega) (fun j a b => by omega) (Or.inl rfl) (fun b' h => by omega)
  exact ⟨r, r1, fun post hp => Exists.intro 97 (r2 post hp)⟩
end
section
variable {nx cnt fr R : Nat} {kd pt nm ex fi le bu : Nat → Nat} {mk tn : Nat → Int32} {M : Nat → Nat → Option Int64} {u : SX}
theorem zy_af_l {tn : Nat → Int32} (ht : ∀ b, b < 96 → tn b = nI (bu b)) (h1 : ∀ b, bu b ≤ 1) {b len : Nat} (hbl : b + len ≤ 96) {post : Int32 → Prop} (hp1 : zc_fit bu len b → post 1) (hp0 : ¬ zc_fit bu len b → post 0) :
    ∀ d j m, j + d = b + len → b ≤ j → d < m → (∀ j', b ≤ j' → j' < j → bu j' = 0) → wY_allFree_12 post (nI b) (nI len) (nI nx) (zn kd) (zn pt) (zn nm) (zn ex) (zn fi) (zn le) mk tn m (nI j) := by
  intro d
  induction d with
  | zero =>
    intro j m hj hbj hm hf
    obtain ⟨m, rfl⟩ : ∃ k, m = k + 1 := ⟨m - 1, by omega⟩
    obtain rfl : j = b + len := by omega
    exact br_t (by rw [nI_add]; exact nI_le (by omega) (by omega)) (hp1 ⟨hbl, hf⟩)
  | succ d ih =>
    intro j m hj hbj hm hf
    obtain ⟨m, rfl⟩ : ∃ k, m = k + 1 := ⟨m - 1, by omega⟩
    have cb : tn (nI j).toNatClampNeg = nI (bu j) := by rw [nI_clamp (by omega)]; exact ht j (by omega)
    have q := h1 j
    refine br_f (by rw [nI_add]; exact nI_ge (by omega) (by omega)) (zs_i rfl (show j < 96 by omega) (by decide) ?_)
    rw [cb]
    by_cases c : bu j = 0
    · exact br_t (by rw [c]; rfl) (nm_r (nI_1 j) (ih (j + 1) m (by omega) (by omega) (by omega) (fun j' a1 a2 => by
        by_cases e : j' = j
        · rw [e]; exact c
        · exact hf j' a1 (by omega))))
    · exact br_f (nI_ne0 (by omega) (by omega)) (hp0 (fun z => c (z.2 j hbj (by omega))))
theorem zy_af {tn : Nat → Int32} (ht : ∀ b, b < 96 → tn b = nI (bu b)) (h1 : ∀ b, bu b ≤ 1) {b len : Nat} (hb : b < 2 ^ 20) (hl : len < 2 ^ 20) {post : Int32 → Prop} (hp1 : zc_fit bu len b → post 1) (hp0 : ¬ zc_fit bu len b → post 0) : wpY_allFree post (nI nx, zn kd, zn pt, zn nm, zn ex, zn fi, zn le, mk, tn) (nI b) (nI len) := by
  by_cases c : b + len ≤ 96
  · exact br_t (by rw [nI_add]; exact nI_le (b := 96) c (by decide)) (Exists.intro (len + 1) (zy_af_l ht h1 c hp1 hp0 len b (len + 1) (by omega) (by omega) (by omega) (fun j a b => by omega)))
  · exact br_f (by rw [nI_add]; exact nI_ge (a := 96) (by omega) (by omega)) (hp0 (fun z => c z.1))
theorem zy_ext_l {tn : Nat → Int32} (ht : ∀ b, b < 96 → tn b = nI (bu b)) (h1 : ∀ b, bu b ≤ 1) {i len : Nat} (hi : i < 62) (hn : ex i < 6) (hl1 : 1 ≤ len) (hl2 : len ≤ 32) {post : Int32 → SY → Prop} (hN : (∀ b, ¬ zc_fit bu len b) → post (-11) (nI nx, zn kd, zn pt, zn nm, zn ex, zn fi, zn le, mk, tn))
    (hF : ∀ b, zc_fit bu len b → (∀ b', b' < b → ¬ zc_fit bu len b') → post (nI b) (nI nx, zn kd, zn pt, zn nm, zn (zt_u ex i (ex i + 1)), zn (zt_u fi (6 * i + ex i) b), zn (zt_u le (6 * i + ex i) len), mk, tn)) :
    ∀ d b m, b + d = 96 → d < m → (∀ b', b' < b → ¬ zc_fit bu len b') → wY_extend_47 post (nI i) (nI len) (nI nx) (zn kd) (zn pt) (zn nm) (zn ex) (zn fi) (zn le) mk tn m (nI b) := by
  have ce := zy_kd (kd := ex) (i := i) (by omega)
  intro d
  induction d with
  | zero =>
    intro b m hb hm hno
    obtain ⟨m, rfl⟩ : ∃ k, m = k + 1 := ⟨m - 1, by omega⟩
    obtain rfl : b = 96 := by omega
    exact br_t (nI_le (a := 96) (by omega) (by omega)) (hN (fun b' h => hno b' (by have := h.1; omega) h))
  | succ d ih =>
    intro b m hb hm hno
    obtain ⟨m, rfl⟩ : ∃ k, m = k + 1 := ⟨m - 1, by omega⟩
    refine br_f (nI_ge (b := 96) (by omega) (by decide)) (zy_af ht h1 (by omega) (by omega) (fun hf => ?_) (fun hf => ?_))
    · have e6 : (6 : Int32) * nI i + zn ex (nI i).toNatClampNeg = nI (6 * i + ex i) := by rw [ce, zs_6a]
      refine br_f (by decide) (zs_i rfl hi (by decide) (zs_w' e6 (by omega) (by decide) zn_u (zs_i rfl hi (by decide) (zs_w' e6 (by omega) (by decide) zn_u (zs_i rfl hi (by decide) (zs_w' rfl hi (by decide) ?_ (hF b hf hno)))))))
      rw [ce, nI_1]; exact zn_u
    · exact br_t rfl (nm_r (nI_1 b) (ih (b + 1) m (by omega) (by omega) (fun b' hb' => by
        by_cases e : b' = b
        · rw [e]; exact hf
        · exact hno b' (by omega))))
/-- extend, pure: the new relation, an extent within the record -/
theorem zc_ext_lo (Z : zc_Z M R nx cnt fr kd pt nm ex fi le bu) {i b len : Nat} (hi : kd i = 1) (hn : ex i < 3) (hl1 : 1 ≤ len) (hl2 : len ≤ 32) (hf : zc_fit bu len b) :
    zc_Z (zt_mu M 0 (512 * pt i + nm i + 1) (some (lN (zc_rec (zt_u ex i (ex i + 1)) (zt_u fi (6 * i + ex i) b) (zt_u le (6 * i + ex i) len) i)))) R nx cnt (fr - len) kd pt nm (zt_u ex i (ex i + 1)) (zt_u fi (6 * i + ex i) b) (zt_u le (6 * i + ex i) len) (zt_fl bu b (b + len) 1) := by
  have Z0 := Z
  have ⟨zk, ze, m0, m1, c1, c2, c3⟩ := Z
  have ⟨i1, i2, i3⟩ := zc_61 Z (i := i) (by omega)
  have hi2 : 2 ≤ i := by
    have := zk.2.1
    by_cases c : i = 1
    · rw [c] at hi; omega
    · omega
  have ov := zc_ov_u (kd := kd) (ex := ex) (i := i) (n := ex i + 1) hi (by omega)
  refine And.intro zk (And.intro (zc_E_ext ze hi (by omega) (by omega) hl1 hl2 hf).2 (And.intro ?_ (And.intro ?_ ⟨c1, c2, by omega⟩)))
  · refine zc_M0_rec Z0 hi2 (by omega) (fun j hj hji => zc_rec_o hji (fun z hz => zt_un hz) (fun k hk => ?_)) (fun k => rfl)
    exact ⟨zt_un (by omega), zt_un (by omega)⟩
  · intro k v
    rw [zt_mu_n (Or.inl (by omega)), m1 k v]
    have same : ∀ j q, kd j = 1 → 3 ≤ q → q < ex j → zt_u fi (6 * i + ex i) b (6 * j + q) = fi (6 * j + q) ∧ zt_u le (6 * i + ex i) len (6 * j + q) = le (6 * j + q) := fun j q a1 a2 a3 => by
      have := ze.2.1 j a1
      exact ⟨zt_un (by omega), zt_un (by omega)⟩
    constructor
    · intro ⟨j, q, a1, a2, a3, a4, a5⟩
      have ji : j ≠ i := fun z => by rw [z] at a3; omega
      refine ⟨j, q, a1, a2, by rw [zt_un ji]; exact a3, a4, ?_⟩
      rw [(same j q a1 a2 a3).1, (same j q a1 a2 a3).2]; exact a5
    · intro ⟨j, q, a1, a2, a3, a4, a5⟩
      have ji : j ≠ i := fun z => by rw [z, zt_us] at a3; omega
      rw [zt_un ji] at a3
      refine ⟨j, q, a1, a2, a3, a4, ?_⟩
      rw [(same j q a1 a2 a3).1, (same j q a1 a2 a3).2] at a5; exact a5
/-- extend, pure: an extent in the overflow tree -/
theorem zc_ext_hi (Z : zc_Z M R nx cnt fr kd pt nm ex fi le bu) {i b len : Nat} (hi : kd i = 1) (hn3 : 3 ≤ ex i) (hn : ex i < 6) (hl1 : 1 ≤ len) (hl2 : len ≤ 32) (hf : zc_fit bu len b) :
    zc_Z (zt_mu (zt_mu M 1 (8 * i + ex i) (some (lN (b + 128 * len)))) 0 (512 * pt i + nm i + 1) (some (lN (zc_rec (zt_u ex i (ex i + 1)) (zt_u fi (6 * i + ex i) b) (zt_u le (6 * i + ex i) len) i)))) (R + 1) nx cnt (fr - len) kd pt nm (zt_u ex i (ex i + 1)) (zt_u fi (6 * i + ex i) b) (zt_u le (6 * i + ex i) len) (zt_fl bu b (b + len) 1) := by
  have Z0 := Z
  have ⟨zk, ze, m0, m1, c1, c2, c3⟩ := Z
  have ⟨i1, i2, i3⟩ := zc_61 Z (i := i) (by omega)
  have hi2 : 2 ≤ i := by
    have := zk.2.1
    by_cases c : i = 1
    · rw [c] at hi; omega
    · omega
  have ov := zc_ov_u (kd := kd) (ex := ex) (i := i) (n := ex i + 1) hi (by omega)
  refine And.intro zk (And.intro (zc_E_ext ze hi (by omega) hn hl1 hl2 hf).2 (And.intro ?_ (And.intro ?_ ⟨c1, c2, by omega⟩)))
  · refine zc_M0_rec Z0 hi2 (by omega) (fun j hj hji => zc_rec_o hji (fun z hz => zt_un hz) (fun k hk => ?_)) (fun k => ?_)
    · exact ⟨zt_un (by omega), zt_un (by omega)⟩
    · by_cases c : k = 512 * pt i + nm i + 1
      · rw [c, zt_mu_s, zt_mu_s]
      · rw [zt_mu_n (Or.inr c), zt_mu_n (Or.inr c), zt_mu_n (Or.inl (by omega))]
  · intro k v
    rw [zt_mu_n (Or.inl (by omega))]
    have six : ∀ j, kd j = 1 → zt_u ex i (ex i + 1) j ≤ 6 := fun j hj => by
      by_cases c : j = i
      · rw [c, zt_us]; omega
      · rw [zt_un c]; exact ze.2.1 j hj
    by_cases c : k = 8 * i + ex i
    · rw [c, zt_mu_s]
      constructor
      · intro h
        refine ⟨i, ex i, hi, hn3, by rw [zt_us]; omega, rfl, ?_⟩
        rw [zt_us, zt_us]; exact (Option.some.inj h).symm
      · intro ⟨j, q, a1, a2, a3, a4, a5⟩
        have := six j a1
        have e1 : j = i := by omega
        have e2 : q = ex i := by omega
        rw [e1, e2, zt_us, zt_us] at a5
        rw [a5]
    · rw [zt_mu_n (Or.inr c), m1 k v]
      constructor
      · intro ⟨j, q, a1, a2, a3, a4, a5⟩
        have := ze.2.1 j a1
        have ne : 6 * j + q ≠ 6 * i + ex i := fun z => by
          have e1 : j = i := by omega
          rw [e1] at a3 z; omega
        refine ⟨j, q, a1, a2, ?_, a4, by rw [zt_un ne, zt_un ne]; exact a5⟩
        by_cases ji : j = i
        · rw [ji] at a3 ⊢; rw [zt_us]; omega
        · rw [zt_un ji]; exact a3
      · intro ⟨j, q, a1, a2, a3, a4, a5⟩
        have := six j a1
        have ne : 6 * j + q ≠ 6 * i + ex i := fun z => by
          have e1 : j = i := by omega
          rw [e1] at z a4; exact c (by omega)
        rw [zt_un ne, zt_un ne] at a5
        refine ⟨j, q, a1, a2, ?_, a4, a5⟩
        by_cases ji : j = i
        · rw [ji] at a3 ne ⊢; rw [zt_us] at a3; omega
        · rw [zt_un ji] at a3; exact a3
end
theorem zc_neg_sub {a b : Nat} (h : b ≤ a) : nI a + (-(nI b)) = nI (a - b) := by rw [← Int32.sub_eq_add_neg, pk_sub h]
theorem zc_or7 {b len : Nat} (hb : b < 128) (hl : len ≤ 32) : nI b ||| (nI len <<< ((7 : Int32) &&& 31)) = nI (b + 128 * len) := by
  rw [pk_shlN (n := len) ((7 : Int32) &&& 31) 7 (by decide) (by omega)]
  apply Int32.toBitVec_inj.mp
  show (nI b).toBitVec ||| (nI (len * 2 ^ 7)).toBitVec = _
  apply BitVec.eq_of_toNat_eq
  rw [BitVec.toNat_or, pk_tn (by omega), pk_tn (by omega), pk_tn (by omega)]
  have := Nat.two_pow_add_eq_or_of_lt (i := 7) (b := b) hb len
  rw [Nat.or_comm, Nat.mul_comm len, ← this]
  omega
end
section
/-! extend and shrink, the methods -/
section
variable {dp pl pa sk gv pr fb : Int32} {wn ws bu : Nat → Int32} {Rt T L S K C A lv tr lo hi : Nat → Nat} {V : Nat → Int64} {M : Nat → Nat → Option Int64} {R e1 e2 : Nat}
theorem zc_putk {u : SX} (X : zx_X M R gv pr fb bu u) {post : SX → Prop} {t k : Nat} {kx : Int32} {v vx : Int64} (ek : kx = nI k) (ev : vx = v) (ht : t < 2) (hk : k < 40000) (hR : R ≤ 100) (h0 : M t k = none → ∀ u, zx_X (zt_mu M t k (some v)) (R + 1) gv pr fb bu u → post u) (h1 : M t k ≠ none → ∀ u, zx_X (zt_mu M t k (some v)) R gv pr fb bu u → post u) : wpX_putRecord post u (nI t) kx vx := by
  rw [ek, ev]; exact zc_put X ht hk hR h0 h1
theorem zc_dropk {u : SX} (X : zx_X M R gv pr fb bu u) {post : SX → Prop} {t k : Nat} {kx : Int32} (ek : kx = nI k) (ht : t < 2) (hk : k < 40000) (h0 : M t k = none → ∀ u, zx_X M R gv pr fb bu u → post u) (h1 : M t k ≠ none → ∀ R' u, R' + 1 = R → zx_X (zt_mu M t k none) R' gv pr fb bu u → post u) : wpX_dropRecord post u (nI t) kx := by
  rw [ek]; exact zc_drop X ht hk h0 h1
theorem zc_markk {u : SX} {fb' : Int32} {bu' : Nat → Int32} (X : zx_X M R gv pr fb bu u) {post : SX → Prop} {a l : Nat} {ex x2 y2 : Int32} (ee : ex = nI (a + 128 * l)) (hl : a + l ≤ 96) (hx : (x2 = 0 ∧ y2 = 0 ∧ fb' = fb + nI l) ∨ (x2 = 1 ∧ y2 = 1 ∧ fb' = fb + (-(nI l)))) (eb : zt_fl bu a (a + l) y2 = bu') (hp : ∀ u', zx_X M R gv pr fb' bu' u' → post u') : wpX_mark post u ex x2 := by
  rw [ee]; rw [← eb] at hp; exact zc_mark X hl hx hp
end
section
variable {nx cnt fr R : Nat} {kd pt nm ex fi le bu : Nat → Nat} {mk tn : Nat → Int32} {M : Nat → Nat → Option Int64} {u : SX}
theorem zc_2le (Z : zc_Z M R nx cnt fr kd pt nm ex fi le bu) {i : Nat} (h : kd i = 1) : 2 ≤ i ∧ i ≤ 61 := by
  have ⟨i1, i2, i3⟩ := zc_61 Z (i := i) (by omega)
  have := Z.1.2.1
  by_cases c : i = 1
  · rw [c] at h; omega
  · omega
/-- keyOfThread, then putRecord over the item's record -/
theorem zc_putrec {M' : Nat → Nat → Option Int64} {R' : Nat} {gv pr fb : Int32} {b' : Nat → Int32} (Z : zc_Z M R nx cnt fr kd pt nm ex fi le bu) {i : Nat} (h2 : 2 ≤ i) (h : kd i ≠ 0) {u : SX} (X : zx_X M' R' gv pr fb b' u) (hM : M' 0 (512 * pt i + nm i + 1) ≠ none) (hR : R' ≤ 100) {v : Int64} {post : SX → Prop} (hp : ∀ u', zx_X (zt_mu M' 0 (512 * pt i + nm i + 1) (some v)) R' gv pr fb b' u' → post u') : wpX_keyOfThread (fun r => wpX_putRecord post u 0 r v) (lN (zc_thd kd pt nm i)) := by
  have w := zc_pt Z h
  refine zc_kot Z h ?_
  exact zc_put X (t := 0) (by omega) (by omega) hR (fun e => absurd e hM) (fun _ => hp)
theorem zy_extend (Z : zc_Z M R nx cnt fr kd pt nm ex fi le bu) {i len : Nat} (h : kd i = 1) (hn : ex i < 6) (hl1 : 1 ≤ len) (hl2 : len ≤ 32) (hy : ∀ post : Int32 → Prop, post 0 → wpY_refuseFile post (nI nx, zn kd, zn pt, zn nm, zn ex, zn fi, zn le, mk, tn) (nI i)) {post : Int32 → SY → Prop} (hN : (∀ b, ¬ zc_fit bu len b) → ∀ tn, post (-11) (nI nx, zn kd, zn pt, zn nm, zn ex, zn fi, zn le, mk, tn))
    (hF : ∀ b, zc_fit bu len b → (∀ b', b' < b → ¬ zc_fit bu len b') → ∀ tn, post (nI b) (nI nx, zn kd, zn pt, zn nm, zn (zt_u ex i (ex i + 1)), zn (zt_u fi (6 * i + ex i) b), zn (zt_u le (6 * i + ex i) len), mk, tn)) : wpY_extend post (nI nx, zn kd, zn pt, zn nm, zn ex, zn fi, zn le, mk, tn) (nI i) (nI len) := by
  have ⟨i2, i61⟩ := zc_2le Z h
  have ce := zy_kd (kd := ex) (i := i) i61
  unfold wpY_extend
  refine hy _ (br_t (by decide) (br_f (nI_nlt (b := 1) hl1 (by omega)) (br_t (nI_le (b := 32) hl2 (by decide)) (zs_i rfl (show i < 62 by omega) (by decide) ?_))))
  rw [ce]
  refine br_f (fun z => by
    have := (nI_eq (b := 6) (by omega) (by omega)).mp z
    omega) (zy_note Z (fun tn' ht => Exists.intro 97 ?_))
  exact zy_ext_l ht Z.2.1.2.2.2.1 (by omega) hn hl1 hl2 (fun hq => hN hq tn') (fun b h1 h2 => hF b h1 h2 tn') 96 0 97 (by omega) (by omega) (fun b' hb' => by omega)
end
theorem i_vc_extend {k : Nat} {u : SX} {v : SY} (I : i_Rel k u v) (hk : k + 4 ≤ 2048) (v1 : Int32) (v2 : Int32) : wpX_extend (fun r u' => wpY_extend (fun r' v' => r' = r ∧ i_Rel (k + 4) u' v') v v1 v2) u v1 v2 := by
  obtain ⟨M, R, nx, cnt, fr, kd, pt, nm, ex, fi, le, bu, mk, tn, X, rfl, Z⟩ := I
  obtain ⟨q1_0, q1_1, q1_2, q1_3, q1_4, q1_5, q1_6, q1_7, q1_8, q1_9, q1_10, q1_11, q1_12, q1_13, q1_14, q1_15, q1_16, q1_17⟩ := u
  unfold wpX_extend
  rcases zc_file X Z v1 with ⟨r, ⟨r1, r2⟩, hx, hy⟩ | ⟨i, rfl, h, hx, hy⟩
  · refine hx _ (fun u' X' => ?_)
    obtain ⟨q2_0, q2_1, q2_2, q2_3, q2_4, q2_5, q2_6, q2_7, q2_8, q2_9, q2_10, q2_11, q2_12, q2_13, q2_14, q2_15, q2_16, q2_17⟩ := u'
    refine br_f r1 ?_
    unfold wpY_extend
    exact hy _ (br_f r2 ⟨rfl, zc_mk X' Z⟩)
  · have hk0 : kd i ≠ 0 := by omega
    have ⟨hi2, hi61⟩ := zc_2le Z h
    have h6 := (zc_in_lt Z hk0 0).2
    have ce := zy_kd (kd := ex) (i := i) hi61
    have R97 := zc_97 Z
    refine hx _ (fun u' X' => ?_)
    obtain ⟨q2_0, q2_1, q2_2, q2_3, q2_4, q2_5, q2_6, q2_7, q2_8, q2_9, q2_10, q2_11, q2_12, q2_13, q2_14, q2_15, q2_16, q2_17⟩ := u'
    refine br_t rfl ?_
    by_cases c1 : v2 < 1
    · refine br_t c1 ?_
      unfold wpY_extend
      exact hy _ (br_t (by decide) (br_t c1 ⟨rfl, zc_mk X' Z⟩))
    · by_cases c2 : v2 ≤ 32
      · have c0 : ¬ v2 < 0 := fun z => c1 (Int32.lt_trans z (by decide))
        obtain ⟨len, hl2, rfl⟩ := nI_of2 (M := 32) (n := 32) (by decide) c0 c2
        have hl1 : 1 ≤ len := by
          by_cases q : 1 ≤ len
          · exact q
          · exact absurd (nI_lt (a := len) (b := 1) (by omega) (by decide)) c1
        refine br_f c1 (br_t c2 (zc_thr_p X' Z hk0 (fun u3 X3 => ?_)))
        obtain ⟨q3_0, q3_1, q3_2, q3_3, q3_4, q3_5, q3_6, q3_7, q3_8, q3_9, q3_10, q3_11, q3_12, q3_13, q3_14, q3_15, q3_16, q3_17⟩ := u3
        refine zc_recof X3 Z hi2 hk0 (fun u4 X4 => ?_)
        have X4' := X4
        obtain ⟨dp, pl, pa, sk, wn, ws, Rt, T, L, S, K, C, A, lv, tr, lo, hi, V, rfl, N⟩ := X4
        refine zc_recn Z hk0 ?_
        by_cases c6 : ex i < 6
        · refine br_t (nI_lt (b := 6) c6 (by decide)) ?_
          obtain ⟨rf, f1, f2⟩ := zw_ff (dp := dp) (pl := pl) (pa := pa) (sk := sk) (gv := nI (nx - 2)) (pr := nI cnt) (fb := nI fr) (rt := zn Rt) (tk := zn T) (lf := zn L) (sz := zn S) (ky := zn K) (vl := V) (ch := zn C) (af := za A) (wn := wn) (ws := ws) (B := bu) (len := len) Z.2.1.2.2.2.1 hl1 hl2
          refine f2 _ ?_
          rcases f1 with ⟨f3, f4⟩ | ⟨b, rfl, f4, f5⟩
          · rw [f3]
            refine br_f (by decide) ?_
            exact zy_extend Z h c6 hl1 hl2 hy (fun _ tn => ⟨rfl, zc_mk X4' Z⟩) (fun b q => absurd q (f4 b))
          · have fb96 := f4.1
            have Efr := (zc_E_ext Z.2.1 h (by omega) c6 hl1 hl2 f4).1
            have yfin : ∀ u', zx_X M R (nI (nx - 2)) (nI cnt) (nI fr) (zn bu) u' → True := fun _ _ => trivial
            refine br_t (nI_pos' (by omega)) (nm_r (e' := nI (b + 128 * len)) (zc_or7 (by omega) hl2) ?_)
            refine zc_markk X4' (a := b) (l := len) (x2 := 1) (y2 := 1) (fb' := nI (fr - len)) (bu' := zn (zt_fl bu b (b + len) 1)) rfl f4.1 (Or.inr ⟨rfl, rfl, (zc_neg_sub Efr).symm⟩) (zn_fl (v := 1)) (fun u5 X5 => ?_)
            obtain ⟨q5_0, q5_1, q5_2, q5_3, q5_4, q5_5, q5_6, q5_7, q5_8, q5_9, q5_10, q5_11, q5_12, q5_13, q5_14, q5_15, q5_16, q5_17⟩ := u5
            have yend : ∀ (M' : Nat → Nat → Option Int64) (R' : Nat) (u6 : SX), zx_X M' R' (nI (nx - 2)) (nI cnt) (nI (fr - len)) (zn (zt_fl bu b (b + len) 1)) u6 → zc_Z M' R' nx cnt (fr - len) kd pt nm (zt_u ex i (ex i + 1)) (zt_u fi (6 * i + ex i) b) (zt_u le (6 * i + ex i) len) (zt_fl bu b (b + len) 1) → wpY_extend (fun r' v' => r' = nI b ∧ i_Rel (k + 4) u6 v') (nI nx, zn kd, zn pt, zn nm, zn ex, zn fi, zn le, mk, tn) (nI i) (nI len) := fun M' R' u6 X6 Z6 => by
              refine zy_extend Z h c6 hl1 hl2 hy (fun q => absurd f4 (q b)) (fun b2 g1 g2 tn => ?_)
              have e : b2 = b := by
                by_cases w : b2 < b
                · exact absurd g1 (f5 b2 w)
                · by_cases w2 : b < b2
                  · exact absurd f4 (g2 b w2)
                  · omega
              rw [e]
              exact ⟨rfl, zc_mk X6 Z6⟩
            refine nm_r (e' := lN (zc_rec ex fi le i + 64)) (lN_add _ 64) ?_
            by_cases c3 : 3 ≤ ex i
            · refine br_t (nI_le (a := 3) c3 (by omega)) ?_
              have e8 : (8 : Int32) * nI i + nI (ex i) = nI (8 * i + ex i) := by rw [show (8 : Int32) * nI i = nI (8 * i) from pk_mul 8 i, nI_add]
              have none1 := zc_h0 Z (i := i) (j := ex i) (by omega) (by omega)
              refine zc_putk X5 (t := 1) e8 (nI_l (by omega)) (by omega) (by omega) (by omega) (fun _ u6 X6 => ?_) (fun q => absurd none1 q)
              obtain ⟨q6_0, q6_1, q6_2, q6_3, q6_4, q6_5, q6_6, q6_7, q6_8, q6_9, q6_10, q6_11, q6_12, q6_13, q6_14, q6_15, q6_16, q6_17⟩ := u6
              have rc := zc_rec_ext (ex := ex) (fi := fi) (le := le) (i := i) (b := b) (len := len) c6
              rw [if_neg (by omega), Nat.add_zero] at rc
              refine zc_putrec Z hi2 hk0 X6 (by rw [zt_mu_n (Or.inl (by omega)), zc_g2 Z hi2 hk0]; exact fun e => nomatch e) (by omega) (fun u7 X7 => ?_)
              obtain ⟨q7_0, q7_1, q7_2, q7_3, q7_4, q7_5, q7_6, q7_7, q7_8, q7_9, q7_10, q7_11, q7_12, q7_13, q7_14, q7_15, q7_16, q7_17⟩ := u7
              rw [← rc] at X7
              exact yend _ _ _ X7 (zc_ext_hi Z h c3 c6 hl1 hl2 f4)
            · have rc := zc_rec_ext (ex := ex) (fi := fi) (le := le) (i := i) (b := b) (len := len) c6
              rw [if_pos (by omega)] at rc
              refine br_f (nI_ge (b := 3) (by omega) (by decide)) (nm_r (e' := lN (zc_rec ex fi le i + 64 + (b + 128 * len) * 2 ^ (9 + 13 * ex i))) (zb_or (by omega) (zc_rec_lo Z hk0 (by omega)) (by omega)) ?_)
              refine zc_putrec Z hi2 hk0 X5 (by rw [zc_g2 Z hi2 hk0]; exact fun e => nomatch e) (by omega) (fun u7 X7 => ?_)
              obtain ⟨q7_0, q7_1, q7_2, q7_3, q7_4, q7_5, q7_6, q7_7, q7_8, q7_9, q7_10, q7_11, q7_12, q7_13, q7_14, q7_15, q7_16, q7_17⟩ := u7
              rw [← rc] at X7
              exact yend _ _ _ X7 (zc_ext_lo Z h (by omega) hl1 hl2 f4)
        · refine br_f (nI_nlt (b := 6) (by omega) (by omega)) ?_
          unfold wpY_extend
          refine hy _ (br_t (by decide) (br_f c1 (br_t c2 (zs_i rfl (show i < 62 by omega) (by decide) ?_))))
          rw [ce]
          exact br_t (by rw [show ex i = 6 from by omega]; rfl) ⟨rfl, zc_mk X4' Z⟩
      · refine br_f c1 (br_f c2 ?_)
        unfold wpY_extend
        exact hy _ (br_t (by decide) (br_f c1 (br_f c2 ⟨rfl, zc_mk X' Z⟩)))
end
section
/-! shrink -/
section
variable {nx cnt fr R : Nat} {kd pt nm ex fi le bu : Nat → Nat} {mk tn : Nat → Int32} {M : Nat → Nat → Option Int64} {u : SX}
/-- what lies below the last extent's bits -/
theorem zc_rec_lo2 {i n : Nat} (hi : i < 64) (hn : ex i = n + 1) (hin : ∀ k, zc_in ex fi le i k < 8192) (hn3 : n < 3) : zc_rec (zt_u ex i n) fi le i < 2 ^ (9 + 13 * n) := by
  have e : ∀ k, zc_in (zt_u ex i n) fi le i k < 8192 := fun k => by
    have := hin k
    unfold zc_in at this ⊢
    rw [zt_us]
    by_cases c : k < n
    · rw [if_pos c]; rw [if_pos (by omega)] at this; exact this
    · rw [if_neg c]; omega
  have b : ∀ k, n ≤ k → zc_in (zt_u ex i n) fi le i k = 0 := fun k hk => by unfold zc_in; rw [zt_us, if_neg (by omega)]
  have e0 := e 0
  have e1 := e 1
  unfold zc_rec
  rw [zt_us]
  have c : n = 0 ∨ n = 1 ∨ n = 2 := by omega
  rcases c with c | c | c
  · have := b 0 (by omega)
    have := b 1 (by omega)
    have := b 2 (by omega)
    subst c; omega
  · have := b 1 (by omega)
    have := b 2 (by omega)
    subst c; omega
  · have := b 2 (by omega)
    subst c; omega
theorem zc_shr_rest (Z : zc_Z M R nx cnt fr kd pt nm ex fi le bu) {i n : Nat} (hi : kd i = 1) (hn : ex i = n + 1) {M' : Nat → Nat → Option Int64} {R' : Nat} (hR : R' + (if 3 ≤ n then 1 else 0) = R) (hM0 : ∀ k, M' 0 k = zt_mu M 0 (512 * pt i + nm i + 1) (some (lN (zc_rec (zt_u ex i n) fi le i))) 0 k) (hM1 : ∀ k, M' 1 k = if 3 ≤ n ∧ k = 8 * i + n then none else M 1 k) :
    zc_Z M' R' nx cnt (fr + le (6 * i + n)) kd pt nm (zt_u ex i n) fi le (zt_fl bu (fi (6 * i + n)) (fi (6 * i + n) + le (6 * i + n)) 0) := by
  have Z0 := Z
  have ⟨zk, ze, m0, m1, c1, c2, c3⟩ := Z
  have ⟨hi2, hi61⟩ := zc_2le Z hi
  have ov := zc_ov_u (kd := kd) (ex := ex) (i := i) (n := n) hi (by omega)
  refine And.intro zk (And.intro (zc_E_shr ze hi (by omega) hn) (And.intro ?_ (And.intro ?_ ⟨c1, c2, ?_⟩)))
  · exact zc_M0_rec Z0 hi2 (by omega) (fun j hj hji => zc_rec_o hji (fun z hz => zt_un hz) (fun k hk => ⟨rfl, rfl⟩)) hM0
  · intro k v
    rw [hM1]
    have h6 := ze.2.1
    by_cases c : 3 ≤ n ∧ k = 8 * i + n
    · rw [if_pos c]
      constructor
      · intro h; exact nomatch h
      · intro ⟨j, q, a1, a2, a3, a4, a5⟩
        exfalso
        have h6i := h6 i hi
        by_cases ji : j = i
        · rw [ji, zt_us] at a3; omega
        · rw [zt_un ji] at a3
          have := h6 j a1
          omega
    · rw [if_neg c, m1 k v]
      constructor
      · intro ⟨j, q, a1, a2, a3, a4, a5⟩
        refine ⟨j, q, a1, a2, ?_, a4, a5⟩
        by_cases ji : j = i
        · rw [ji] at a3 a4 ⊢; rw [zt_us]; omega
        · rw [zt_un ji]; exact a3
      · intro ⟨j, q, a1, a2, a3, a4, a5⟩
        refine ⟨j, q, a1, a2, ?_, a4, a5⟩
        by_cases ji : j = i
        · rw [ji] at a3 ⊢; rw [zt_us] at a3; omega
        · rw [zt_un ji] at a3; exact a3
  · by_cases c : 3 ≤ n
    · rw [if_pos c] at hR; omega
    · rw [if_neg c] at hR; omega
end
theorem i_vc_shrink {k : Nat} {u : SX} {v : SY} (I : i_Rel k u v) (hk : k + 4 ≤ 2048) (v1 : Int32) : wpX_shrink (fun r u' => wpY_shrink (fun r' v' => r' = r ∧ i_Rel (k + 4) u' v') v v1) u v1 := by
  obtain ⟨M, R, nx, cnt, fr, kd, pt, nm, ex, fi, le, bu, mk, tn, X, rfl, Z⟩ := I
  obtain ⟨q1_0, q1_1, q1_2, q1_3, q1_4, q1_5, q1_6, q1_7, q1_8, q1_9, q1_10, q1_11, q1_12, q1_13, q1_14, q1_15, q1_16, q1_17⟩ := u
  unfold wpX_shrink
  rcases zc_file X Z v1 with ⟨r, ⟨r1, r2⟩, hx, hy⟩ | ⟨i, rfl, h, hx, hy⟩
  · refine hx _ (fun u' X' => ?_)
    obtain ⟨q2_0, q2_1, q2_2, q2_3, q2_4, q2_5, q2_6, q2_7, q2_8, q2_9, q2_10, q2_11, q2_12, q2_13, q2_14, q2_15, q2_16, q2_17⟩ := u'
    refine br_f r1 ?_
    unfold wpY_shrink
    exact hy _ (br_f r2 ⟨rfl, zc_mk X' Z⟩)
  · have hk0 : kd i ≠ 0 := by omega
    have ⟨hi2, hi61⟩ := zc_2le Z h
    have h6 := (zc_in_lt Z hk0 0).2
    have ce := zy_kd (kd := ex) (i := i) hi61
    have R97 := zc_97 Z
    have hin : i < 62 := by omega
    refine hx _ (fun u' X' => ?_)
    obtain ⟨q2_0, q2_1, q2_2, q2_3, q2_4, q2_5, q2_6, q2_7, q2_8, q2_9, q2_10, q2_11, q2_12, q2_13, q2_14, q2_15, q2_16, q2_17⟩ := u'
    refine br_t rfl (zc_thr_p X' Z hk0 (fun u3 X3 => ?_))
    obtain ⟨q3_0, q3_1, q3_2, q3_3, q3_4, q3_5, q3_6, q3_7, q3_8, q3_9, q3_10, q3_11, q3_12, q3_13, q3_14, q3_15, q3_16, q3_17⟩ := u3
    refine zc_recof X3 Z hi2 hk0 (fun u4 X4 => ?_)
    obtain ⟨q4_0, q4_1, q4_2, q4_3, q4_4, q4_5, q4_6, q4_7, q4_8, q4_9, q4_10, q4_11, q4_12, q4_13, q4_14, q4_15, q4_16, q4_17⟩ := u4
    refine zc_recn Z hk0 ?_
    by_cases c0 : ex i = 0
    · refine br_t (by rw [c0]; rfl) ?_
      unfold wpY_shrink
      refine hy _ (br_t (by decide) (zs_i rfl hin (by decide) ?_))
      rw [ce]
      exact br_t (by rw [c0]; rfl) ⟨rfl, zc_mk X4 Z⟩
    · obtain ⟨n, hn⟩ : ∃ n, ex i = n + 1 := ⟨ex i - 1, by omega⟩
      have en : nI (ex i) - 1 = nI n := by rw [hn, nI_pred]
      have ⟨a1, a2, a3, a4, a5, a6⟩ := zc_exd Z h (k := n) (by omega)
      have rc := zc_rec_shr (ex := ex) (fi := fi) (le := le) (i := i) (n := n) hn
      have yend : ∀ (M' : Nat → Nat → Option Int64) (R' : Nat) (u6 : SX), zx_X M' R' (nI (nx - 2)) (nI cnt) (nI (fr + le (6 * i + n))) (zn (zt_fl bu (fi (6 * i + n)) (fi (6 * i + n) + le (6 * i + n)) 0)) u6 → zc_Z M' R' nx cnt (fr + le (6 * i + n)) kd pt nm (zt_u ex i n) fi le (zt_fl bu (fi (6 * i + n)) (fi (6 * i + n) + le (6 * i + n)) 0) → wpY_shrink (fun r' v' => r' = nI (le (6 * i + n)) ∧ i_Rel (k + 4) u6 v') (nI nx, zn kd, zn pt, zn nm, zn ex, zn fi, zn le, mk, tn) (nI i) := fun M' R' u6 X6 Z6 => by
        unfold wpY_shrink
        refine hy _ (br_t (by decide) (zs_i rfl hin (by decide) (br_f (by rw [ce]; exact nI_ne0 (by omega) (by omega)) (zs_i rfl hin (by decide) (zs_w' (b := zn (zt_u ex i n)) rfl hin (by decide) (by rw [ce, en]; exact zn_u) (zs_i rfl hin (by decide) ?_))))))
        have e6 : (6 : Int32) * nI i + zn (zt_u ex i n) (nI i).toNatClampNeg = nI (6 * i + n) := by
          rw [nI_clamp (by omega)]; show (6 : Int32) * nI i + nI (zt_u ex i n i) = _; rw [zt_us, zs_6a]
        refine zs_i e6 (by omega) (by decide) ?_
        rw [zs_cn e6 (by omega)]
        exact ⟨rfl, zc_mk X6 Z6⟩
      refine br_f (nI_ne0 (by omega) (by omega)) ?_
      rw [en]
      refine zc_exof X4 Z h (by omega) (fun u5 X5 => ?_)
      obtain ⟨q5_0, q5_1, q5_2, q5_3, q5_4, q5_5, q5_6, q5_7, q5_8, q5_9, q5_10, q5_11, q5_12, q5_13, q5_14, q5_15, q5_16, q5_17⟩ := u5
      refine zc_markk X5 (a := fi (6 * i + n)) (l := le (6 * i + n)) (x2 := 0) (y2 := 0) (fb' := nI (fr + le (6 * i + n))) (bu' := zn (zt_fl bu (fi (6 * i + n)) (fi (6 * i + n) + le (6 * i + n)) 0)) rfl a6 (Or.inl ⟨rfl, rfl, (nI_add _ _).symm⟩) (zn_fl (v := 0)) (fun u6 X6 => ?_)
      obtain ⟨q6_0, q6_1, q6_2, q6_3, q6_4, q6_5, q6_6, q6_7, q6_8, q6_9, q6_10, q6_11, q6_12, q6_13, q6_14, q6_15, q6_16, q6_17⟩ := u6
      have fin : ∀ u7 : SX, ∀ (M' : Nat → Nat → Option Int64) (R' : Nat), zx_X M' R' (nI (nx - 2)) (nI cnt) (nI (fr + le (6 * i + n))) (zn (zt_fl bu (fi (6 * i + n)) (fi (6 * i + n) + le (6 * i + n)) 0)) u7 → M' 0 (512 * pt i + nm i + 1) ≠ none → R' ≤ 100 → (∀ v, zc_Z (zt_mu M' 0 (512 * pt i + nm i + 1) (some (lN (zc_rec (zt_u ex i n) fi le i)))) R' nx cnt (fr + le (6 * i + n)) kd pt nm (zt_u ex i n) fi le (zt_fl bu (fi (6 * i + n)) (fi (6 * i + n) + le (6 * i + n)) 0) ∨ v = 0) → match u7 with | (dp, pl, pa, sk, gv, pr, fb, rt, tk, lf, sz, ky, vl, ch, af, wn, ws, bu) => wX_shrink_113 (fun r u' => wpY_shrink (fun r' v' => r' = r ∧ i_Rel (k + 4) u' v') (nI nx, zn kd, zn pt, zn nm, zn ex, zn fi, zn le, mk, tn) (nI i)) (lN (zc_thd kd pt nm i)) (nI (fi (6 * i + n) + 128 * le (6 * i + n))) (lN (zc_rec (zt_u ex i n) fi le i)) dp pl pa sk gv pr fb rt tk lf sz ky vl ch af wn ws bu := fun u7 M' R' X7 hM hR hZ => by
        obtain ⟨q7_0, q7_1, q7_2, q7_3, q7_4, q7_5, q7_6, q7_7, q7_8, q7_9, q7_10, q7_11, q7_12, q7_13, q7_14, q7_15, q7_16, q7_17⟩ := u7
        refine zc_putrec Z hi2 hk0 X7 hM hR (fun u8 X8 => ?_)
        obtain ⟨q8_0, q8_1, q8_2, q8_3, q8_4, q8_5, q8_6, q8_7, q8_8, q8_9, q8_10, q8_11, q8_12, q8_13, q8_14, q8_15, q8_16, q8_17⟩ := u8
        unfold wpX_extentLength
        rw [zb_ln (by omega), a2]
        exact yend _ _ _ X8 ((hZ 1).resolve_right (by omega))
      by_cases c3 : 3 ≤ n
      · rw [if_neg (by omega), Nat.add_zero] at rc
        refine nm_r (e' := lN (zc_rec (zt_u ex i n) fi le i)) (by rw [← rc]; exact (lN_sub (b := 64) (by omega)).trans (congrArg lN (by omega))) ?_
        have e8 : (8 : Int32) * nI i + nI (ex i) - 1 = nI (8 * i + n) := by
          rw [show (8 : Int32) * nI i = nI (8 * i) from pk_mul 8 i, nI_add, hn, show 8 * i + (n + 1) = 8 * i + n + 1 from rfl, nI_pred]
        refine br_t (nI_lt (a := 3) (by omega) (by omega)) (zc_dropk X6 (t := 1) e8 (by omega) (by omega) (fun q => ?_) (fun _ R' u7 r1 X7 => ?_))
        · rw [zc_h1 Z h c3 (by omega)] at q; exact nomatch q
        · have F := fin u7 _ R' X7 (by rw [zt_mu_n (Or.inl (by omega)), zc_g2 Z hi2 hk0]; exact fun e => nomatch e) (by omega) (fun _ => Or.inl (zc_shr_rest Z h hn (by rw [if_pos c3]; exact r1) (fun q => ?_) (fun q => ?_)))
          · obtain ⟨q7_0, q7_1, q7_2, q7_3, q7_4, q7_5, q7_6, q7_7, q7_8, q7_9, q7_10, q7_11, q7_12, q7_13, q7_14, q7_15, q7_16, q7_17⟩ := u7
            exact F
          · by_cases c : q = 512 * pt i + nm i + 1
            · rw [c, zt_mu_s, zt_mu_s]
            · rw [zt_mu_n (Or.inr c), zt_mu_n (Or.inr c), zt_mu_n (Or.inl (by omega))]
          · rw [zt_mu_n (Or.inl (by omega))]
            by_cases c : q = 8 * i + n
            · rw [c, zt_mu_s, if_pos ⟨c3, rfl⟩]
            · rw [zt_mu_n (Or.inr c), if_neg (fun z => c z.2)]
      · rw [if_pos (by omega)] at rc
        refine nm_r (e' := lN (zc_rec (zt_u ex i n) fi le i + (fi (6 * i + n) + 128 * le (6 * i + n)) * 2 ^ (9 + 13 * n))) (by rw [← rc]; exact (lN_sub (b := 64) (by omega)).trans (congrArg lN (by omega))) ?_
        refine br_f (nI_nlt (a := 3) (by omega) (by decide)) ?_
        refine nm_r (e' := lN (zc_rec (zt_u ex i n) fi le i)) (zb_clr (by omega) (zc_rec_lo2 (by omega) hn (fun k => (zc_in_lt Z hk0 k).1) (by omega)) a3) ?_
        exact fin _ M R X6 (by rw [zc_g2 Z hi2 hk0]; exact fun e => nomatch e) (by omega) (fun _ => Or.inl (zc_shr_rest Z h hn (by rw [if_neg c3]; rfl) (fun q => rfl) (fun q => by rw [zt_mu_n (Or.inl (by omega)), if_neg (fun z => c3 z.1)])))
end
section
/-! make -/
theorem zc_E_c {kd ex kd' ex' fi le bu : Nat → Nat} {fr : Nat} (E : zc_E kd ex fi le bu fr) (h1 : ∀ i, kd' i = 2 → ex' i = 0) (h2 : ∀ i, kd' i = 1 → ex' i ≤ 6) (h3 : ∀ j k, zc_lv kd' ex' j k ↔ zc_lv kd ex j k) (h4 : ∀ i, i < 62 → zc_tot kd' ex' le i = zc_tot kd ex le i) : zc_E kd' ex' fi le bu fr := by
  have ⟨e1, e2, e3, e4, e5, e6, e7, e8⟩ := E
  refine And.intro h1 (And.intro h2 (And.intro (fun i k h => e3 i k ((h3 i k).mp h)) (And.intro e4 (And.intro (fun b hb => ?_) (And.intro (fun i k i' k' b a c d e => e6 i k i' k' b ((h3 i k).mp a) ((h3 i' k').mp c) d e) (And.intro e7 ?_))))))
  · rw [e5 b hb]
    exact ⟨fun ⟨i, k, a, c⟩ => ⟨i, k, (h3 i k).mpr a, c⟩, fun ⟨i, k, a, c⟩ => ⟨i, k, (h3 i k).mp a, c⟩⟩
  · rw [zt_sm_c h4]; exact e8
section
variable {nx cnt fr R : Nat} {kd pt nm ex fi le bu : Nat → Nat} {mk tn : Nat → Int32} {M : Nat → Nat → Option Int64} {u : SX}
theorem zc_make (Z : zc_Z M R nx cnt fr kd pt nm ex fi le bu) {p n q : Nat} (hp : kd p = 2) (hn : n < 256) (hq : q = 1 ∨ q = 2) (hno : ∀ i, 2 ≤ i → kd i ≠ 0 → pt i = p → nm i = n → False) (hc : cnt < 24) (hx : nx < 62) :
    zc_Z (zt_mu (zt_mu M 0 (512 * p + n + 1) (some (lN nx))) 0 (512 * nx) (some (lN ((if q = 2 then 1 else 0) + 2 * p + 256 * n)))) (R + 2) (nx + 1) (cnt + 1) fr (zt_u kd nx q) (zt_u pt nx p) (zt_u nm nx n) (zt_u ex nx 0) fi le bu := by
  have Z0 := Z
  have ⟨⟨k1, k2, k3, k4, k5, rk, k6⟩, ze, m0, m1, c1, c2, c3⟩ := Z
  have n0 : kd nx = 0 := by
    by_cases c : kd nx = 0
    · exact c
    · have := k3 nx c; omega
  have pn : p ≠ nx := fun z => by rw [z] at hp; omega
  have old : ∀ i, kd i ≠ 0 → i ≠ nx := fun i h z => h (z ▸ n0)
  have optn : ∀ i, 2 ≤ i → kd i ≠ 0 → pt i ≠ nx := fun i a b => old _ (by have := (k4 i a b).1; omega)
  have cs : ∀ i, zt_u kd nx q i ≠ 0 → i = nx ∨ (i ≠ nx ∧ kd i ≠ 0) := fun i h => by
    by_cases c : i = nx
    · exact Or.inl c
    · rw [zt_un c] at h; exact Or.inr ⟨c, h⟩
  refine And.intro ?_ (And.intro ?_ (And.intro ?_ (And.intro ?_ ?_)))
  · refine And.intro ⟨by omega, by omega⟩ (And.intro ?_ (And.intro ?_ (And.intro ?_ (And.intro ?_ ⟨zt_u rk nx (rk p + 1), ?_⟩))))
    · rw [zt_un (by omega), zt_un (by omega), zt_un (by omega)]; exact k2
    · intro i h
      rcases cs i h with c | ⟨c, d⟩
      · rw [c, zt_us]; omega
      · rw [zt_un c]; have := k3 i d; omega
    · intro i h2 h
      rcases cs i h with c | ⟨c, d⟩
      · rw [c, zt_us, zt_us, zt_un pn]; exact ⟨hp, hn⟩
      · rw [zt_un c, zt_un c, zt_un (optn i h2 d)]; exact k4 i h2 d
    · intro i j hi hj h h' e1 e2
      rcases cs i h with c | ⟨c, d⟩
      · rcases cs j h' with c' | ⟨c', d'⟩
        · rw [c, c']
        · rw [c, zt_us, zt_un c'] at e1 e2
          exact absurd (hno j hj d' e1.symm e2.symm) (fun z => z)
      · rcases cs j h' with c' | ⟨c', d'⟩
        · rw [c', zt_us, zt_un c] at e1 e2
          exact absurd (hno i hi d e1 e2) (fun z => z)
        · rw [zt_un c, zt_un c'] at e1 e2
          exact k5 i j hi hj d d' e1 e2
    · intro i h2 h
      rcases cs i h with c | ⟨c, d⟩
      · rw [c, zt_us, zt_us, zt_un pn]; omega
      · rw [zt_un c, zt_un c, zt_un (optn i h2 d)]; exact k6 i h2 d
  · have ⟨e1, e2, _⟩ := ze
    refine zc_E_c ze (fun i h => ?_) (fun i h => ?_) (fun j k => ?_) (fun i hi => ?_)
    · by_cases c : i = nx
      · rw [c, zt_us]
      · rw [zt_un c] at h ⊢; exact e1 i h
    · by_cases c : i = nx
      · rw [c, zt_us]; omega
      · rw [zt_un c] at h ⊢; exact e2 i h
    · unfold zc_lv
      by_cases c : j = nx
      · rw [c, zt_us, zt_us]; omega
      · rw [zt_un c, zt_un c]
    · unfold zc_tot
      by_cases c : i = nx
      · rw [c, zt_us, zt_us, if_neg (show ¬ kd nx = 1 by omega)]
        by_cases c2 : q = 1
        · rw [if_pos c2]; rfl
        · rw [if_neg c2]
      · rw [zt_un c, zt_un c]
  · intro k v
    have thn : zc_thd (zt_u kd nx q) (zt_u pt nx p) (zt_u nm nx n) nx = (if q = 2 then 1 else 0) + 2 * p + 256 * n := by unfold zc_thd; rw [zt_us, zt_us, zt_us]
    have tho : ∀ i, i ≠ nx → zc_thd (zt_u kd nx q) (zt_u pt nx p) (zt_u nm nx n) i = zc_thd kd pt nm i := fun i hi => by unfold zc_thd; rw [zt_un hi, zt_un hi, zt_un hi]
    have rcn : zc_rec (zt_u ex nx 0) fi le nx = nx := by
      have : ∀ j, zc_in (zt_u ex nx 0) fi le nx j = 0 := fun j => by unfold zc_in; rw [zt_us, if_neg (by omega)]
      unfold zc_rec; rw [this, this, this, zt_us]; omega
    have rco : ∀ i, i ≠ nx → zc_rec (zt_u ex nx 0) fi le i = zc_rec ex fi le i := fun i hi => zc_rec_o hi (fun z hz => zt_un hz) (fun _ _ => ⟨rfl, rfl⟩)
    have pp := zc_61 Z0 (i := p) (by omega)
    by_cases ck : k = 512 * nx
    · rw [ck, zt_mu_s]
      constructor
      · intro h
        exact Or.inl ⟨nx, by rw [zt_us]; omega, rfl, by rw [thn]; exact (Option.some.inj h).symm⟩
      · intro h
        rcases h with ⟨j, a1, a2, a3⟩ | ⟨j, a0, a1, a2, a3⟩
        · have : j = nx := by omega
          rw [this, thn] at a3
          rw [a3]
        · exfalso
          rcases cs j a1 with c | ⟨c, d⟩
          · rw [c, zt_us, zt_us] at a2; omega
          · rw [zt_un c, zt_un c] at a2
            have := (k4 j a0 d).2; omega
    · rw [zt_mu_n (Or.inr ck)]
      by_cases ck2 : k = 512 * p + n + 1
      · rw [ck2, zt_mu_s]
        constructor
        · intro h
          exact Or.inr ⟨nx, by omega, by rw [zt_us]; omega, by rw [zt_us, zt_us], by rw [rcn]; exact (Option.some.inj h).symm⟩
        · intro h
          rcases h with ⟨j, a1, a2, a3⟩ | ⟨j, a0, a1, a2, a3⟩
          · omega
          · rcases cs j a1 with c | ⟨c, d⟩
            · rw [c, rcn] at a3; rw [a3]
            · exfalso
              rw [zt_un c, zt_un c] at a2
              have := (k4 j a0 d).2
              exact hno j a0 d (by omega) (by omega)
      · rw [zt_mu_n (Or.inr ck2), m0 k v]
        constructor
        · intro h
          rcases h with ⟨j, a1, a2, a3⟩ | ⟨j, a0, a1, a2, a3⟩
          · have jn := old j a1
            exact Or.inl ⟨j, by rw [zt_un jn]; exact a1, a2, by rw [tho j jn]; exact a3⟩
          · have jn := old j a1
            exact Or.inr ⟨j, a0, by rw [zt_un jn]; exact a1, by rw [zt_un jn, zt_un jn]; exact a2, by rw [rco j jn]; exact a3⟩
        · intro h
          rcases h with ⟨j, a1, a2, a3⟩ | ⟨j, a0, a1, a2, a3⟩
          · rcases cs j a1 with c | ⟨c, d⟩
            · rw [c] at a2; exact absurd a2 ck
            · exact Or.inl ⟨j, d, a2, by rw [tho j c] at a3; exact a3⟩
          · rcases cs j a1 with c | ⟨c, d⟩
            · rw [c, zt_us, zt_us] at a2; exact absurd a2 ck2
            · rw [zt_un c, zt_un c] at a2
              exact Or.inr ⟨j, a0, d, a2, by rw [rco j c] at a3; exact a3⟩
  · intro k v
    rw [zt_mu_n (Or.inl (by omega)), zt_mu_n (Or.inl (by omega)), m1 k v]
    constructor
    · intro ⟨i, j, a1, a2, a3, a4, a5⟩
      have c := old i (by omega)
      exact ⟨i, j, by rw [zt_un c]; exact a1, a2, by rw [zt_un c]; exact a3, a4, a5⟩
    · intro ⟨i, j, a1, a2, a3, a4, a5⟩
      have c : i ≠ nx := fun z => by rw [z, zt_us] at a3; omega
      rw [zt_un c] at a1 a3
      exact ⟨i, j, a1, a2, a3, a4, a5⟩
  · have s1 := zt_sm_1 (g := fun i => if 2 ≤ i ∧ kd i ≠ 0 then 1 else 0) (g' := fun i => if 2 ≤ i ∧ zt_u kd nx q i ≠ 0 then 1 else 0) (a := nx) (n := 62) hx (fun j _ hj => by
      show (if 2 ≤ j ∧ zt_u kd nx q j ≠ 0 then 1 else 0) = (if 2 ≤ j ∧ kd j ≠ 0 then 1 else 0)
      rw [zt_un hj])
    rw [if_neg (fun z => z.2 n0), if_pos ⟨k1.1, by rw [zt_us]; omega⟩] at s1
    have s2 : zc_ov (zt_u kd nx q) (zt_u ex nx 0) = zc_ov kd ex := zt_sm_c (fun j _ => by
      show (if zt_u kd nx q j = 1 then zt_u ex nx 0 j - 3 else 0) = (if kd j = 1 then ex j - 3 else 0)
      by_cases c : j = nx
      · rw [c, zt_us, zt_us, n0]
        by_cases c2 : q = 1
        · rw [if_pos c2, if_neg (by omega)]
        · rw [if_neg c2, if_neg (by omega)]
      · rw [zt_un c, zt_un c])
    refine ⟨?_, by omega, by omega⟩
    show cnt + 1 = zc_cn (zt_u kd nx q)
    unfold zc_cn at c1 ⊢
    omega
end
theorem i_vc_make {k : Nat} {u : SX} {v : SY} (I : i_Rel k u v) (hk : k + 4 ≤ 2048) (v1 : Int32) (v2 : Int32) (v3 : Int32) : wpX_make (fun r u' => wpY_make (fun r' v' => r' = r ∧ i_Rel (k + 4) u' v') v v1 v2 (lw_bz v3)) u v1 v2 (lw_bz v3) := by
  obtain ⟨M, R, nx, cnt, fr, kd, pt, nm, ex, fi, le, bu, mk, tn, X, rfl, Z⟩ := I
  obtain ⟨q1_0, q1_1, q1_2, q1_3, q1_4, q1_5, q1_6, q1_7, q1_8, q1_9, q1_10, q1_11, q1_12, q1_13, q1_14, q1_15, q1_16, q1_17⟩ := u
  have hb3 := lw_bz_01 v3
  generalize lw_bz v3 = bz at hb3 ⊢
  unfold wpX_make
  rcases zc_folder X Z v1 with ⟨r, ⟨r1, r2⟩, hx, hy⟩ | ⟨p, rfl, h, hx, hy⟩
  · refine hx _ (fun u' X' => ?_)
    obtain ⟨q2_0, q2_1, q2_2, q2_3, q2_4, q2_5, q2_6, q2_7, q2_8, q2_9, q2_10, q2_11, q2_12, q2_13, q2_14, q2_15, q2_16, q2_17⟩ := u'
    refine br_f r1 ?_
    unfold wpY_make
    exact hy _ (br_f r2 ⟨rfl, zc_mk X' Z⟩)
  · have ⟨p1, p2, p3⟩ := zc_61 Z (i := p) (by omega)
    have R97 := zc_97 Z
    have ⟨c1, c2, c3⟩ := Z.2.2.2.2
    have nxr := Z.1.1
    refine hx _ (fun u' X' => ?_)
    obtain ⟨q2_0, q2_1, q2_2, q2_3, q2_4, q2_5, q2_6, q2_7, q2_8, q2_9, q2_10, q2_11, q2_12, q2_13, q2_14, q2_15, q2_16, q2_17⟩ := u'
    refine br_t rfl ?_
    rcases zc_name v2 with ⟨h2, hb⟩ | ⟨n, hn, rfl, h2, h3, hb⟩
    · have go : wpY_make (fun r' v' => r' = -3 ∧ i_Rel (k + 4) (q2_0, q2_1, q2_2, q2_3, q2_4, q2_5, q2_6, q2_7, q2_8, q2_9, q2_10, q2_11, q2_12, q2_13, q2_14, q2_15, q2_16, q2_17) v') (nI nx, zn kd, zn pt, zn nm, zn ex, zn fi, zn le, mk, tn) (nI p) v2 bz := by
        unfold wpY_make
        exact hy _ (br_t (by decide) (hb _ (br_f (by decide) ⟨rfl, zc_mk X' Z⟩)))
      rcases h2 with h2 | ⟨h2, h3⟩
      · exact br_t h2 go
      · exact br_f h2 (br_f h3 go)
    · refine br_f h2 (br_t h3 ?_)
      obtain ⟨j, j1, j2⟩ := zy_look (mk := mk) (tn := tn) Z (p := p) (n := n) (by omega) (by omega)
      unfold wpX_itemKey
      refine zc_getk X' (t := 0) (zc_key p n) (by omega) (by omega) (fun hM u3 X3 => ?_) (fun v hv dp sk wn ws Rt T L S K C A lv tr lo hi V x i N x8 i5 e => ?_)
      · have nomatch1 : ∀ i, 2 ≤ i → kd i ≠ 0 → pt i = p → nm i = n → False := fun i a b c d => by
          have := zc_g2 Z a b
          rw [c, d, hM] at this; exact nomatch this
        have j0 : j = 0 := by
          rcases j1 with ⟨a, b⟩ | ⟨a, b, c, d⟩
          · exact a
          · exact absurd (nomatch1 j a b c d) (fun z => z)
        obtain ⟨dp, pl, pa, sk, wn, ws, Rt, T, L, S, K, C, A, lv, tr, lo, hi, V, rfl, N⟩ := X3
        have yno : ∀ u', zx_X M R (nI (nx - 2)) (nI cnt) (nI fr) (zn bu) u' → (cnt = 24 ∨ nx = 62) → wpY_make (fun r' v' => r' = -5 ∧ i_Rel (k + 4) u' v') (nI nx, zn kd, zn pt, zn nm, zn ex, zn fi, zn le, mk, tn) (nI p) (nI n) bz := fun u' X' hc => by
          unfold wpY_make
          refine hy _ (br_t (by decide) (hb _ (br_t rfl (j2 _ ?_))))
          rw [j0]
          refine br_t (by decide) (zy_items (fun i => zc_kd2 Z i) ?_)
          rw [← c1]
          rcases hc with hc | hc
          · exact br_t (by rw [hc]; rfl) ⟨rfl, zc_mk X' Z⟩
          · exact br_c (fun _ => ⟨rfl, zc_mk X' Z⟩) (fun _ => br_t (by rw [hc]; rfl) ⟨rfl, zc_mk X' Z⟩)
        refine br_t rfl ?_
        by_cases h24 : 24 ≤ cnt
        · exact br_t (nI_le (a := 24) h24 (by omega)) (yno _ (zx_Xi N) (Or.inl (by omega)))
        · refine br_f (nI_ge (b := 24) (by omega) (by decide)) ?_
          by_cases h60 : nx - 2 < 60
          · refine br_t (nI_lt (b := 60) h60 (by decide)) (nm_r (e' := nI (nx + 1 - 2)) (by rw [nI_1, show nx - 2 + 1 = nx + 1 - 2 from by omega]) (nm_r (nI_1 cnt) (nm_r (e' := nI nx) (by rw [nI_1, show nx + 1 - 2 + 1 = nx from by omega]) ?_)))
            have nn : kd nx = 0 := by
              by_cases c : kd nx = 0
              · exact c
              · have := Z.1.2.2.1 nx c; omega
            have t0 := zc_g0 Z nn
            refine zc_putk (zx_Xi N) (t := 0) (zc_key p n) (nI_l (by omega)) (by omega) (by omega) (by omega) (fun _ u4 X4 => ?_) (fun q => absurd hM q)
            obtain ⟨q4_0, q4_1, q4_2, q4_3, q4_4, q4_5, q4_6, q4_7, q4_8, q4_9, q4_10, q4_11, q4_12, q4_13, q4_14, q4_15, q4_16, q4_17⟩ := u4
            have yok : ∀ q, (q = 1 ∧ bz = 0) ∨ (q = 2 ∧ bz = 1) → ∀ u5, zx_X (zt_mu (zt_mu M 0 (512 * p + n + 1) (some (lN nx))) 0 (512 * nx) (some (lN ((if q = 2 then 1 else 0) + 2 * p + 256 * n)))) (R + 1 + 1) (nI (nx + 1 - 2)) (nI (cnt + 1)) (nI fr) (zn bu) u5 → wpY_make (fun r' v' => r' = nI nx ∧ i_Rel (k + 4) u5 v') (nI nx, zn kd, zn pt, zn nm, zn ex, zn fi, zn le, mk, tn) (nI p) (nI n) bz := fun q hq u5 X5 => by
              have Z5 := zc_make Z (p := p) (n := n) (q := q) h hn (by omega) nomatch1 (by omega) (by omega)
              have cl := zs_cn (x := nI nx) (n := nx) rfl (by omega)
              have fin : ∀ z0 : Int32, z0 = nI q → wY_make_75 (fun r' v' => r' = nI nx ∧ i_Rel (k + 4) u5 v') (nI p) (nI n) z0 (nI nx) (nI nx) (zn kd) (zn pt) (zn nm) (zn ex) (zn fi) (zn le) mk tn := fun z0 hz => by
                refine zs_w' rfl (show nx < 62 by omega) (by decide) (by rw [hz]; exact zn_u) (zs_w' rfl (show nx < 62 by omega) (by decide) zn_u (zs_w' rfl (show nx < 62 by omega) (by decide) zn_u (zs_w' rfl (show nx < 62 by omega) (by decide) zn_u0 (nm_r (nI_1 nx) ⟨nI_pred nx, zc_mk X5 Z5⟩))))
              unfold wpY_make
              refine hy _ (br_t (by decide) (hb _ (br_t rfl (j2 _ ?_))))
              rw [j0]
              refine br_t (by decide) (zy_items (fun i => zc_kd2 Z i) ?_)
              rw [← c1]
              refine br_f (fun z => by
                have := (nI_eq (b := 24) (by omega) (by omega)).mp z
                omega) (br_f (fun z => by
                have := (nI_eq (b := 62) (by omega) (by omega)).mp z
                omega) ?_)
              rcases hq with ⟨a, b⟩ | ⟨a, b⟩
              · exact br_t b (fin 1 (by rw [a]; rfl))
              · exact br_f (by rw [b]; decide) (fin 2 (by rw [a]; rfl))
            have put2 : ∀ q, (q = 1 ∧ bz = 0) ∨ (q = 2 ∧ bz = 1) → ∀ vx : Int64, vx = lN ((if q = 2 then 1 else 0) + 2 * p + 256 * n) → wpX_putRecord (fun u => match u with
                | (dp, pl, pa, sk, gv, pr, fb, rt, tk, lf, sz, ky, vl, ch, af, wn, ws, bu) => (fun r u' => wpY_make (fun r' v' => r' = r ∧ i_Rel (k + 4) u' v') (nI nx, zn kd, zn pt, zn nm, zn ex, zn fi, zn le, mk, tn) (nI p) (nI n) bz) (nI nx) (dp, pl, pa, sk, gv, pr, fb, rt, tk, lf, sz, ky, vl, ch, af, wn, ws, bu)) (q4_0, q4_1, q4_2, q4_3, q4_4, q4_5, q4_6, q4_7, q4_8, q4_9, q4_10, q4_11, q4_12, q4_13, q4_14, q4_15, q4_16, q4_17) 0 (512 * nI nx) vx := fun q hq vx hv => by
              refine zc_putk X4 (t := 0) (zs_512 nx) hv (by omega) (by omega) (by omega) (fun _ u5 X5 => ?_) (fun z => ?_)
              · have := yok q hq u5 X5
                obtain ⟨q5_0, q5_1, q5_2, q5_3, q5_4, q5_5, q5_6, q5_7, q5_8, q5_9, q5_10, q5_11, q5_12, q5_13, q5_14, q5_15, q5_16, q5_17⟩ := u5
                exact this
              · rw [zt_mu_n (Or.inr (by omega))] at z; exact absurd t0 z
            unfold wpX_threadKey wpX_packThread wX_packThread_9
            rcases hb3 with hb3 | hb3
            · exact br_t hb3 (put2 1 (Or.inl ⟨rfl, hb3⟩) _ (zb_pack (z := 0) (by omega) (by omega)))
            · exact br_f (by rw [hb3]; decide) (put2 2 (Or.inr ⟨rfl, hb3⟩) _ (zb_pack (z := 1) (by omega) (by omega)))
          · exact br_f (nI_nlt (b := 60) (by omega) (by omega)) (yno _ (zx_Xi N) (Or.inr (by omega)))
      · refine br_f (by decide) ?_
        unfold wpY_make
        refine hy _ (br_t (by decide) (hb _ (br_t rfl (j2 _ ?_))))
        obtain ⟨i', a1, a2, a3, a4, a5⟩ := zc_g3 Z (by omega) hv
        rcases j1 with ⟨a, b⟩ | ⟨a, b, c, d⟩
        · exact absurd (b i' a1 a2 a3 a4) (fun z => z)
        · have := zc_61 Z b
          exact br_f (nI_ge (a := 0) (by omega) (by omega)) ⟨rfl, zc_mk (zx_Xi N) Z⟩
end
section
/-! erase, remove -/
theorem zt_uu {α : Type} {f : Nat → α} {a : Nat} {v w : α} : zt_u (zt_u f a v) a w = zt_u f a w := by
  funext j
  by_cases c : j = a
  · rw [c, zt_us, zt_us]
  · rw [zt_un c, zt_un c, zt_un c]
theorem zt_uself {α : Type} {f : Nat → α} {a : Nat} : zt_u f a (f a) = f := by
  funext j
  by_cases c : j = a
  · rw [c, zt_us]
  · rw [zt_un c]
section
variable {nx cnt fr R : Nat} {kd pt nm ex fi le bu : Nat → Nat} {mk tn : Nat → Int32} {M : Nat → Nat → Option Int64} {u : SX}
/-- the end of erase, pure -/
theorem zc_gone (Z : zc_Z M R nx cnt fr kd pt nm ex fi le bu) {i fr' R' R'' : Nat} {bu' : Nat → Nat} {M' : Nat → Nat → Option Int64} (h2 : 2 ≤ i) (h : kd i ≠ 0) (hno : ∀ j, zc_chd kd pt i j → False) (E : zc_E kd (zt_u ex i 0) fi le bu' fr') (hM0 : ∀ k, M' 0 k = M 0 k) (hM1 : zc_M1 M' kd (zt_u ex i 0) fi le) (hR : R' = 2 * cnt + 1 + zc_ov kd (zt_u ex i 0)) (hR2 : R'' + 2 = R') :
    zc_Z (zt_mu (zt_mu M' 0 (512 * pt i + nm i + 1) none) 0 (512 * i) none) R'' nx (cnt - 1) fr' (zt_u kd i 0) pt nm ex fi le bu' := by
  have Z0 := Z
  have ⟨⟨k1, k2, k3, k4, k5, rk, k6⟩, ze, m0, m1, c1, c2, c3⟩ := Z
  have i61 := zc_61 Z h
  have pti := zc_pt Z h
  have cs : ∀ j, zt_u kd i 0 j ≠ 0 → j ≠ i ∧ kd j ≠ 0 := fun j hj => by
    by_cases c : j = i
    · rw [c, zt_us] at hj; exact absurd rfl hj
    · rw [zt_un c] at hj; exact ⟨c, hj⟩
  refine And.intro ?_ (And.intro ?_ (And.intro ?_ (And.intro ?_ ?_)))
  · refine And.intro k1 (And.intro ?_ (And.intro ?_ (And.intro ?_ (And.intro ?_ ⟨rk, ?_⟩))))
    · rw [zt_un (by omega)]; exact k2
    · intro j hj
      have ⟨a, b⟩ := cs j hj
      rw [zt_un a]; exact k3 j b
    · intro j j2 hj
      have ⟨a, b⟩ := cs j hj
      rw [zt_un (fun z => hno j ⟨j2, b, z⟩)]; exact k4 j j2 b
    · intro j j' a b c d e f
      exact k5 j j' a b (cs j c).2 (cs j' d).2 e f
    · intro j j2 hj
      exact k6 j j2 (cs j hj).2
  · have ⟨e1, e2, _⟩ := E
    refine zc_E_c E (fun j hj => ?_) (fun j hj => ?_) (fun j k => ?_) (fun j hj => ?_)
    · have ⟨a, b⟩ := cs j (by omega)
      rw [zt_un a] at hj
      have := e1 j hj
      rw [zt_un a] at this; exact this
    · have ⟨a, b⟩ := cs j (by omega)
      rw [zt_un a] at hj
      have := e2 j hj
      rw [zt_un a] at this; exact this
    · unfold zc_lv
      by_cases c : j = i
      · rw [c, zt_us, zt_us]; omega
      · rw [zt_un c, zt_un c]
    · unfold zc_tot
      by_cases c : j = i
      · rw [c, zt_us, zt_us, if_neg (by omega)]
        by_cases c2 : kd i = 1
        · rw [if_pos c2]; rfl
        · rw [if_neg c2]
      · rw [zt_un c, zt_un c]
  · intro k v
    have tho : ∀ j, j ≠ i → zc_thd (zt_u kd i 0) pt nm j = zc_thd kd pt nm j := fun j hj => by unfold zc_thd; rw [zt_un hj]
    by_cases ck : k = 512 * i
    · rw [ck, zt_mu_s]
      constructor
      · intro hv; exact nomatch hv
      · intro hv
        exfalso
        rcases hv with ⟨j, a1, a2, a3⟩ | ⟨j, a0, a1, a2, a3⟩
        · have ⟨a, b⟩ := cs j a1; omega
        · have ⟨a, b⟩ := cs j a1
          have := (k4 j a0 b).2; omega
    · rw [zt_mu_n (Or.inr ck)]
      by_cases ck2 : k = 512 * pt i + nm i + 1
      · rw [ck2, zt_mu_s]
        constructor
        · intro hv; exact nomatch hv
        · intro hv
          exfalso
          rcases hv with ⟨j, a1, a2, a3⟩ | ⟨j, a0, a1, a2, a3⟩
          · omega
          · have ⟨a, b⟩ := cs j a1
            have := (k4 j a0 b).2
            exact a (k5 j i a0 h2 b h (by omega) (by omega))
      · rw [zt_mu_n (Or.inr ck2), hM0, m0 k v]
        constructor
        · intro hv
          rcases hv with ⟨j, a1, a2, a3⟩ | ⟨j, a0, a1, a2, a3⟩
          · have ji : j ≠ i := fun z => ck (by rw [← z]; exact a2)
            exact Or.inl ⟨j, by rw [zt_un ji]; exact a1, a2, by rw [tho j ji]; exact a3⟩
          · have ji : j ≠ i := fun z => ck2 (by rw [← z]; exact a2)
            exact Or.inr ⟨j, a0, by rw [zt_un ji]; exact a1, a2, a3⟩
        · intro hv
          rcases hv with ⟨j, a1, a2, a3⟩ | ⟨j, a0, a1, a2, a3⟩
          · have ⟨a, b⟩ := cs j a1
            exact Or.inl ⟨j, b, a2, by rw [tho j a] at a3; exact a3⟩
          · have ⟨a, b⟩ := cs j a1
            exact Or.inr ⟨j, a0, b, a2, a3⟩
  · intro k v
    rw [zt_mu_n (Or.inl (by omega)), zt_mu_n (Or.inl (by omega)), hM1 k v]
    constructor
    · intro ⟨j, q, a1, a2, a3, a4, a5⟩
      have c : j ≠ i := fun z => by rw [z, zt_us] at a3; omega
      rw [zt_un c] at a3
      exact ⟨j, q, by rw [zt_un c]; exact a1, a2, a3, a4, a5⟩
    · intro ⟨j, q, a1, a2, a3, a4, a5⟩
      have ⟨a, b⟩ := cs j (by omega)
      rw [zt_un a] at a1
      exact ⟨j, q, a1, a2, by rw [zt_un a]; exact a3, a4, a5⟩
  · have s1 := zt_sm_1 (g := fun j => if 2 ≤ j ∧ kd j ≠ 0 then 1 else 0) (g' := fun j => if 2 ≤ j ∧ zt_u kd i 0 j ≠ 0 then 1 else 0) (a := i) (n := 62) (by omega) (fun j _ hj => by
      show (if 2 ≤ j ∧ zt_u kd i 0 j ≠ 0 then 1 else 0) = (if 2 ≤ j ∧ kd j ≠ 0 then 1 else 0)
      rw [zt_un hj])
    rw [if_pos ⟨h2, h⟩, if_neg (fun z => z.2 zt_us)] at s1
    have s2 : zc_ov (zt_u kd i 0) ex = zc_ov kd (zt_u ex i 0) := zt_sm_c (fun j _ => by
      show (if zt_u kd i 0 j = 1 then ex j - 3 else 0) = (if kd j = 1 then zt_u ex i 0 j - 3 else 0)
      by_cases c : j = i
      · rw [c, zt_us, zt_us, if_neg (by omega)]
        by_cases c2 : kd i = 1
        · rw [if_pos c2]
        · rw [if_neg c2]
      · rw [zt_un c, zt_un c])
    have e : zc_cn (zt_u kd i 0) + 1 = zc_cn kd := by
      unfold zc_cn; omega
    exact ⟨by omega, by omega, by omega⟩
theorem zc_erase_l (Z : zc_Z M R nx cnt fr kd pt nm ex fi le bu) {i : Nat} (h2 : 2 ≤ i) (h : kd i ≠ 0) (hno : ∀ j, zc_chd kd pt i j → False) {post : SX → Prop} (hp : ∀ M' R' fr' bu' u', zx_X M' R' (nI (nx - 2)) (nI (cnt - 1)) (nI fr') (zn bu') u' → zc_Z M' R' nx (cnt - 1) fr' (zt_u kd i 0) pt nm ex fi le bu' → post u') :
    ∀ q m (M' : Nat → Nat → Option Int64) (R' fr' : Nat) (bu' : Nat → Nat) (u : SX), q ≤ ex i → zx_X M' R' (nI (nx - 2)) (nI cnt) (nI fr') (zn bu') u → zc_E kd (zt_u ex i q) fi le bu' fr' → (∀ k, M' 0 k = M 0 k) → zc_M1 M' kd (zt_u ex i q) fi le → R' = 2 * cnt + 1 + zc_ov kd (zt_u ex i q) → q < m →
      match u with | (dp, pl, pa, sk, gv, pr, fb, rt, tk, lf, sz, ky, vl, ch, af, wn, ws, bu) => wX_erase_20 post (nI i) (lN (zc_thd kd pt nm i)) (lN (zc_rec ex fi le i)) m (nI q - 1) dp pl pa sk gv pr fb rt tk lf sz ky vl ch af wn ws bu := by
  have i61 := zc_61 Z h
  have pti := zc_pt Z h
  have h6 := (zc_in_lt Z h 0).2
  have ⟨c1, c2, c3⟩ := Z.2.2.2.2
  have cpos : 1 ≤ cnt := by
    have := zt_sm_ge (g := fun j => if 2 ≤ j ∧ kd j ≠ 0 then 1 else 0) (a := i) (n := 62) (by omega)
    rw [if_pos ⟨h2, h⟩] at this
    unfold zc_cn at c1
    omega
  intro q
  induction q with
  | zero =>
    intro m M' R' fr' bu' u hq X E hM0 hM1 hR hm
    obtain ⟨m, rfl⟩ : ∃ k, m = k + 1 := ⟨m - 1, by omega⟩
    obtain ⟨q1_0, q1_1, q1_2, q1_3, q1_4, q1_5, q1_6, q1_7, q1_8, q1_9, q1_10, q1_11, q1_12, q1_13, q1_14, q1_15, q1_16, q1_17⟩ := u
    refine br_t (by decide) (zc_kot Z h (zc_drop X (t := 0) (by omega) (by omega) (fun z => ?_) (fun _ R1 u1 r1 X1 => ?_)))
    · rw [hM0, zc_g2 Z h2 h] at z; exact nomatch z
    · obtain ⟨q2_0, q2_1, q2_2, q2_3, q2_4, q2_5, q2_6, q2_7, q2_8, q2_9, q2_10, q2_11, q2_12, q2_13, q2_14, q2_15, q2_16, q2_17⟩ := u1
      unfold wpX_threadKey
      refine zc_dropk X1 (t := 0) (zs_512 i) (by omega) (by omega) (fun z => ?_) (fun _ R2 u2 r2 X2 => ?_)
      · rw [zt_mu_n (Or.inr (by omega)), hM0, zc_g1 Z h] at z; exact nomatch z
      · obtain ⟨dp, pl, pa, sk, wn, ws, Rt, T, L, S, K, C, A, lv, tr, lo, hi, V, rfl, N⟩ := X2
        exact nm_r (zs_s1 cpos) (hp _ R2 fr' bu' _ (zx_Xi N) (zc_gone Z h2 h hno E hM0 hM1 hR (by omega)))
  | succ q ih =>
    intro m M' R' fr' bu' u hq X E hM0 hM1 hR hm
    obtain ⟨m, rfl⟩ : ∃ k, m = k + 1 := ⟨m - 1, by omega⟩
    obtain ⟨q1_0, q1_1, q1_2, q1_3, q1_4, q1_5, q1_6, q1_7, q1_8, q1_9, q1_10, q1_11, q1_12, q1_13, q1_14, q1_15, q1_16, q1_17⟩ := u
    have k1 : kd i = 1 := by
      rcases i61.2.2 with c | c
      · exact c
      · have := Z.2.1.1 i c; omega
    have ⟨a1, a2, a3, a4, a5, a6⟩ := zc_exd Z k1 (k := q) (by omega)
    have ⟨d1, d2, d3, d4, d5, d6⟩ := zc_rec_d Z h
    have E' := zc_E_shr E k1 (by omega) (n := q) zt_us
    rw [zt_uu] at E'
    have ovq := zc_ov_u (kd := kd) (ex := ex) (i := i) (n := q + 1) k1 (by omega)
    have ovq' := zc_ov_u (kd := kd) (ex := ex) (i := i) (n := q) k1 (by omega)
    rw [nI_pred]
    refine br_f (nI_pos (by omega)) ?_
    have after : ∀ u1, zx_X M' R' (nI (nx - 2)) (nI cnt) (nI fr') (zn bu') u1 → match u1 with
        | (dp, pl, pa, sk, gv, pr, fb, rt, tk, lf, sz, ky, vl, ch, af, wn, ws, bu) => wpX_mark (fun u => match u with
          | (dp, pl, pa, sk, gv, pr, fb, rt, tk, lf, sz, ky, vl, ch, af, wn, ws, bu) => (((nI q < 3 → (∀ x7_103 : Int32, x7_103 = nI q + (-1) → (wX_erase_20 post (nI i) (lN (zc_thd kd pt nm i)) (lN (zc_rec ex fi le i)) m x7_103 dp pl pa sk gv pr fb rt tk lf sz ky vl ch af wn ws bu))) ∧ (¬ nI q < 3 → (wpX_dropRecord (fun u => match u with
            | (dp, pl, pa, sk, gv, pr, fb, rt, tk, lf, sz, ky, vl, ch, af, wn, ws, bu) => (∀ x7_123 : Int32, x7_123 = nI q + (-1) → (wX_erase_20 post (nI i) (lN (zc_thd kd pt nm i)) (lN (zc_rec ex fi le i)) m x7_123 dp pl pa sk gv pr fb rt tk lf sz ky vl ch af wn ws bu))) (dp, pl, pa, sk, gv, pr, fb, rt, tk, lf, sz, ky, vl, ch, af, wn, ws, bu) 1 ((8 * nI i) + nI q)))))) (dp, pl, pa, sk, gv, pr, fb, rt, tk, lf, sz, ky, vl, ch, af, wn, ws, bu) (nI (fi (6 * i + q) + 128 * le (6 * i + q))) 0 := fun u1 X1 => by
      obtain ⟨q2_0, q2_1, q2_2, q2_3, q2_4, q2_5, q2_6, q2_7, q2_8, q2_9, q2_10, q2_11, q2_12, q2_13, q2_14, q2_15, q2_16, q2_17⟩ := u1
      refine zc_markk X1 (a := fi (6 * i + q)) (l := le (6 * i + q)) (x2 := 0) (y2 := 0) (fb' := nI (fr' + le (6 * i + q))) (bu' := zn (zt_fl bu' (fi (6 * i + q)) (fi (6 * i + q) + le (6 * i + q)) 0)) rfl a6 (Or.inl ⟨rfl, rfl, (nI_add _ _).symm⟩) (zn_fl (v := 0)) (fun u6 X6 => ?_)
      obtain ⟨q3_0, q3_1, q3_2, q3_3, q3_4, q3_5, q3_6, q3_7, q3_8, q3_9, q3_10, q3_11, q3_12, q3_13, q3_14, q3_15, q3_16, q3_17⟩ := u6
      have em : nI q + (-1) = nI q - 1 := (Int32.sub_eq_add_neg _ _).symm
      by_cases c : q < 3
      · refine br_t (nI_lt (b := 3) c (by decide)) (nm_r em ?_)
        refine ih m M' R' _ _ _ (by omega) X6 E' hM0 ?_ (by omega) (by omega)
        intro k v
        rw [hM1 k v]
        constructor
        · intro ⟨j, w, b1, b2, b3, b4, b5⟩
          have ji : j ≠ i := fun z => by rw [z, zt_us] at b3; omega
          rw [zt_un ji] at b3
          exact ⟨j, w, b1, b2, by rw [zt_un ji]; exact b3, b4, b5⟩
        · intro ⟨j, w, b1, b2, b3, b4, b5⟩
          have ji : j ≠ i := fun z => by rw [z, zt_us] at b3; omega
          rw [zt_un ji] at b3
          exact ⟨j, w, b1, b2, by rw [zt_un ji]; exact b3, b4, b5⟩
      · have e8 : (8 : Int32) * nI i + nI q = nI (8 * i + q) := by rw [show (8 : Int32) * nI i = nI (8 * i) from pk_mul 8 i, nI_add]
        have hv : M' 1 (8 * i + q) = some (lN (fi (6 * i + q) + 128 * le (6 * i + q))) := (hM1 _ _).mpr ⟨i, q, k1, by omega, by rw [zt_us]; omega, rfl, rfl⟩
        refine br_f (nI_nlt (b := 3) (by omega) (by omega)) (zc_dropk X6 (t := 1) e8 (by omega) (by omega) (fun z => ?_) (fun _ R1 u7 r1 X7 => ?_))
        · rw [hv] at z; exact nomatch z
        · have go := ih m _ R1 _ _ u7 (by omega) X7 E' (fun k => by rw [zt_mu_n (Or.inl (by omega))]; exact hM0 k) (by
            intro k v
            have six : ∀ j, kd j = 1 → zt_u ex i (q + 1) j ≤ 6 := fun j hj => by
              by_cases c : j = i
              · rw [c, zt_us]; omega
              · rw [zt_un c]; exact Z.2.1.2.1 j hj
            by_cases ck : k = 8 * i + q
            · rw [ck, zt_mu_s]
              constructor
              · intro z; exact nomatch z
              · intro ⟨j, w, b1, b2, b3, b4, b5⟩
                exfalso
                by_cases ji : j = i
                · rw [ji, zt_us] at b3; omega
                · have s6 := six j b1
                  rw [zt_un ji] at b3 s6; omega
            · rw [zt_mu_n (Or.inr ck), hM1 k v]
              constructor
              · intro ⟨j, w, b1, b2, b3, b4, b5⟩
                refine ⟨j, w, b1, b2, ?_, b4, b5⟩
                by_cases ji : j = i
                · rw [ji] at b3 b4 ⊢; rw [zt_us] at b3 ⊢; omega
                · rw [zt_un ji] at b3 ⊢; exact b3
              · intro ⟨j, w, b1, b2, b3, b4, b5⟩
                refine ⟨j, w, b1, b2, ?_, b4, b5⟩
                by_cases ji : j = i
                · rw [ji] at b3 ⊢; rw [zt_us] at b3 ⊢; omega
                · rw [zt_un ji] at b3 ⊢; exact b3) (by omega) (by omega)
          obtain ⟨q4_0, q4_1, q4_2, q4_3, q4_4, q4_5, q4_6, q4_7, q4_8, q4_9, q4_10, q4_11, q4_12, q4_13, q4_14, q4_15, q4_16, q4_17⟩ := u7
          exact nm_r em go
    by_cases c : q < 3
    · refine zc_exg_lo X d6 c (zc_inx Z k1 (by omega) c) (fun u1 X1 => ?_)
      have go := after u1 X1
      obtain ⟨q2_0, q2_1, q2_2, q2_3, q2_4, q2_5, q2_6, q2_7, q2_8, q2_9, q2_10, q2_11, q2_12, q2_13, q2_14, q2_15, q2_16, q2_17⟩ := u1
      exact go
    · have hv : M' 1 (8 * i + q) = some (lN (fi (6 * i + q) + 128 * le (6 * i + q))) := (hM1 _ _).mpr ⟨i, q, k1, by omega, by rw [zt_us]; omega, rfl, rfl⟩
      refine zc_exg_hi X d1 (by omega) (by omega) hv (fun u1 X1 => ?_)
      have go := after u1 X1
      obtain ⟨q2_0, q2_1, q2_2, q2_3, q2_4, q2_5, q2_6, q2_7, q2_8, q2_9, q2_10, q2_11, q2_12, q2_13, q2_14, q2_15, q2_16, q2_17⟩ := u1
      exact go
theorem zc_erase (X : zx_X M R (nI (nx - 2)) (nI cnt) (nI fr) (zn bu) u) (Z : zc_Z M R nx cnt fr kd pt nm ex fi le bu) {i : Nat} (h2 : 2 ≤ i) (h : kd i ≠ 0) (hno : ∀ j, zc_chd kd pt i j → False) {post : SX → Prop} (hp : ∀ M' R' fr' bu' u', zx_X M' R' (nI (nx - 2)) (nI (cnt - 1)) (nI fr') (zn bu') u' → zc_Z M' R' nx (cnt - 1) fr' (zt_u kd i 0) pt nm ex fi le bu' → post u') : wpX_erase post u (nI i) (lN (zc_thd kd pt nm i)) := by
  have ⟨zk, ze, m0, m1, c1, c2, c3⟩ := Z
  obtain ⟨q1_0, q1_1, q1_2, q1_3, q1_4, q1_5, q1_6, q1_7, q1_8, q1_9, q1_10, q1_11, q1_12, q1_13, q1_14, q1_15, q1_16, q1_17⟩ := u
  unfold wpX_erase
  refine zc_recof X Z h2 h (fun u1 X1 => ?_)
  have go := zc_erase_l Z h2 h hno hp (ex i) (ex i + 1) M R fr bu u1 (Nat.le_refl _) X1 (by rw [zt_uself]; exact ze) (fun _ => rfl) (by rw [zt_uself]; exact m1) (by rw [zt_uself]; exact c3) (by omega)
  obtain ⟨q2_0, q2_1, q2_2, q2_3, q2_4, q2_5, q2_6, q2_7, q2_8, q2_9, q2_10, q2_11, q2_12, q2_13, q2_14, q2_15, q2_16, q2_17⟩ := u1
  exact zc_recn Z h (nm_e (Exists.intro (ex i + 1) go))
theorem zc_first (X : zx_X M R (nI (nx - 2)) (nI cnt) (nI fr) (zn bu) u) (Z : zc_Z M R nx cnt fr kd pt nm ex fi le bu) {i : Nat} (h2 : i ≤ 61) {post : Int32 → SX → Prop} (hn : (∀ j, zc_chd kd pt i j → False) → ∀ u', zx_X M R (nI (nx - 2)) (nI cnt) (nI fr) (zn bu) u' → post (-1) u') (hs : ∀ c, zc_chd kd pt i c → ∀ u', zx_X M R (nI (nx - 2)) (nI cnt) (nI fr) (zn bu) u' → post (nI c) u') : wpX_firstChild post u (nI i) := by
  refine zc_fst X h2 (fun hf u' X' => hn (fun j hj => ?_) u' X') (fun k v a b hv u' X' => ?_)
  · have g := zc_g2 Z hj.1 hj.2.1
    have w := zc_pt Z hj.2.1
    rw [hj.2.2, hf _ (by omega) (by omega)] at g
    exact nomatch g
  · obtain ⟨n, hn⟩ : ∃ n, k = 512 * i + n + 1 := ⟨k - (512 * i + 1), by omega⟩
    rw [hn] at hv
    obtain ⟨c, c1, c2, c3, c4, c5⟩ := zc_g3 Z (by omega) hv
    rw [c5, zb_id, (zc_rec_d Z c2).1]
    exact hs c ⟨c1, c2, c3⟩ u' X'
theorem zc_clp {p c : Nat} (Z : zc_Z M R nx cnt fr kd pt nm ex fi le bu) (h : zc_chd kd pt p c) : 1 ≤ zc_cl kd pt nm p 256 := by
  have w := zc_61 Z h.2.1
  have v := zc_pt Z h.2.1
  have := zt_sm_ge (g := zc_cf kd pt nm p 256) (a := c) (n := 62) (by omega)
  rw [zc_cf1 h v.2] at this
  exact this
theorem zc_clz {p : Nat} (h : ∀ j, zc_chd kd pt p j → False) : zc_cl kd pt nm p 256 = 0 := zt_sm_z (fun j _ => zc_cf0 (fun z => h j z.1))
end
theorem i_vc_remove {k : Nat} {u : SX} {v : SY} (I : i_Rel k u v) (hk : k + 4 ≤ 2048) (v1 : Int32) : wpX_remove (fun r u' => wpY_remove (fun r' v' => r' = r ∧ i_Rel (k + 4) u' v') v v1) u v1 := by
  obtain ⟨M, R, nx, cnt, fr, kd, pt, nm, ex, fi, le, bu, mk, tn, X, rfl, Z⟩ := I
  obtain ⟨q1_0, q1_1, q1_2, q1_3, q1_4, q1_5, q1_6, q1_7, q1_8, q1_9, q1_10, q1_11, q1_12, q1_13, q1_14, q1_15, q1_16, q1_17⟩ := u
  unfold wpX_remove
  rcases zc_item X Z v1 with ⟨hx, hy⟩ | ⟨i, rfl, h, hx, hy⟩
  · refine hx _ (fun u' X' => ?_)
    obtain ⟨q2_0, q2_1, q2_2, q2_3, q2_4, q2_5, q2_6, q2_7, q2_8, q2_9, q2_10, q2_11, q2_12, q2_13, q2_14, q2_15, q2_16, q2_17⟩ := u'
    refine br_f zb_neg ?_
    unfold wpY_remove
    unfold wpY_refuseItem
    exact hy _ (br_f (by decide) (br_f (by decide) ⟨rfl, zc_mk X' Z⟩))
  · have ⟨a, b, c⟩ := zc_61 Z h
    have ck := zy_kd (kd := kd) b
    have hin : i < 62 := by omega
    refine hx _ (fun u' X' => ?_)
    obtain ⟨q2_0, q2_1, q2_2, q2_3, q2_4, q2_5, q2_6, q2_7, q2_8, q2_9, q2_10, q2_11, q2_12, q2_13, q2_14, q2_15, q2_16, q2_17⟩ := u'
    refine br_t (zc_thd0 Z h) ?_
    by_cases e : i = 1
    · have e1 : nI i = 1 := by rw [e]; rfl
      refine br_t e1 ?_
      unfold wpY_remove
      unfold wpY_refuseItem
      exact hy _ (br_t rfl (br_t e1 (br_f (by decide) ⟨rfl, zc_mk X' Z⟩)))
    · have e1 : ¬ nI i = 1 := fun z => e ((nI_eq (b := 1) (by omega) (by omega)).mp z)
      refine br_f e1 (zc_first X' Z b (fun hno u3 X3 => ?_) (fun c hc u3 X3 => ?_))
      · obtain ⟨q3_0, q3_1, q3_2, q3_3, q3_4, q3_5, q3_6, q3_7, q3_8, q3_9, q3_10, q3_11, q3_12, q3_13, q3_14, q3_15, q3_16, q3_17⟩ := u3
        refine br_t (by decide) (zc_erase X3 Z (by omega) h hno (fun M' R' fr' bu' u4 X4 Z4 => ?_))
        obtain ⟨q4_0, q4_1, q4_2, q4_3, q4_4, q4_5, q4_6, q4_7, q4_8, q4_9, q4_10, q4_11, q4_12, q4_13, q4_14, q4_15, q4_16, q4_17⟩ := u4
        unfold wpY_remove
        unfold wpY_refuseItem
        refine hy _ (br_t rfl (br_f e1 (br_t (by decide) (zs_i rfl hin (by decide) ?_))))
        rw [ck]
        by_cases k2 : kd i = 2
        · refine br_t (by rw [k2]; rfl) ?_
          unfold wpY_entries wpY_refuseFolder
          refine hy _ (br_t rfl (zs_i rfl hin (by decide) (br_t (by rw [ck, k2]; rfl) (br_t (by decide) (zy_ents Z (by omega) ?_)))))
          rw [zc_clz hno]
          exact br_t (by decide) (zs_w' rfl hin (by decide) zn_u0 ⟨rfl, zc_mk X4 Z4⟩)
        · exact br_f (fun z => k2 ((nI_eq (b := 2) (by omega) (by omega)).mp z)) (zs_w' rfl hin (by decide) zn_u0 ⟨rfl, zc_mk X4 Z4⟩)
      · obtain ⟨q3_0, q3_1, q3_2, q3_3, q3_4, q3_5, q3_6, q3_7, q3_8, q3_9, q3_10, q3_11, q3_12, q3_13, q3_14, q3_15, q3_16, q3_17⟩ := u3
        have w := zc_61 Z hc.2.1
        refine br_f (nI_pos (by omega)) ?_
        have k2 : kd i = 2 := by have := (Z.1.2.2.2.1 c hc.1 hc.2.1).1; rw [hc.2.2] at this; exact this
        unfold wpY_remove
        unfold wpY_refuseItem
        refine hy _ (br_t rfl (br_f e1 (br_t (by decide) (zs_i rfl hin (by decide) ?_))))
        rw [ck]
        refine br_t (by rw [k2]; rfl) ?_
        unfold wpY_entries wpY_refuseFolder
        refine hy _ (br_t rfl (zs_i rfl hin (by decide) (br_t (by rw [ck, k2]; rfl) (br_t (by decide) (zy_ents Z (by omega) ?_)))))
        have p1 := zc_clp Z hc
        have p2 := zc_cl_24 Z (p := i) (q := 256)
        exact br_f (nI_ge (a := 0) (by omega) (by omega)) ⟨rfl, zc_mk X3 Z⟩
end
section
/-! the way up: ranks, within -/
def zc_it (pt : Nat → Nat) : Nat → Nat → Nat
  | 0, a => a
  | n + 1, a => zc_it pt n (pt a)
def zc_sub (pt : Nat → Nat) (f j : Nat) : Prop := ∃ n, zc_it pt n j = f ∧ ∀ m, m < n → zc_it pt m j ≠ 1
theorem zc_sub_r {pt : Nat → Nat} {f : Nat} : zc_sub pt f f := ⟨0, rfl, fun m h => by omega⟩
theorem zc_sub_up {pt : Nat → Nat} {f j : Nat} (hj : j ≠ 1) (h : zc_sub pt f (pt j)) : zc_sub pt f j := by
  obtain ⟨n, h1, h2⟩ := h
  refine ⟨n + 1, h1, fun m hm => ?_⟩
  cases m with
  | zero => exact hj
  | succ m => exact h2 m (by omega)
theorem zc_sub_dn {pt : Nat → Nat} {f j : Nat} (hj : j ≠ f) (h : zc_sub pt f j) : j ≠ 1 ∧ zc_sub pt f (pt j) := by
  obtain ⟨n, h1, h2⟩ := h
  cases n with
  | zero => exact absurd h1 hj
  | succ n => exact ⟨h2 0 (by omega), n, h1, fun m hm => h2 (m + 1) (by omega)⟩
theorem zc_sub_1 {pt : Nat → Nat} {f : Nat} (hf : f ≠ 1) : ¬ zc_sub pt f 1 := fun h => by
  have := (zc_sub_dn (Ne.symm hf) h).1
  exact this rfl
def zc_mf (kd rk : Nat → Nat) (r : Nat) : Nat → Nat := fun j => if (2 ≤ j ∧ kd j ≠ 0) ∧ rk j ≤ r then 1 else 0
def zc_mu (kd rk : Nat → Nat) (i : Nat) : Nat := zt_sm (zc_mf kd rk (rk i)) 62
theorem zc_mu_le (kd rk : Nat → Nat) (i : Nat) : zc_mu kd rk i ≤ zc_cn kd := by
  refine zt_sm_le (fun j _ => ?_)
  show (if (2 ≤ j ∧ kd j ≠ 0) ∧ rk j ≤ rk i then 1 else 0) ≤ (if 2 ≤ j ∧ kd j ≠ 0 then 1 else 0)
  by_cases c : 2 ≤ j ∧ kd j ≠ 0
  · rw [if_pos c]
    by_cases d : rk j ≤ rk i
    · rw [if_pos ⟨c, d⟩]; omega
    · rw [if_neg (fun z => d z.2)]; omega
  · rw [if_neg (fun z => c z.1)]; omega
theorem zc_mu_lt {kd rk : Nat → Nat} {a i : Nat} (h2 : 2 ≤ i) (h : kd i ≠ 0) (hi : i < 62) (hr : rk a < rk i) : zc_mu kd rk a + 1 ≤ zc_mu kd rk i := by
  have s := zt_sm_1 (g := zc_mf kd rk (rk a)) (g' := zt_u (zc_mf kd rk (rk a)) i 1) (a := i) (n := 62) hi (fun j _ hj => zt_un hj)
  have z : zc_mf kd rk (rk a) i = 0 := if_neg (fun z => by omega)
  rw [zt_us, z] at s
  have l := zt_sm_le (g := zt_u (zc_mf kd rk (rk a)) i 1) (g' := zc_mf kd rk (rk i)) (n := 62) (fun j _ => by
    by_cases c : j = i
    · rw [c, zt_us]
      have : zc_mf kd rk (rk i) i = 1 := if_pos ⟨⟨h2, h⟩, Nat.le_refl _⟩
      omega
    · rw [zt_un c]
      show (if (2 ≤ j ∧ kd j ≠ 0) ∧ rk j ≤ rk a then 1 else 0) ≤ (if (2 ≤ j ∧ kd j ≠ 0) ∧ rk j ≤ rk i then 1 else 0)
      by_cases d : (2 ≤ j ∧ kd j ≠ 0) ∧ rk j ≤ rk a
      · rw [if_pos d, if_pos ⟨d.1, by omega⟩]; omega
      · rw [if_neg d]; omega)
  unfold zc_mu
  omega
section
variable {nx cnt fr R : Nat} {kd pt nm ex fi le bu : Nat → Nat} {mk tn : Nat → Int32} {M : Nat → Nat → Option Int64} {u : SX}
theorem zc_up (Z : zc_Z M R nx cnt fr kd pt nm ex fi le bu) {a : Nat} (h : kd a ≠ 0) (h1 : a ≠ 1) : 2 ≤ a ∧ a ≤ 61 ∧ kd (pt a) = 2 := by
  have w := zc_61 Z h
  have := Z.1.2.2.2.1 a (by omega) h
  exact ⟨by omega, w.2.1, this.1⟩
theorem zx_wi_l (Z : zc_Z M R nx cnt fr kd pt nm ex fi le bu) {f : Nat} (hf1 : f ≠ 1) (hf : f < 2 ^ 31) {rk : Nat → Nat} (hrk : ∀ i, 2 ≤ i → kd i ≠ 0 → rk (pt i) < rk i) {post : Int32 → SX → Prop} :
    ∀ d a s m u, zc_mu kd rk a ≤ d → kd a ≠ 0 → s + d ≤ 29 → d < m → zx_X M R (nI (nx - 2)) (nI cnt) (nI fr) (zn bu) u → (zc_sub pt f a → ∀ u', zx_X M R (nI (nx - 2)) (nI cnt) (nI fr) (zn bu) u' → post 1 u') → (¬ zc_sub pt f a → ∀ u', zx_X M R (nI (nx - 2)) (nI cnt) (nI fr) (zn bu) u' → post 0 u') →
      match u with | (dp, pl, pa, sk, gv, pr, fb, rt, tk, lf, sz, ky, vl, ch, af, wn, ws, bu) => wX_within_5 post (nI f) m (nI a) (nI s) dp pl pa sk gv pr fb rt tk lf sz ky vl ch af wn ws bu := by
  intro d
  induction d with
  | zero =>
    intro a s m u hmu ha hs hm X p1 p0
    obtain ⟨m, rfl⟩ : ∃ k, m = k + 1 := ⟨m - 1, by omega⟩
    obtain ⟨q1_0, q1_1, q1_2, q1_3, q1_4, q1_5, q1_6, q1_7, q1_8, q1_9, q1_10, q1_11, q1_12, q1_13, q1_14, q1_15, q1_16, q1_17⟩ := u
    by_cases e : a = 1
    · rw [e] at p0
      exact br_f (nI_ge (b := 30) (by omega) (by decide)) (br_t (by rw [e]; rfl) (p0 (zc_sub_1 hf1) _ X))
    · have ⟨w1, w2, w3⟩ := zc_up Z ha e
      have := zc_mu_lt (kd := kd) (rk := rk) (a := pt a) w1 ha (by omega) (hrk a w1 ha)
      omega
  | succ d ih =>
    intro a s m u hmu ha hs hm X p1 p0
    obtain ⟨m, rfl⟩ : ∃ k, m = k + 1 := ⟨m - 1, by omega⟩
    have u0 := u
    by_cases e : a = 1
    · obtain ⟨q1_0, q1_1, q1_2, q1_3, q1_4, q1_5, q1_6, q1_7, q1_8, q1_9, q1_10, q1_11, q1_12, q1_13, q1_14, q1_15, q1_16, q1_17⟩ := u
      rw [e] at p0
      exact br_f (nI_ge (b := 30) (by omega) (by decide)) (br_t (by rw [e]; rfl) (p0 (zc_sub_1 hf1) _ X))
    · have ⟨w1, w2, w3⟩ := zc_up Z ha e
      have e1 : ¬ nI a = 1 := fun z => e ((nI_eq (b := 1) (by omega) (by omega)).mp z)
      have lt := zc_mu_lt (kd := kd) (rk := rk) (a := pt a) w1 ha (by omega) (hrk a w1 ha)
      have ⟨d1, d2, d3, d4⟩ := zc_thd_d Z ha
      obtain ⟨q1_0, q1_1, q1_2, q1_3, q1_4, q1_5, q1_6, q1_7, q1_8, q1_9, q1_10, q1_11, q1_12, q1_13, q1_14, q1_15, q1_16, q1_17⟩ := u
      refine br_f (nI_ge (b := 30) (by omega) (by decide)) (br_f e1 ?_)
      by_cases ef : a = f
      · rw [ef] at p1
        exact br_t (by rw [ef]) (p1 zc_sub_r _ X)
      · refine br_f (fun z => ef ((nI_eq (by omega) hf).mp z)) (zc_thr_p X Z ha (fun u1 X1 => ?_))
        have go := ih (pt a) (s + 1) m u1 (by omega) (by omega) (by omega) (by omega) X1 (fun h => p1 (zc_sub_up e h)) (fun h => p0 (fun z => h (zc_sub_dn ef z).2))
        obtain ⟨q2_0, q2_1, q2_2, q2_3, q2_4, q2_5, q2_6, q2_7, q2_8, q2_9, q2_10, q2_11, q2_12, q2_13, q2_14, q2_15, q2_16, q2_17⟩ := u1
        unfold wpX_threadParent
        rw [zb_par d4, d1]
        exact nm_r (nI_1 s) go
theorem zy_wi_l (Z : zc_Z M R nx cnt fr kd pt nm ex fi le bu) {f : Nat} (hf1 : f ≠ 1) (hf : f < 2 ^ 31) {rk : Nat → Nat} (hrk : ∀ i, 2 ≤ i → kd i ≠ 0 → rk (pt i) < rk i) {post : Int32 → Prop} :
    ∀ d a s m, zc_mu kd rk a ≤ d → kd a ≠ 0 → s + d ≤ 61 → d < m → (zc_sub pt f a → post 1) → (¬ zc_sub pt f a → post 0) → wY_within_5 post (nI f) (nI nx) (zn kd) (zn pt) (zn nm) (zn ex) (zn fi) (zn le) mk tn m (nI a) (nI s) := by
  intro d
  induction d with
  | zero =>
    intro a s m hmu ha hs hm p1 p0
    obtain ⟨m, rfl⟩ : ∃ k, m = k + 1 := ⟨m - 1, by omega⟩
    by_cases e : a = 1
    · rw [e] at p0 ⊢
      refine br_f (nI_ge (b := 62) (by omega) (by decide)) (br_f (fun z => ?_) (br_t rfl (p0 (zc_sub_1 hf1))))
      have := (nI_eq (a := 1) (b := f) (by omega) hf).mp z
      omega
    · have ⟨w1, w2, w3⟩ := zc_up Z ha e
      have := zc_mu_lt (kd := kd) (rk := rk) (a := pt a) w1 ha (by omega) (hrk a w1 ha)
      omega
  | succ d ih =>
    intro a s m hmu ha hs hm p1 p0
    obtain ⟨m, rfl⟩ : ∃ k, m = k + 1 := ⟨m - 1, by omega⟩
    refine br_f (nI_ge (b := 62) (by omega) (by decide)) ?_
    have w := zc_61 Z ha
    by_cases ef : a = f
    · rw [ef] at p1
      exact br_t (by rw [ef]) (p1 zc_sub_r)
    · refine br_f (fun z => ef ((nI_eq (by omega) hf).mp z)) ?_
      by_cases e : a = 1
      · rw [e] at p0
        exact br_t (by rw [e]; rfl) (p0 (zc_sub_1 hf1))
      · have ⟨w1, w2, w3⟩ := zc_up Z ha e
        have lt := zc_mu_lt (kd := kd) (rk := rk) (a := pt a) w1 ha (by omega) (hrk a w1 ha)
        refine br_f (fun z => e ((nI_eq (b := 1) (by omega) (by omega)).mp z)) (zs_r (v := nI (pt a)) rfl (show a < 62 by omega) (by decide) rfl (nm_r (nI_1 s) ?_))
        exact ih (pt a) (s + 1) m (by omega) (by omega) (by omega) (by omega) (fun h => p1 (zc_sub_up e h)) (fun h => p0 (fun z => h (zc_sub_dn ef z).2))
theorem zx_within (X : zx_X M R (nI (nx - 2)) (nI cnt) (nI fr) (zn bu) u) (Z : zc_Z M R nx cnt fr kd pt nm ex fi le bu) {f a : Nat} (hf1 : f ≠ 1) (hf : f < 2 ^ 31) (ha : kd a ≠ 0) {post : Int32 → SX → Prop} (p1 : zc_sub pt f a → ∀ u', zx_X M R (nI (nx - 2)) (nI cnt) (nI fr) (zn bu) u' → post 1 u') (p0 : ¬ zc_sub pt f a → ∀ u', zx_X M R (nI (nx - 2)) (nI cnt) (nI fr) (zn bu) u' → post 0 u') : wpX_within post u (nI a) (nI f) := by
  obtain ⟨rk, hrk⟩ := Z.1.2.2.2.2.2
  have b := zc_mu_le kd rk a
  have ⟨c1, c2, c3⟩ := Z.2.2.2.2
  have go := zx_wi_l Z hf1 hf hrk 24 a 0 25 u (by omega) ha (by omega) (by omega) X p1 p0
  obtain ⟨q1_0, q1_1, q1_2, q1_3, q1_4, q1_5, q1_6, q1_7, q1_8, q1_9, q1_10, q1_11, q1_12, q1_13, q1_14, q1_15, q1_16, q1_17⟩ := u
  exact Exists.intro 25 go
theorem zy_within (Z : zc_Z M R nx cnt fr kd pt nm ex fi le bu) {f a : Nat} (hf1 : f ≠ 1) (hf : f < 2 ^ 31) (ha : kd a ≠ 0) {post : Int32 → Prop} (p1 : zc_sub pt f a → post 1) (p0 : ¬ zc_sub pt f a → post 0) : wpY_within post (nI nx, zn kd, zn pt, zn nm, zn ex, zn fi, zn le, mk, tn) (nI a) (nI f) := by
  obtain ⟨rk, hrk⟩ := Z.1.2.2.2.2.2
  have b := zc_mu_le kd rk a
  have ⟨c1, c2, c3⟩ := Z.2.2.2.2
  exact Exists.intro 25 (zy_wi_l Z hf1 hf hrk 24 a 0 25 (by omega) ha (by omega) (by omega) p1 p0)
end
end
section
/-! move -/
section
variable {nx cnt fr R : Nat} {kd pt nm ex fi le bu : Nat → Nat} {mk tn : Nat → Int32} {M : Nat → Nat → Option Int64} {u : SX}
theorem zc_move (Z : zc_Z M R nx cnt fr kd pt nm ex fi le bu) {i p n : Nat} (h2 : 2 ≤ i) (h : kd i ≠ 0) (hp : kd p = 2) (hn : n < 256) (hs : ¬ zc_sub pt i p) (hno : ∀ j, 2 ≤ j → kd j ≠ 0 → pt j = p → nm j = n → False) :
    zc_Z (zt_mu (zt_mu (zt_mu M 0 (512 * pt i + nm i + 1) none) 0 (512 * p + n + 1) (some (lN (zc_rec ex fi le i)))) 0 (512 * i) (some (lN ((if kd i = 2 then 1 else 0) + 2 * p + 256 * n)))) R nx cnt fr kd (zt_u pt i p) (zt_u nm i n) ex fi le bu := by
  have Z0 := Z
  have ⟨⟨k1, k2, k3, k4, k5, rk, k6⟩, ze, m0, m1, zc⟩ := Z
  have i61 := zc_61 Z h
  have pti := zc_pt Z h
  have pp := zc_61 Z (i := p) (by omega)
  have pi : p ≠ i := fun z => hs (by rw [z]; exact zc_sub_r)
  refine And.intro ?_ (And.intro ze (And.intro ?_ (And.intro ?_ zc)))
  · refine And.intro k1 (And.intro ?_ (And.intro k3 (And.intro ?_ (And.intro ?_ ?_))))
    · rw [zt_un (by omega), zt_un (by omega)]; exact k2
    · intro j j2 hj
      by_cases c : j = i
      · rw [c, zt_us, zt_us]; exact ⟨hp, hn⟩
      · rw [zt_un c, zt_un c]; exact k4 j j2 hj
    · intro a b a2 b2 ha hb e1 e2
      by_cases c : a = i
      · by_cases d : b = i
        · rw [c, d]
        · rw [c, zt_us, zt_un d] at e1 e2
          exact absurd (hno b b2 hb e1.symm e2.symm) (fun z => z)
      · by_cases d : b = i
        · rw [d, zt_us, zt_un c] at e1 e2
          exact absurd (hno a a2 ha e1 e2) (fun z => z)
        · rw [zt_un c, zt_un d] at e1 e2
          exact k5 a b a2 b2 ha hb e1 e2
    · classical
      refine ⟨fun j => if zc_sub pt i j then rk j + rk p + 1 else rk j, fun j j2 hj => ?_⟩
      show (if zc_sub pt i (zt_u pt i p j) then rk (zt_u pt i p j) + rk p + 1 else rk (zt_u pt i p j)) < (if zc_sub pt i j then rk j + rk p + 1 else rk j)
      by_cases c : j = i
      · rw [c, zt_us, if_neg hs, if_pos zc_sub_r]; omega
      · rw [zt_un c]
        have := k6 j j2 hj
        by_cases d : zc_sub pt i j
        · rw [if_pos (zc_sub_dn c d).2, if_pos d]; omega
        · rw [if_neg (fun z => d (zc_sub_up (by omega) z)), if_neg d]; exact this
  · intro k v
    have thn : zc_thd kd (zt_u pt i p) (zt_u nm i n) i = (if kd i = 2 then 1 else 0) + 2 * p + 256 * n := by unfold zc_thd; rw [zt_us, zt_us]
    have tho : ∀ j, j ≠ i → zc_thd kd (zt_u pt i p) (zt_u nm i n) j = zc_thd kd pt nm j := fun j hj => by unfold zc_thd; rw [zt_un hj, zt_un hj]
    by_cases ck : k = 512 * i
    · rw [ck, zt_mu_s]
      constructor
      · intro hv
        exact Or.inl ⟨i, h, rfl, by rw [thn]; exact (Option.some.inj hv).symm⟩
      · intro hv
        rcases hv with ⟨j, a1, a2, a3⟩ | ⟨j, a0, a1, a2, a3⟩
        · have : j = i := by omega
          rw [this, thn] at a3; rw [a3]
        · exfalso
          by_cases c : j = i
          · rw [c, zt_us, zt_us] at a2; omega
          · rw [zt_un c, zt_un c] at a2
            have := (k4 j a0 a1).2; omega
    · rw [zt_mu_n (Or.inr ck)]
      by_cases ck2 : k = 512 * p + n + 1
      · rw [ck2, zt_mu_s]
        constructor
        · intro hv
          exact Or.inr ⟨i, h2, h, by rw [zt_us, zt_us], (Option.some.inj hv).symm⟩
        · intro hv
          rcases hv with ⟨j, a1, a2, a3⟩ | ⟨j, a0, a1, a2, a3⟩
          · omega
          · by_cases c : j = i
            · rw [c] at a3; rw [a3]
            · exfalso
              rw [zt_un c, zt_un c] at a2
              have := (k4 j a0 a1).2
              exact hno j a0 a1 (by omega) (by omega)
      · rw [zt_mu_n (Or.inr ck2)]
        by_cases ck3 : k = 512 * pt i + nm i + 1
        · rw [ck3, zt_mu_s]
          constructor
          · intro hv; exact nomatch hv
          · intro hv
            exfalso
            rcases hv with ⟨j, a1, a2, a3⟩ | ⟨j, a0, a1, a2, a3⟩
            · omega
            · by_cases c : j = i
              · rw [c, zt_us, zt_us] at a2; exact ck2 (by omega)
              · rw [zt_un c, zt_un c] at a2
                have := (k4 j a0 a1).2
                exact c (k5 j i a0 h2 a1 h (by omega) (by omega))
        · rw [zt_mu_n (Or.inr ck3), m0 k v]
          constructor
          · intro hv
            rcases hv with ⟨j, a1, a2, a3⟩ | ⟨j, a0, a1, a2, a3⟩
            · have c : j ≠ i := fun z => ck (by rw [← z]; exact a2)
              exact Or.inl ⟨j, a1, a2, by rw [tho j c]; exact a3⟩
            · have c : j ≠ i := fun z => ck3 (by rw [← z]; exact a2)
              exact Or.inr ⟨j, a0, a1, by rw [zt_un c, zt_un c]; exact a2, a3⟩
          · intro hv
            rcases hv with ⟨j, a1, a2, a3⟩ | ⟨j, a0, a1, a2, a3⟩
            · have c : j ≠ i := fun z => ck (by rw [← z]; exact a2)
              exact Or.inl ⟨j, a1, a2, by rw [tho j c] at a3; exact a3⟩
            · have c : j ≠ i := fun z => by rw [z, zt_us, zt_us] at a2; exact ck2 a2
              rw [zt_un c, zt_un c] at a2
              exact Or.inr ⟨j, a0, a1, a2, a3⟩
  · intro k v
    rw [zt_mu_n (Or.inl (by omega)), zt_mu_n (Or.inl (by omega)), zt_mu_n (Or.inl (by omega))]
    exact m1 k v
theorem zy_mv74 {i p n : Nat} (hi : i < 62) {post : Int32 → SY → Prop} (hp : post 0 (nI nx, zn kd, zn (zt_u pt i p), zn (zt_u nm i n), zn ex, zn fi, zn le, mk, tn)) : wY_move_74 post (nI i) (nI p) (nI n) (nI nx) (zn kd) (zn pt) (zn nm) (zn ex) (zn fi) (zn le) mk tn :=
  zs_w' rfl hi (by decide) zn_u (zs_w' rfl hi (by decide) zn_u hp)
end
theorem i_vc_move {k : Nat} {u : SX} {v : SY} (I : i_Rel k u v) (hk : k + 4 ≤ 2048) (v1 : Int32) (v2 : Int32) (v3 : Int32) : wpX_move (fun r u' => wpY_move (fun r' v' => r' = r ∧ i_Rel (k + 4) u' v') v v1 v2 v3) u v1 v2 v3 := by
  obtain ⟨M, R, nx, cnt, fr, kd, pt, nm, ex, fi, le, bu, mk, tn, X, rfl, Z⟩ := I
  obtain ⟨q1_0, q1_1, q1_2, q1_3, q1_4, q1_5, q1_6, q1_7, q1_8, q1_9, q1_10, q1_11, q1_12, q1_13, q1_14, q1_15, q1_16, q1_17⟩ := u
  unfold wpX_move
  rcases zc_item X Z v1 with ⟨hx, hy⟩ | ⟨i, rfl, h, hx, hy⟩
  · refine hx _ (fun u' X' => ?_)
    obtain ⟨q2_0, q2_1, q2_2, q2_3, q2_4, q2_5, q2_6, q2_7, q2_8, q2_9, q2_10, q2_11, q2_12, q2_13, q2_14, q2_15, q2_16, q2_17⟩ := u'
    refine br_f zb_neg ?_
    unfold wpY_move
    unfold wpY_refuseItem
    exact hy _ (br_f (by decide) (br_f (by decide) ⟨rfl, zc_mk X' Z⟩))
  · have ⟨a, b, c⟩ := zc_61 Z h
    have R97 := zc_97 Z
    have hin : i < 62 := by omega
    refine hx _ (fun u' X' => ?_)
    obtain ⟨q2_0, q2_1, q2_2, q2_3, q2_4, q2_5, q2_6, q2_7, q2_8, q2_9, q2_10, q2_11, q2_12, q2_13, q2_14, q2_15, q2_16, q2_17⟩ := u'
    refine br_t (zc_thd0 Z h) ?_
    by_cases e : i = 1
    · have e1 : nI i = 1 := by rw [e]; rfl
      refine br_t e1 ?_
      unfold wpY_move
      unfold wpY_refuseItem
      exact hy _ (br_t rfl (br_t e1 (br_f (by decide) ⟨rfl, zc_mk X' Z⟩)))
    · have e1 : ¬ nI i = 1 := fun z => e ((nI_eq (b := 1) (by omega) (by omega)).mp z)
      have h2 : 2 ≤ i := by omega
      have yi : ∀ post : Int32 → Prop, post 0 → wpY_refuseItem post (nI nx, zn kd, zn pt, zn nm, zn ex, zn fi, zn le, mk, tn) (nI i) := fun post hp => by
        unfold wpY_refuseItem
        exact hy _ (br_t rfl (br_f e1 hp))
      refine br_f e1 ?_
      rcases zc_folder X' Z v2 with ⟨r, ⟨r1, r2⟩, hx2, hy2⟩ | ⟨p, rfl, hp, hx2, hy2⟩
      · refine hx2 _ (fun u3 X3 => ?_)
        obtain ⟨q3_0, q3_1, q3_2, q3_3, q3_4, q3_5, q3_6, q3_7, q3_8, q3_9, q3_10, q3_11, q3_12, q3_13, q3_14, q3_15, q3_16, q3_17⟩ := u3
        refine br_f r1 ?_
        unfold wpY_move
        exact yi _ (br_t (by decide) (hy2 _ (br_f r2 ⟨rfl, zc_mk X3 Z⟩)))
      · have pp := zc_61 Z (i := p) (by omega)
        refine hx2 _ (fun u3 X3 => ?_)
        obtain ⟨q3_0, q3_1, q3_2, q3_3, q3_4, q3_5, q3_6, q3_7, q3_8, q3_9, q3_10, q3_11, q3_12, q3_13, q3_14, q3_15, q3_16, q3_17⟩ := u3
        refine br_t rfl ?_
        rcases zc_name v3 with ⟨h3, hb⟩ | ⟨n, hn, rfl, h3, h4, hb⟩
        · have go : wpY_move (fun r' v' => r' = -3 ∧ i_Rel (k + 4) (q3_0, q3_1, q3_2, q3_3, q3_4, q3_5, q3_6, q3_7, q3_8, q3_9, q3_10, q3_11, q3_12, q3_13, q3_14, q3_15, q3_16, q3_17) v') (nI nx, zn kd, zn pt, zn nm, zn ex, zn fi, zn le, mk, tn) (nI i) (nI p) v3 := by
            unfold wpY_move
            exact yi _ (br_t (by decide) (hy2 _ (br_t (by decide) (hb _ (br_f (by decide) ⟨rfl, zc_mk X3 Z⟩)))))
          rcases h3 with h3 | ⟨h3, h4⟩
          · exact br_t h3 go
          · exact br_f h3 (br_f h4 go)
        · refine br_f h3 (br_t h4 (zx_within X3 Z (f := i) (a := p) (by omega) (by omega) (by omega) (fun hs u4 X4 => ?_) (fun hs u4 X4 => ?_)))
          · obtain ⟨q4_0, q4_1, q4_2, q4_3, q4_4, q4_5, q4_6, q4_7, q4_8, q4_9, q4_10, q4_11, q4_12, q4_13, q4_14, q4_15, q4_16, q4_17⟩ := u4
            refine br_f (by decide) ?_
            unfold wpY_move
            exact yi _ (br_t (by decide) (hy2 _ (br_t (by decide) (hb _ (br_t rfl (zy_within Z (by omega) (by omega) (by omega) (fun _ => br_f (by decide) ⟨rfl, zc_mk X4 Z⟩) (fun z => absurd hs z)))))))
          · obtain ⟨q4_0, q4_1, q4_2, q4_3, q4_4, q4_5, q4_6, q4_7, q4_8, q4_9, q4_10, q4_11, q4_12, q4_13, q4_14, q4_15, q4_16, q4_17⟩ := u4
            refine br_t rfl (zc_kot Z h ?_)
            have pti := zc_pt Z h
            obtain ⟨j, j1, j2⟩ := zy_look (mk := mk) (tn := tn) Z (p := p) (n := n) (by omega) (by omega)
            have yl : ∀ post : Int32 → SY → Prop, (j ≤ 0 → wY_move_74 post (nI i) (nI p) (nI n) (nI nx) (zn kd) (zn pt) (zn nm) (zn ex) (zn fi) (zn le) mk tn) → (j = i → wY_move_74 post (nI i) (nI p) (nI n) (nI nx) (zn kd) (zn pt) (zn nm) (zn ex) (zn fi) (zn le) mk tn) → (0 < j → j ≠ i → post (-4) (nI nx, zn kd, zn pt, zn nm, zn ex, zn fi, zn le, mk, tn)) → wpY_move post (nI nx, zn kd, zn pt, zn nm, zn ex, zn fi, zn le, mk, tn) (nI i) (nI p) (nI n) := fun post p1 p2 p3 => by
              unfold wpY_move
              refine yi _ (br_t (by decide) (hy2 _ (br_t (by decide) (hb _ (br_t rfl (zy_within Z (by omega) (by omega) (by omega) (fun z => absurd z hs) (fun _ => br_t rfl (j2 _ ?_))))))))
              by_cases c0 : j = 0
              · exact br_t (by rw [c0]; decide) (p1 (by omega))
              · have j61 : j ≤ 61 := by
                  rcases j1 with ⟨q, _⟩ | ⟨_, q, _⟩
                  · omega
                  · exact (zc_61 Z q).2.1
                refine br_f (nI_ge (a := 0) (by omega) (by omega)) ?_
                by_cases ci : j = i
                · exact br_t (by rw [ci]) (p2 ci)
                · exact br_f (fun z => ci ((nI_eq (by omega) (by omega)).mp z)) (p3 (by omega) ci)
            unfold wpX_itemKey
            show (nI (512 * pt i + nm i + 1) = 512 * nI p + nI n + 1 → _) ∧ (¬ nI (512 * pt i + nm i + 1) = 512 * nI p + nI n + 1 → _)
            rw [zc_key]
            by_cases ek : 512 * pt i + nm i + 1 = 512 * p + n + 1
            · have ep : pt i = p := by omega
              have en : nm i = n := by omega
              refine br_t (by rw [ek]) ?_
              have ji : j = i := by
                rcases j1 with ⟨q, q2⟩ | ⟨q1, q2, q3, q4⟩
                · exact absurd (q2 i h2 h ep en) (fun z => z)
                · exact Z.1.2.2.2.2.1 j i q1 h2 q2 h (q3.trans ep.symm) (q4.trans en.symm)
              refine yl _ (fun z => by omega) (fun _ => zy_mv74 hin ?_) (fun _ z => absurd ji z)
              rw [← ep, ← en, zt_uself, zt_uself]
              exact ⟨rfl, zc_mk X4 Z⟩
            · refine br_f (fun z => ek ((nI_eq (by omega) (by omega)).mp z)) (zc_loc X4 (t := 0) (by omega) (by omega) (fun hM u5 X5 => ?_) (fun hM u5 X5 => ?_))
              · obtain ⟨q5_0, q5_1, q5_2, q5_3, q5_4, q5_5, q5_6, q5_7, q5_8, q5_9, q5_10, q5_11, q5_12, q5_13, q5_14, q5_15, q5_16, q5_17⟩ := u5
                have nomatch1 : ∀ i, 2 ≤ i → kd i ≠ 0 → pt i = p → nm i = n → False := fun i a b c d => by
                  have := zc_g2 Z a b
                  rw [c, d, hM] at this; exact nomatch this
                have j0 : j = 0 := by
                  rcases j1 with ⟨a, b⟩ | ⟨a, b, c, d⟩
                  · exact a
                  · exact absurd (nomatch1 j a b c d) (fun z => z)
                refine br_t rfl (zc_recof X5 Z h2 h (fun u6 X6 => ?_))
                obtain ⟨q6_0, q6_1, q6_2, q6_3, q6_4, q6_5, q6_6, q6_7, q6_8, q6_9, q6_10, q6_11, q6_12, q6_13, q6_14, q6_15, q6_16, q6_17⟩ := u6
                refine zc_drop X6 (t := 0) (by omega) (by omega) (fun z => ?_) (fun _ R1 u7 r1 X7 => ?_)
                · rw [zc_g2 Z h2 h] at z; exact nomatch z
                · obtain ⟨q7_0, q7_1, q7_2, q7_3, q7_4, q7_5, q7_6, q7_7, q7_8, q7_9, q7_10, q7_11, q7_12, q7_13, q7_14, q7_15, q7_16, q7_17⟩ := u7
                  refine zc_put X7 (t := 0) (by omega) (by omega) (by omega) (fun _ u8 X8 => ?_) (fun z => ?_)
                  · obtain ⟨q8_0, q8_1, q8_2, q8_3, q8_4, q8_5, q8_6, q8_7, q8_8, q8_9, q8_10, q8_11, q8_12, q8_13, q8_14, q8_15, q8_16, q8_17⟩ := u8
                    have put2 : ∀ z : Nat, z = (if kd i = 2 then 1 else 0) → ∀ vx : Int64, vx = lN (z + 2 * p + 256 * n) → wpX_putRecord (fun u => match u with
                        | (dp, pl, pa, sk, gv, pr, fb, rt, tk, lf, sz, ky, vl, ch, af, wn, ws, bu) => (fun r u' => wpY_move (fun r' v' => r' = r ∧ i_Rel (k + 4) u' v') (nI nx, zn kd, zn pt, zn nm, zn ex, zn fi, zn le, mk, tn) (nI i) (nI p) (nI n)) 0 (dp, pl, pa, sk, gv, pr, fb, rt, tk, lf, sz, ky, vl, ch, af, wn, ws, bu)) (q8_0, q8_1, q8_2, q8_3, q8_4, q8_5, q8_6, q8_7, q8_8, q8_9, q8_10, q8_11, q8_12, q8_13, q8_14, q8_15, q8_16, q8_17) 0 (512 * nI i) vx := fun z hz vx hv => by
                      rw [hz] at hv
                      refine zc_putk X8 (t := 0) (zs_512 i) hv (by omega) (by omega) (by omega) (fun w => ?_) (fun _ u9 X9 => ?_)
                      · rw [zt_mu_n (Or.inr (by omega)), zt_mu_n (Or.inr (by omega)), zc_g1 Z h] at w; exact nomatch w
                      · obtain ⟨q9_0, q9_1, q9_2, q9_3, q9_4, q9_5, q9_6, q9_7, q9_8, q9_9, q9_10, q9_11, q9_12, q9_13, q9_14, q9_15, q9_16, q9_17⟩ := u9
                        rw [r1] at X9
                        exact yl _ (fun _ => zy_mv74 hin ⟨rfl, zc_mk X9 (zc_move Z h2 h hp hn hs nomatch1)⟩) (fun z => by omega) (fun z => by omega)
                    unfold wpX_threadFolder wpX_threadKey wpX_packThread wX_packThread_9
                    by_cases k1 : kd i = 1
                    · exact br_t ((zc_fold Z h).mpr k1) (br_t rfl (put2 0 (by rw [if_neg (by omega)]) _ (zb_pack (z := 0) (by omega) (by omega))))
                    · exact br_f (fun z => k1 ((zc_fold Z h).mp z)) (br_f (by decide) (put2 1 (by rw [if_pos (by omega)]) _ (zb_pack (z := 1) (by omega) (by omega))))
                  · rw [zt_mu_n (Or.inr (fun z => ek z.symm))] at z; exact absurd hM z
              · obtain ⟨q5_0, q5_1, q5_2, q5_3, q5_4, q5_5, q5_6, q5_7, q5_8, q5_9, q5_10, q5_11, q5_12, q5_13, q5_14, q5_15, q5_16, q5_17⟩ := u5
                refine br_f (by decide) ?_
                obtain ⟨v, hv⟩ := Option.ne_none_iff_exists'.mp hM
                obtain ⟨i', a1, a2, a3, a4, a5⟩ := zc_g3 Z (by omega) hv
                refine yl _ (fun z => ?_) (fun z => ?_) (fun _ _ => ⟨rfl, zc_mk X5 Z⟩)
                · rcases j1 with ⟨q, q2⟩ | ⟨q1, q2, q3, q4⟩
                  · exact absurd (q2 i' a1 a2 a3 a4) (fun z => z)
                  · omega
                · rcases j1 with ⟨q, q2⟩ | ⟨q1, q2, q3, q4⟩
                  · exact absurd (q2 i' a1 a2 a3 a4) (fun z => z)
                  · rw [z] at q3 q4; omega
end
section
/-! removeAll -/
section
variable {nx cnt fr R : Nat} {kd pt nm ex fi le bu : Nat → Nat} {mk tn : Nat → Int32} {M : Nat → Nat → Option Int64} {u : SX}
theorem zc_path_l (Z : zc_Z M R nx cnt fr kd pt nm ex fi le bu) {f : Nat} {rk : Nat → Nat} (hrk : ∀ i, 2 ≤ i → kd i ≠ 0 → rk (pt i) < rk i) : ∀ dd a, kd a ≠ 0 → zc_it pt dd a = f → (∀ m, m < dd → zc_it pt m a ≠ 1) → dd + zc_mu kd rk f ≤ zc_mu kd rk a := by
  intro dd
  induction dd with
  | zero =>
    intro a ha h1 h2
    have : a = f := h1
    rw [this]; omega
  | succ dd ih =>
    intro a ha h1 h2
    have a1 : a ≠ 1 := h2 0 (by omega)
    have ⟨w1, w2, w3⟩ := zc_up Z ha a1
    have lt := zc_mu_lt (kd := kd) (rk := rk) (a := pt a) w1 ha (by omega) (hrk a w1 ha)
    have := ih (pt a) (by omega) h1 (fun m hm => h2 (m + 1) (by omega))
    omega
theorem zc_path (Z : zc_Z M R nx cnt fr kd pt nm ex fi le bu) {f dd a : Nat} (hf : 2 ≤ f) (hkf : kd f ≠ 0) (ha : kd a ≠ 0) (h1 : zc_it pt dd a = f) (h2 : ∀ m, m < dd → zc_it pt m a ≠ 1) : dd + 1 ≤ cnt := by
  obtain ⟨rk, hrk⟩ := Z.1.2.2.2.2.2
  have ⟨c1, c2, c3⟩ := Z.2.2.2.2
  have b := zc_mu_le kd rk a
  have ⟨w1, w2, w3⟩ := zc_up Z hkf (by omega)
  have lt := zc_mu_lt (kd := kd) (rk := rk) (a := pt f) w1 hkf (by omega) (hrk f w1 hkf)
  have := zc_path_l Z hrk dd a ha h1 h2
  omega
/-- an item below f, other than f, that is there: then f has an entry -/
theorem zc_below (Z : zc_Z M R nx cnt fr kd pt nm ex fi le bu) {f : Nat} : ∀ n j, zc_it pt n j = f → (∀ m, m < n → zc_it pt m j ≠ 1) → j ≠ f → kd j ≠ 0 → ∃ c, zc_chd kd pt f c := by
  intro n
  induction n with
  | zero => intro j h1 h2 hj _; exact absurd h1 hj
  | succ n ih =>
    intro j h1 h2 hj hk
    have a1 : j ≠ 1 := h2 0 (by omega)
    have ⟨w1, w2, w3⟩ := zc_up Z hk a1
    by_cases c : pt j = f
    · exact ⟨j, w1, hk, c⟩
    · exact ih (pt j) h1 (fun m hm => h2 (m + 1) (by omega)) c (by omega)
end
section
variable {nx cnt fr R : Nat} {kd pt nm ex fi le bu : Nat → Nat} {mk tn : Nat → Int32} {M : Nat → Nat → Option Int64} {u : SX}
theorem zx_ra_l {f : Nat} (hf2 : 2 ≤ f) {post : Int32 → SX → Prop} (h24 : cnt ≤ 24)
    (hp : ∀ M' R' cnt' fr' kd' bu' u', zx_X M' R' (nI (nx - 2)) (nI cnt') (nI fr') (zn bu') u' → zc_Z M' R' nx cnt' fr' kd' pt nm ex fi le bu' → (∀ j, zc_sub pt f j → kd' j = 0) → (∀ j, ¬ zc_sub pt f j → kd' j = kd j) → cnt' ≤ cnt → post (nI (cnt - cnt')) u') :
    ∀ d (M' : Nat → Nat → Option Int64) (R' cnt' fr' : Nat) (kd' bu' : Nat → Nat) (u : SX) (a dd s m : Nat), 2 * cnt' = dd + d → zx_X M' R' (nI (nx - 2)) (nI cnt') (nI fr') (zn bu') u → zc_Z M' R' nx cnt' fr' kd' pt nm ex fi le bu' → (∀ j, kd' j = kd j ∨ (kd' j = 0 ∧ zc_sub pt f j)) → kd' f ≠ 0 → kd' a ≠ 0 → zc_it pt dd a = f → (∀ m, m < dd → zc_it pt m a ≠ 1) → cnt' ≤ cnt → s + 2 * cnt' = 2 * cnt + dd → d < m →
      match u with | (dp, pl, pa, sk, gv, pr, fb, rt, tk, lf, sz, ky, vl, ch, af, wn, ws, bu) => wX_removeAll_34 post (nI f) m (nI (cnt - cnt')) (nI a) 1 (nI s) dp pl pa sk gv pr fb rt tk lf sz ky vl ch af wn ws bu := by
  intro d
  induction d with
  | zero =>
    intro M' R' cnt' fr' kd' bu' u a dd s m hd X Z hkd hkf hka h1 h2 hc hs hm
    have := zc_path Z hf2 hkf hka h1 h2
    omega
  | succ d ih =>
    intro M' R' cnt' fr' kd' bu' u a dd s m hd X Z hkd hkf hka h1 h2 hc hs hm
    obtain ⟨m, rfl⟩ : ∃ k, m = k + 1 := ⟨m - 1, by omega⟩
    have pth := zc_path Z hf2 hkf hka h1 h2
    have ⟨w1, w2, w3⟩ := zc_61 Z hka
    have f61 := zc_61 Z hkf
    have ⟨d1, d2, d3, d4⟩ := zc_thd_d Z hka
    obtain ⟨q1_0, q1_1, q1_2, q1_3, q1_4, q1_5, q1_6, q1_7, q1_8, q1_9, q1_10, q1_11, q1_12, q1_13, q1_14, q1_15, q1_16, q1_17⟩ := u
    refine br_f (nI_ge (b := 60) (by omega) (by decide)) (br_f (by decide) (zc_first X Z w2 (fun hno u1 X1 => ?_) (fun c hc2 u1 X1 => ?_)))
    · obtain ⟨q2_0, q2_1, q2_2, q2_3, q2_4, q2_5, q2_6, q2_7, q2_8, q2_9, q2_10, q2_11, q2_12, q2_13, q2_14, q2_15, q2_16, q2_17⟩ := u1
      have a1 : a ≠ 1 := by
        cases dd with
        | zero => have : a = f := h1; omega
        | succ dd => exact h2 0 (by omega)
      have rkne : pt a ≠ a := fun z => by
        obtain ⟨rk, hrk⟩ := Z.1.2.2.2.2.2
        have := hrk a (by omega) hka
        rw [z] at this; omega
      refine br_t (by decide) (zc_thr_p X1 Z hka (fun u2 X2 => ?_))
      obtain ⟨q3_0, q3_1, q3_2, q3_3, q3_4, q3_5, q3_6, q3_7, q3_8, q3_9, q3_10, q3_11, q3_12, q3_13, q3_14, q3_15, q3_16, q3_17⟩ := u2
      refine zc_erase X2 Z (by omega) hka hno (fun M2 R2 fr2 bu2 u3 X3 Z3 => ?_)
      have ex1 : nI (cnt - cnt') + 1 = nI (cnt - (cnt' - 1)) := by rw [nI_1, show cnt - cnt' + 1 = cnt - (cnt' - 1) from by omega]
      have hkd2 : ∀ j, zt_u kd' a 0 j = kd j ∨ (zt_u kd' a 0 j = 0 ∧ zc_sub pt f j) := fun j => by
        by_cases c : j = a
        · right; rw [c, zt_us]; exact ⟨rfl, dd, h1, h2⟩
        · rw [zt_un c]; exact hkd j
      by_cases ef : a = f
      · obtain ⟨q4_0, q4_1, q4_2, q4_3, q4_4, q4_5, q4_6, q4_7, q4_8, q4_9, q4_10, q4_11, q4_12, q4_13, q4_14, q4_15, q4_16, q4_17⟩ := u3
        refine nm_r ex1 (br_t (by rw [ef]) ?_)
        unfold wX_removeAll_96 wpX_threadParent
        refine nm_e ?_
        obtain ⟨m, rfl⟩ : ∃ k, m = k + 1 := ⟨m - 1, by omega⟩
        have fin := hp M2 R2 (cnt' - 1) fr2 (zt_u kd' a 0) bu2 _ X3 Z3 (fun j hj => ?_) (fun j hj => ?_) (by omega)
        · exact br_c (fun _ => fin) (fun _ => br_t rfl fin)
        · by_cases c : j = a
          · rw [c, zt_us]
          · rw [zt_un c]
            by_cases z : kd' j = 0
            · exact z
            · obtain ⟨n, n1, n2⟩ := hj
              obtain ⟨c2, hc2⟩ := zc_below Z n j n1 n2 (by rw [← ef]; exact c) z
              rw [← ef] at hc2
              exact absurd (hno c2 hc2) (fun z => z)
        · rcases hkd2 j with q | q
          · exact q
          · exact absurd q.2 hj
      · have ⟨u1', u2', u3'⟩ := zc_up Z hka a1
        obtain ⟨dd', hdd⟩ : ∃ k, dd = k + 1 := by
          cases dd with
          | zero => exact absurd h1 ef
          | succ dd => exact ⟨dd, rfl⟩
        rw [hdd] at h1 h2
        have go := ih M2 R2 (cnt' - 1) fr2 (zt_u kd' a 0) bu2 u3 (pt a) dd' (s + 1) m (by omega) X3 Z3 hkd2 (by rw [zt_un (Ne.symm ef)]; exact hkf) (by rw [zt_un rkne]; omega) h1 (fun m hm => h2 (m + 1) (by omega)) (by omega) (by omega) (by omega)
        obtain ⟨q4_0, q4_1, q4_2, q4_3, q4_4, q4_5, q4_6, q4_7, q4_8, q4_9, q4_10, q4_11, q4_12, q4_13, q4_14, q4_15, q4_16, q4_17⟩ := u3
        refine nm_r ex1 (br_f (fun z => ef ((nI_eq (by omega) (by omega)).mp z)) ?_)
        unfold wX_removeAll_96 wpX_threadParent
        rw [zb_par d4, d1]
        exact nm_r (nI_1 s) go
    · have cw := zc_61 Z hc2.2.1
      have go := ih M' R' cnt' fr' kd' bu' u1 c (dd + 1) (s + 1) m (by omega) X1 Z hkd hkf hc2.2.1 (by show zc_it pt dd (pt c) = f; rw [hc2.2.2]; exact h1) (fun m hm => by
        cases m with
        | zero => show c ≠ 1; have := hc2.1; omega
        | succ m => show zc_it pt m (pt c) ≠ 1; rw [hc2.2.2]; exact h2 m (by omega)) hc (by omega) (by omega)
      obtain ⟨q2_0, q2_1, q2_2, q2_3, q2_4, q2_5, q2_6, q2_7, q2_8, q2_9, q2_10, q2_11, q2_12, q2_13, q2_14, q2_15, q2_16, q2_17⟩ := u1
      exact br_f (nI_pos (by omega)) (nm_r (nI_1 s) go)
/-- Y: the marks -/
def zy_mk (kd pt : Nat → Nat) (f : Nat) (mk : Nat → Int32) (i : Nat) : Prop := ∀ j, 2 ≤ j → j < i → (mk j = 1 ∧ kd j ≠ 0 ∧ zc_sub pt f j) ∨ (mk j = 0 ∧ ¬ (kd j ≠ 0 ∧ zc_sub pt f j))
theorem zy_mk_s {f i : Nat} {mk : Nat → Int32} {v : Int32} (h : zy_mk kd pt f mk i) (hv : (v = 1 ∧ kd i ≠ 0 ∧ zc_sub pt f i) ∨ (v = 0 ∧ ¬ (kd i ≠ 0 ∧ zc_sub pt f i))) : zy_mk kd pt f (upd mk i v) (i + 1) := by
  intro j j2 ji
  by_cases c : j = i
  · rw [c, pk_us]; exact hv
  · rw [pk_un c]; exact h j j2 (by omega)
theorem zy_ra14 (Z : zc_Z M R nx cnt fr kd pt nm ex fi le bu) {f : Nat} (hf1 : f ≠ 1) (hf : f < 2 ^ 31) {post : Int32 → SY → Prop} (hp : ∀ mk, zy_mk kd pt f mk 62 → ∃ n, wY_removeAll_60 post (nI nx) n 0 2 (zn kd) (zn pt) (zn nm) (zn ex) (zn fi) (zn le) mk tn) :
    ∀ d i m mk, i + d = 62 → 2 ≤ i → d < m → zy_mk kd pt f mk i → wY_removeAll_14 post (nI f) (nI nx) m (nI i) (zn kd) (zn pt) (zn nm) (zn ex) (zn fi) (zn le) mk tn := by
  intro d
  induction d with
  | zero =>
    intro i m mk hi h2 hm hk
    obtain ⟨m, rfl⟩ : ∃ k, m = k + 1 := ⟨m - 1, by omega⟩
    obtain rfl : i = 62 := by omega
    exact br_t (nI_le (a := 62) (by omega) (by omega)) (hp mk hk)
  | succ d ih =>
    intro i m mk hi h2 hm hk
    obtain ⟨m, rfl⟩ : ∃ k, m = k + 1 := ⟨m - 1, by omega⟩
    have cl := zy_kd (kd := kd) (i := i) (by omega)
    have k2 := zc_kd2 Z i
    have hin : i < 62 := by omega
    refine br_f (nI_ge (b := 62) (by omega) (by decide)) (zs_i rfl hin (by decide) ?_)
    rw [cl]
    by_cases c : kd i = 0
    · exact br_t (by rw [c]; rfl) (zs_w (v' := 0) rfl hin (by decide) rfl (nm_r (nI_1 i) (ih (i + 1) m _ (by omega) (by omega) (by omega) (zy_mk_s hk (Or.inr ⟨rfl, fun z => z.1 c⟩)))))
    · refine br_f (nI_ne0 (by omega) (by omega)) (zy_within Z hf1 hf c (fun hs => ?_) (fun hs => ?_))
      · exact br_f (by decide) (zs_w (v' := 1) rfl hin (by decide) rfl (nm_r (nI_1 i) (ih (i + 1) m _ (by omega) (by omega) (by omega) (zy_mk_s hk (Or.inl ⟨rfl, c, hs⟩)))))
      · exact br_t rfl (zs_w (v' := 0) rfl hin (by decide) rfl (nm_r (nI_1 i) (ih (i + 1) m _ (by omega) (by omega) (by omega) (zy_mk_s hk (Or.inr ⟨rfl, fun z => hs z.2⟩)))))
def zy_kw (kd : Nat → Nat) (mk : Nat → Int32) (i : Nat) : Nat → Nat := fun j => if (2 ≤ j ∧ j < i) ∧ mk j ≠ 0 then 0 else kd j
def zy_mc (mk : Nat → Int32) : Nat → Nat := fun j => if 2 ≤ j ∧ mk j ≠ 0 then 1 else 0
theorem zy_kw_1 {kd : Nat → Nat} {mk : Nat → Int32} {i : Nat} (h2 : 2 ≤ i) (h : mk i ≠ 0) : zt_u (zy_kw kd mk i) i 0 = zy_kw kd mk (i + 1) := by
  funext j
  by_cases c : j = i
  · rw [c, zt_us]; exact (if_pos ⟨⟨h2, by omega⟩, h⟩).symm
  · rw [zt_un c]
    unfold zy_kw
    by_cases d : (2 ≤ j ∧ j < i) ∧ mk j ≠ 0
    · rw [if_pos d, if_pos ⟨⟨d.1.1, by omega⟩, d.2⟩]
    · rw [if_neg d, if_neg (fun z => d ⟨⟨z.1.1, by omega⟩, z.2⟩)]
theorem zy_kw_0 {kd : Nat → Nat} {mk : Nat → Int32} {i : Nat} (h : mk i = 0) : zy_kw kd mk i = zy_kw kd mk (i + 1) := by
  funext j
  unfold zy_kw
  by_cases d : (2 ≤ j ∧ j < i) ∧ mk j ≠ 0
  · rw [if_pos d, if_pos ⟨⟨d.1.1, by omega⟩, d.2⟩]
  · rw [if_neg d, if_neg (fun z => by
      by_cases c : j = i
      · rw [c] at z; exact z.2 h
      · exact d ⟨⟨z.1.1, by omega⟩, z.2⟩)]
theorem zy_ra60 {post : Int32 → SY → Prop} (hp : post (nI (zt_sm (zy_mc mk) 62)) (nI nx, zn (zy_kw kd mk 62), zn pt, zn nm, zn ex, zn fi, zn le, mk, tn)) :
    ∀ d i m, i + d = 62 → 2 ≤ i → d < m → wY_removeAll_60 post (nI nx) m (nI (zt_sm (zy_mc mk) i)) (nI i) (zn (zy_kw kd mk i)) (zn pt) (zn nm) (zn ex) (zn fi) (zn le) mk tn := by
  intro d
  induction d with
  | zero =>
    intro i m hi h2 hm
    obtain ⟨m, rfl⟩ : ∃ k, m = k + 1 := ⟨m - 1, by omega⟩
    obtain rfl : i = 62 := by omega
    exact br_t (nI_le (a := 62) (by omega) (by omega)) hp
  | succ d ih =>
    intro i m hi h2 hm
    obtain ⟨m, rfl⟩ : ∃ k, m = k + 1 := ⟨m - 1, by omega⟩
    have go := ih (i + 1) m (by omega) (by omega) (by omega)
    have e : zt_sm (zy_mc mk) (i + 1) = zt_sm (zy_mc mk) i + zy_mc mk i := rfl
    have cm : mk (nI i).toNatClampNeg = mk i := by rw [nI_clamp (by omega)]
    have hin : i < 62 := by omega
    refine br_f (nI_ge (b := 62) (by omega) (by decide)) (zs_i rfl hin (by decide) ?_)
    rw [cm]
    by_cases c : mk i = 0
    · have z : zy_mc mk i = 0 := if_neg (fun z => z.2 c)
      rw [e, z, Nat.add_zero, ← zy_kw_0 c] at go
      exact br_t c (nm_r (nI_1 i) go)
    · have z : zy_mc mk i = 1 := if_pos ⟨h2, c⟩
      rw [e, z, ← zy_kw_1 h2 c] at go
      exact br_f c (zs_w' rfl hin (by decide) zn_u0 (nm_r (nI_1 _) (nm_r (nI_1 i) go)))
theorem zy_ra (Z : zc_Z M R nx cnt fr kd pt nm ex fi le bu) {f : Nat} (hf1 : f ≠ 1) (hf : f < 2 ^ 31) {post : Int32 → SY → Prop} (hp : ∀ mk, zy_mk kd pt f mk 62 → post (nI (zt_sm (zy_mc mk) 62)) (nI nx, zn (zy_kw kd mk 62), zn pt, zn nm, zn ex, zn fi, zn le, mk, tn)) : ∃ n, wY_removeAll_14 post (nI f) (nI nx) n 2 (zn kd) (zn pt) (zn nm) (zn ex) (zn fi) (zn le) mk tn := by
  refine ⟨61, zy_ra14 Z hf1 hf (fun mk hk => ?_) 60 2 61 mk (by omega) (by omega) (by omega) (fun j a b => by omega)⟩
  have h := zy_ra60 (post := post) (nx := nx) (kd := kd) (pt := pt) (nm := nm) (ex := ex) (fi := fi) (le := le) (tn := tn) (hp mk hk) 60 2 61 (by omega) (by omega) (by omega)
  have e1 : zy_kw kd mk 2 = kd := by
    funext j
    exact if_neg (fun z => by omega)
  have e2 : zt_sm (zy_mc mk) 2 = 0 := by
    show 0 + (if 2 ≤ 0 ∧ mk 0 ≠ 0 then 1 else 0) + (if 2 ≤ 1 ∧ mk 1 ≠ 0 then 1 else 0) = 0
    rw [if_neg (fun z => by omega), if_neg (fun z => by omega)]
  rw [e1, e2] at h
  exact ⟨61, h⟩
/-- the two ends are one -/
theorem zc_ra_eq (Z : zc_Z M R nx cnt fr kd pt nm ex fi le bu) {f : Nat} (hf1 : f ≠ 1) {kd' : Nat → Nat} {mk : Nat → Int32} (hs : ∀ j, zc_sub pt f j → kd' j = 0) (hn : ∀ j, ¬ zc_sub pt f j → kd' j = kd j) (hk : zy_mk kd pt f mk 62) : zy_kw kd mk 62 = kd' ∧ zc_cn kd' + zt_sm (zy_mc mk) 62 = zc_cn kd := by
  have k3 := Z.1.2.2.1
  have zero : ∀ j, kd j = 0 → kd' j = 0 := fun j hj => by
    by_cases c : zc_sub pt f j
    · exact hs j c
    · rw [hn j c]; exact hj
  constructor
  · funext j
    unfold zy_kw
    by_cases c : 2 ≤ j ∧ j < 62
    · rcases hk j c.1 c.2 with ⟨a, b, d⟩ | ⟨a, b⟩
      · rw [if_pos ⟨c, by rw [a]; decide⟩, hs j d]
      · rw [if_neg (fun z => z.2 a)]
        by_cases q : kd j = 0
        · rw [zero j q, q]
        · exact (hn j (fun z => b ⟨q, z⟩)).symm
    · rw [if_neg (fun z => c z.1)]
      by_cases q : kd j = 0
      · rw [zero j q, q]
      · have w := zc_61 Z q
        have j1 : j = 1 := by omega
        rw [j1]
        exact (hn 1 (zc_sub_1 hf1)).symm
  · unfold zc_cn
    rw [← zt_sm_a]
    refine zt_sm_c (fun j hj => ?_)
    show (if 2 ≤ j ∧ kd' j ≠ 0 then 1 else 0) + (if 2 ≤ j ∧ mk j ≠ 0 then 1 else 0) = (if 2 ≤ j ∧ kd j ≠ 0 then 1 else 0)
    by_cases c : 2 ≤ j
    · rcases hk j c hj with ⟨a, b, d⟩ | ⟨a, b⟩
      · rw [if_neg (fun z => z.2 (hs j d)), if_pos ⟨c, by rw [a]; decide⟩, if_pos ⟨c, b⟩]
      · rw [if_neg (c := 2 ≤ j ∧ mk j ≠ 0) (fun z => z.2 a)]
        by_cases q : kd j = 0
        · rw [if_neg (fun z => z.2 (zero j q)), if_neg (fun z => z.2 q)]
        · have e := hn j (fun z => b ⟨q, z⟩)
          rw [if_pos ⟨c, by rw [e]; exact q⟩, if_pos ⟨c, q⟩]
    · rw [if_neg (fun z => c z.1), if_neg (fun z => c z.1), if_neg (fun z => c z.1)]
end
theorem i_vc_removeAll {k : Nat} {u : SX} {v : SY} (I : i_Rel k u v) (hk : k + 4 ≤ 2048) (v1 : Int32) : wpX_removeAll (fun r u' => wpY_removeAll (fun r' v' => r' = r ∧ i_Rel (k + 4) u' v') v v1) u v1 := by
  obtain ⟨M, R, nx, cnt, fr, kd, pt, nm, ex, fi, le, bu, mk, tn, X, rfl, Z⟩ := I
  obtain ⟨q1_0, q1_1, q1_2, q1_3, q1_4, q1_5, q1_6, q1_7, q1_8, q1_9, q1_10, q1_11, q1_12, q1_13, q1_14, q1_15, q1_16, q1_17⟩ := u
  unfold wpX_removeAll
  rcases zc_item X Z v1 with ⟨hx, hy⟩ | ⟨i, rfl, h, hx, hy⟩
  · refine hx _ (fun u' X' => ?_)
    obtain ⟨q2_0, q2_1, q2_2, q2_3, q2_4, q2_5, q2_6, q2_7, q2_8, q2_9, q2_10, q2_11, q2_12, q2_13, q2_14, q2_15, q2_16, q2_17⟩ := u'
    refine br_f zb_neg ?_
    unfold wpY_removeAll
    unfold wpY_refuseItem
    exact hy _ (br_f (by decide) (br_f (by decide) ⟨rfl, zc_mk X' Z⟩))
  · have ⟨a, b, c⟩ := zc_61 Z h
    refine hx _ (fun u' X' => ?_)
    by_cases e : i = 1
    · obtain ⟨q2_0, q2_1, q2_2, q2_3, q2_4, q2_5, q2_6, q2_7, q2_8, q2_9, q2_10, q2_11, q2_12, q2_13, q2_14, q2_15, q2_16, q2_17⟩ := u'
      refine br_t (zc_thd0 Z h) ?_
      have e1 : nI i = 1 := by rw [e]; rfl
      refine br_t e1 ?_
      unfold wpY_removeAll
      unfold wpY_refuseItem
      exact hy _ (br_t rfl (br_t e1 (br_f (by decide) ⟨rfl, zc_mk X' Z⟩)))
    · have e1 : ¬ nI i = 1 := fun z => e ((nI_eq (b := 1) (by omega) (by omega)).mp z)
      have ⟨c1, c2, c3⟩ := Z.2.2.2.2
      have go := zx_ra_l (kd := kd) (cnt := cnt) (f := i) (post := fun r u' => wpY_removeAll (fun r' v' => r' = r ∧ i_Rel (k + 4) u' v') (nI nx, zn kd, zn pt, zn nm, zn ex, zn fi, zn le, mk, tn) (nI i)) (by omega) c2 (fun M' R' cnt' fr' kd' bu' u3 X3 Z3 hs hn hc => by
        unfold wpY_removeAll
        unfold wpY_refuseItem
        refine hy _ (br_t rfl (br_f e1 (br_t (by decide) (zy_ra Z (by omega) (by omega) (fun mk' hm => ?_)))))
        have ⟨q1, q2⟩ := zc_ra_eq Z (by omega) hs hn hm
        have c1' := Z3.2.2.2.2.1
        rw [q1]
        exact ⟨congrArg nI (by omega), zc_mk X3 Z3⟩) (2 * cnt) M R cnt fr kd bu u' i 0 0 (2 * cnt + 1) (by omega) X' Z (fun j => Or.inl rfl) h h rfl (fun m hm => by omega) (by omega) (by omega) (by omega)
      obtain ⟨q2_0, q2_1, q2_2, q2_3, q2_4, q2_5, q2_6, q2_7, q2_8, q2_9, q2_10, q2_11, q2_12, q2_13, q2_14, q2_15, q2_16, q2_17⟩ := u'
      refine br_t (zc_thd0 Z h) (br_f e1 (Exists.intro (2 * cnt + 1) ?_))
      rw [show cnt - cnt = 0 from by omega] at go
      exact go
end
section
/-! the beginning -/
def zi_0 : Nat → Nat := fun _ => 0
def zi_T : Nat → Nat := zt_u (zt_u zi_0 0 1) 1 1
def zi_S : Nat → Nat := zt_u (zt_u zi_0 0 0) 1 0
def zi_R : Nat → Nat := zt_u (zt_u zi_0 0 0) 1 1
def zi_A : Nat → Nat := zt_u (zt_u (fun _ => 1) 0 0) 1 0
def zi_t : Nat → Nat := zt_u zi_0 1 1
theorem zi_z : (fun _ => 0 : Nat → Int32) = zn zi_0 := rfl
theorem zi_a : (fun _ => 0 : Nat → Int32) = za (fun _ => 1) := by
  funext j
  show (0 : Int32) = nI 1 - 1
  decide
theorem zi_Tx {x : Nat} (h : zi_T x = 1) : x = 0 ∨ x = 1 := by
  by_cases a : x = 1
  · exact Or.inr a
  · by_cases b : x = 0
    · exact Or.inl b
    · exfalso
      unfold zi_T at h
      rw [zt_un a, zt_un b] at h
      exact absurd h (by show ¬ 0 = 1; omega)
theorem zi_S0 (x : Nat) : zi_S x = 0 := by
  unfold zi_S
  by_cases a : x = 1
  · rw [a, zt_us]
  · rw [zt_un a]
    by_cases b : x = 0
    · rw [b, zt_us]
    · rw [zt_un b]; rfl
theorem zi_N : zx_N zi_R zi_T zi_T zi_S zi_0 zi_0 zi_A zi_0 zi_t zi_0 (fun _ => 40000) (fun _ => 0) (fun _ _ => none) 0 80 80 := by
  have t0 : zi_T 0 = 1 := rfl
  have t1 : zi_T 1 = 1 := rfl
  refine zx_mk ?_ ?_ ?_ ?_ ?_ ?_ ?_ ?_
  · refine And.intro ?_ (And.intro ?_ (And.intro ?_ ?_))
    · intro x hx
      rcases zi_Tx hx with c | c <;> rw [c] <;> decide
    · intro t ht
      have c : t = 0 ∨ t = 1 := by omega
      rcases c with c | c <;> rw [c] <;> decide
    · intro x i hx hl
      exact absurd hl (by show ¬ 0 < 0; omega)
    · intro x y hx hy ht _ _ _
      rcases zi_Tx hx with c | c <;> rcases zi_Tx hy with d | d <;> rw [c, d] at ht ⊢
      · exact absurd ht (by decide)
      · exact absurd ht (by decide)
  · intro x hx hl
    refine And.intro (fun i hi => ?_) (And.intro (fun i j _ hj => ?_) (fun k _ _ hM => absurd rfl hM))
    · rw [zi_S0] at hi; omega
    · rw [zi_S0] at hj; omega
  · intro x hx hl
    refine ⟨fun _ => ?_, fun h => absurd rfl h⟩
    rcases zi_Tx hx with c | c <;> rw [c] <;> rfl
  · refine And.intro (fun W => ?_) ?_
    · have z : zt_sm (zt_gi zi_T zi_0 zi_S W) 80 = 0 := zt_sm_z (fun x _ => by
        by_cases h : zi_T x = 1
        · exact zt_gi_l h rfl
        · exact zt_gi_n h)
      have s := zt_sm_2 (g := fun _ => 0) (g' := zt_ga zi_T zi_0 W) (a := 0) (b := 1) (n := 80) (by omega) (by omega) (by omega) (fun x _ a b => zt_ga_n (fun h => by rcases zi_Tx h with c | c <;> omega))
      rw [zt_ga_t t0, zt_ga_t t1, zt_sm_z (g := fun _ => 0) (fun _ _ => rfl)] at s
      rw [z]
      show 0 + W (0 + 1) + W (0 + 1) = _
      have e : W (zi_0 0 + 1) = W (0 + 1) := rfl
      have e' : W (zi_0 1 + 1) = W (0 + 1) := rfl
      rw [e, e'] at s
      omega
    · exact zt_sm_z (fun x _ => by
        by_cases h : zi_T x = 1
        · rw [zt_gl_l h rfl, zi_S0]
        · exact zt_gl_n h)
  · intro x hx
    rcases zi_Tx hx with c | c <;> rw [c] <;> decide
  · intro x hx
    refine ⟨fun h => ?_, fun _ h => absurd h (by show ¬ 0 < 0; omega)⟩
    exfalso
    apply h
    rcases zi_Tx hx with c | c <;> rw [c] <;> rfl
  · intro x hx
    rw [zi_S0]; omega
  · intro j
    unfold zi_T
    by_cases a : j = 1
    · rw [a, zt_us]; omega
    · rw [zt_un a]
      by_cases b : j = 0
      · rw [b, zt_us]; omega
      · rw [zt_un b]; exact Nat.zero_le _
theorem zi_Z : zc_Z (zt_mu (fun _ _ => none) 0 512 (some 1)) 1 2 0 96 (zt_u zi_0 1 2) zi_0 zi_0 zi_0 zi_0 zi_0 zi_0 := by
  have one : ∀ i, zt_u zi_0 1 2 i ≠ 0 → i = 1 := fun i h => by
    by_cases c : i = 1
    · exact c
    · rw [zt_un c] at h; exact absurd rfl h
  have nof : ∀ i, zt_u zi_0 1 2 i ≠ 1 := fun i h => by
    by_cases c : i = 1
    · rw [c, zt_us] at h; omega
    · rw [zt_un c] at h; exact absurd h (by show ¬ 0 = 1; omega)
  refine And.intro ?_ (And.intro ?_ (And.intro ?_ (And.intro ?_ ?_)))
  · refine And.intro ⟨by omega, by omega⟩ (And.intro ⟨zt_us, rfl, rfl⟩ (And.intro (fun i h => ?_) (And.intro (fun i h2 h => ?_) (And.intro (fun i j h2 _ h => ?_) ⟨zi_0, fun i h2 h => ?_⟩))))
    · rw [one i h, zt_us]; omega
    · have := one i h; omega
    · have := one i h; omega
    · have := one i h; omega
  · refine And.intro (fun i _ => rfl) (And.intro (fun i h => absurd h (nof i)) (And.intro (fun i k h => absurd h.1 (nof i)) (And.intro (fun b => Nat.zero_le _) (And.intro (fun b _ => ⟨fun h => ?_, fun ⟨i, k, h, _⟩ => absurd h.1 (nof i)⟩) (And.intro (fun i k _ _ _ h => absurd h.1 (nof i)) (And.intro ?_ ?_))))))
    · exact absurd h (by show ¬ 0 = 1; omega)
    · show 96 = zt_sm (fun b => 1 - 0) 96
      decide
    · have z : zt_sm (zc_tot (zt_u zi_0 1 2) zi_0 zi_0) 62 = 0 := zt_sm_z (fun i _ => if_neg (nof i))
      rw [z]
  · intro k v
    have th : zc_thd (zt_u zi_0 1 2) zi_0 zi_0 1 = 1 := by
      unfold zc_thd
      rw [zt_us]; rfl
    by_cases c : k = 512
    · rw [c, zt_mu_s]
      constructor
      · intro h
        refine Or.inl ⟨1, by rw [zt_us]; omega, by omega, ?_⟩
        rw [th, ← Option.some.inj h]; rfl
      · intro h
        rcases h with ⟨i, a1, a2, a3⟩ | ⟨i, a0, a1, a2, a3⟩
        · rw [one i a1, th] at a3
          rw [a3]; rfl
        · have := one i a1; omega
    · rw [zt_mu_n (Or.inr c)]
      constructor
      · intro h; exact nomatch h
      · intro h
        rcases h with ⟨i, a1, a2, a3⟩ | ⟨i, a0, a1, a2, a3⟩
        · have := one i a1; omega
        · have := one i a1; omega
  · intro k v
    rw [zt_mu_n (Or.inl (by omega))]
    constructor
    · intro h; exact nomatch h
    · intro ⟨i, j, a1, _⟩
      exact absurd a1 (nof i)
  · refine ⟨?_, by omega, ?_⟩
    · exact (zt_sm_z (fun i _ => if_neg (fun z => by have := one i z.2; omega))).symm
    · show 1 = 2 * 0 + 1 + zc_ov _ _
      have : zc_ov (zt_u zi_0 1 2) zi_0 = 0 := zt_sm_z (fun i _ => if_neg (nof i))
      rw [this]
theorem i_vc0 : wpX_init (fun u => wpY_init (fun v => i_Rel 0 u v)) := by
  unfold wpX_init
  refine zw_take (n := 0) (by omega) (fun j hj => by omega) rfl ?_
  refine nm_e ?_
  refine zw_take (n := 1) (by omega) (fun j hj => ?_) rfl ?_
  · obtain rfl : j = 0 := by omega
    rw [pk_us]; decide
  · refine nm_e ?_
    unfold wpX_threadKey
    have e : (512 : Int32) * 1 = nI 512 := by decide
    have X : zx_X (fun _ _ => none) 0 (nI (2 - 2)) (nI 0) (nI 96) (zn zi_0) (0, 0, 0, 0, 0, 0, 96, zn zi_R, zn zi_T, zn zi_T, zn zi_S, zn zi_0, (fun _ => 0), zn zi_0, za zi_A, (fun _ => 0), (fun _ => 0), (fun _ => 0)) := zx_Xi zi_N
    have a1 : upd (upd (fun _ => 0) 0 (nI 0)) 1 (nI 1) = zn zi_R := by rw [zi_z, zn_u, zn_u]; rfl
    have a2 : upd (upd (fun _ => 0) 0 1) 1 1 = zn zi_T := by rw [zi_z, zn_u1, zn_u1]; rfl
    have a3 : upd (upd (fun _ => 0) 0 0) 1 0 = zn zi_S := by rw [zi_z, zn_u0, zn_u0]; rfl
    have a4 : upd (upd (fun _ => 0) 0 (-1)) 1 (-1) = za zi_A := by rw [zi_a, za_um, za_um]; rfl
    have X2 : zx_X (fun _ _ => none) 0 (nI (2 - 2)) (nI 0) (nI 96) (zn zi_0) (0, 0, 0, 0, 0, 0, 96, upd (upd (fun _ => 0) 0 (nI 0)) 1 (nI 1), upd (upd (fun _ => 0) 0 1) 1 1, upd (upd (fun _ => 0) 0 1) 1 1, upd (upd (fun _ => 0) 0 0) 1 0, (fun _ => 0), (fun _ => 0), (fun _ => 0), upd (upd (fun _ => 0) 0 (-1)) 1 (-1), (fun _ => 0), (fun _ => 0), (fun _ => 0)) := by
      rw [a1, a2, a3, a4]; exact X
    refine zc_putk X2 (t := 0) (k := 512) (v := 1) (vx := 1) e rfl (by omega) (by omega) (by omega) (fun _ u X' => ?_) (fun h => absurd rfl h)
    obtain ⟨q1_0, q1_1, q1_2, q1_3, q1_4, q1_5, q1_6, q1_7, q1_8, q1_9, q1_10, q1_11, q1_12, q1_13, q1_14, q1_15, q1_16, q1_17⟩ := u
    have a5 : upd (fun _ => 0) 1 2 = zn (zt_u zi_0 1 2) := by rw [zi_z, zn_u2]
    exact nm_r a5 (zc_mk (mk := fun _ => 0) (tn := fun _ => 0) X' zi_Z)
end
